section
-- PART A of the skeleton: the tables' words
/-- a private method of a made kind, by its rows of tables_1 -/
def lw_okq (q : MethodName × Nat) : Prop := (q.1.cls ≠ "java/lang/invoke/MethodHandle" ∧ q.1.cls ≠ "java/lang/invoke/VarHandle") ∧ Cond.instantiable q.1.cls q.2 ∈ tables_1 ∧ Cond.privateMethod q.1 ∈ tables_1 ∧ Cond.instanceMethod q.1 ∈ tables_1
theorem lw_p0 : lw_okq (⟨"WorkTree$Chain", "median", "(I)I"⟩, 9) := ⟨⟨by decide +kernel, by decide +kernel⟩, List.mem_of_getElem? (i := 14) (by decide +kernel), List.mem_of_getElem? (i := 70) (by decide +kernel), List.mem_of_getElem? (i := 71) (by decide +kernel)⟩
theorem lw_p1 : lw_okq (⟨"WorkTreeModel", "is", "(I)Z"⟩, 9) := ⟨⟨by decide +kernel, by decide +kernel⟩, List.mem_of_getElem? (i := 154) (by decide +kernel), List.mem_of_getElem? (i := 193) (by decide +kernel), List.mem_of_getElem? (i := 194) (by decide +kernel)⟩
theorem lw_p2 : lw_okq (⟨"WorkTreeModel", "wrong", "(I)Z"⟩, 9) := ⟨⟨by decide +kernel, by decide +kernel⟩, List.mem_of_getElem? (i := 154) (by decide +kernel), List.mem_of_getElem? (i := 219) (by decide +kernel), List.mem_of_getElem? (i := 220) (by decide +kernel)⟩
def lw_privs_1 : List (MethodName × Nat) := [(⟨"WorkTree$Chain", "median", "(I)I"⟩, 9), (⟨"WorkTreeModel", "is", "(I)Z"⟩, 9), (⟨"WorkTreeModel", "wrong", "(I)Z"⟩, 9)]
theorem lw_r1 : ∀ q ∈ lw_privs_1, lw_okq q := List.forall_mem_cons.mpr ⟨lw_p0, List.forall_mem_cons.mpr ⟨lw_p1, List.forall_mem_cons.mpr ⟨lw_p2, fun _ h => absurd h List.not_mem_nil⟩⟩⟩
def lw_privs : List (MethodName × Nat) := lw_privs_1
def lw_tbl : List Cond := k2_sels lw_privs ++ tables_1
theorem lw_privs_ok : ∀ q ∈ lw_privs, lw_okq q := lw_r1
/-- all good words of the tables: the one word list of every method here -/
def wt_ws : List Cond := lw_tbl.filter goodWord
theorem k_mem (i : Nat) {w : Cond} (h : tables_1[i]? = some w) (hg : goodWord w = true) : w ∈ wt_ws := List.mem_filter.mpr ⟨List.mem_append_right _ (List.mem_of_getElem? h), hg⟩
theorem k_sel (i : Nat) {w : Cond} (h : (k2_sels lw_privs)[i]? = some w) (hg : goodWord w = true) : w ∈ wt_ws := List.mem_filter.mpr ⟨List.mem_append_left _ (List.mem_of_getElem? h), hg⟩
theorem wt_goodIn {Ts : List Cond} (h : ∀ w ∈ wt_ws, w ∈ Ts) (w : Cond) (hw : w ∈ wt_ws) : w ∈ Ts ∧ ((w.onTables && w.keeps) = true ∨ ∃ ty, w = .arrayClass ty) := ⟨h w hw, good_of_word (List.mem_filter.mp hw).2⟩
def R_T : String := "WorkTree"
def R_C : String := "WorkTree$Chain"
def R_M : String := "WorkTreeModel"
def R_L : String := "WorkTreeLaw"
def F_T : u_T := fun k => match k with
  | _ => (R_T, "chain", "LWorkTree$Chain;", true)
def ft_T : Nat → FieldType := fun k => match k with
  | _ => .object "WorkTree$Chain"
def F_C : u_T := fun k => match k with
  | 0 => (R_C, "blocks", "I", false)
  | 1 => (R_C, "parent", "[I", true)
  | 2 => (R_C, "height", "[I", true)
  | 3 => (R_C, "time", "[I", true)
  | 4 => (R_C, "target", "[I", true)
  | 5 => (R_C, "arrival", "[I", true)
  | 6 => (R_C, "work", "[J", true)
  | 7 => (R_C, "wrong", "[Z", true)
  | _ => (R_C, "times", "[I", true)
def ft_C : Nat → FieldType := fun k => match k with
  | 0 => .int
  | 1 => .array .int
  | 2 => .array .int
  | 3 => .array .int
  | 4 => .array .int
  | 5 => .array .int
  | 6 => .array .long
  | 7 => .array .boolean
  | _ => .array .int
def F_M : u_T := fun k => match k with
  | 0 => (R_M, "parent", "[I", true)
  | 1 => (R_M, "height", "[I", true)
  | 2 => (R_M, "time", "[I", true)
  | 3 => (R_M, "target", "[I", true)
  | 4 => (R_M, "work", "[J", true)
  | 5 => (R_M, "arrival", "[I", true)
  | 6 => (R_M, "refused", "[Z", true)
  | 7 => (R_M, "times", "[I", true)
  | _ => (R_M, "count", "I", false)
def ft_M : Nat → FieldType := fun k => match k with
  | 0 => .array .int
  | 1 => .array .int
  | 2 => .array .int
  | 3 => .array .int
  | 4 => .array .long
  | 5 => .array .int
  | 6 => .array .boolean
  | 7 => .array .int
  | _ => .int
abbrev classes : List vw_C := [(R_T, F_T, 1), (R_C, F_C, 9), (R_M, F_M, 9)]
theorem n_T : ∀ a, a < 1 → ∀ b, b < 1 → a ≠ b → (F_T a).2.1 ≠ (F_T b).2.1 := by decide +kernel
theorem ft_T_ok : ∀ k, k < 1 → parseFieldDescriptor (F_T k).2.2.1 = some (ft_T k) := by decide +kernel
theorem n_C : ∀ a, a < 9 → ∀ b, b < 9 → a ≠ b → (F_C a).2.1 ≠ (F_C b).2.1 := by decide +kernel
theorem ft_C_ok : ∀ k, k < 9 → parseFieldDescriptor (F_C k).2.2.1 = some (ft_C k) := by decide +kernel
theorem n_M : ∀ a, a < 9 → ∀ b, b < 9 → a ≠ b → (F_M a).2.1 ≠ (F_M b).2.1 := by decide +kernel
theorem ft_M_ok : ∀ k, k < 9 → parseFieldDescriptor (F_M k).2.2.1 = some (ft_M k) := by decide +kernel
abbrev b_T_init : ByteArray := prog_1_method_2_code
def y_T_init : MethodName := ⟨R_T, "<init>", "()V"⟩
abbrev b_C_init : ByteArray := prog_2_method_1_code
def y_C_init : MethodName := ⟨R_C, "<init>", "()V"⟩
abbrev b_T_add : ByteArray := prog_1_method_3_code
def y_T_add : MethodName := ⟨R_T, "add", "(III)I"⟩
abbrev b_T_in : ByteArray := prog_1_method_1_code
def y_T_in : MethodName := ⟨R_T, "in", "(III)Z"⟩
abbrev b_C_median : ByteArray := prog_2_method_3_code
def y_C_median : MethodName := ⟨R_C, "median", "(I)I"⟩
abbrev b_C_add : ByteArray := prog_2_method_5_code
def y_C_add : MethodName := ⟨R_C, "add", "(III)I"⟩
abbrev b_C_due : ByteArray := prog_2_method_4_code
def y_C_due : MethodName := ⟨R_C, "due", "(I)I"⟩
abbrev b_C_ancestor : ByteArray := prog_2_method_2_code
def y_C_ancestor : MethodName := ⟨R_C, "ancestor", "(II)I"⟩
abbrev b_T_refuse : ByteArray := prog_1_method_4_code
def y_T_refuse : MethodName := ⟨R_T, "refuse", "(I)I"⟩
abbrev b_C_refuse : ByteArray := prog_2_method_6_code
def y_C_refuse : MethodName := ⟨R_C, "refuse", "(I)V"⟩
abbrev b_C_best : ByteArray := prog_2_method_8_code
def y_C_best : MethodName := ⟨R_C, "best", "()I"⟩
abbrev b_C_isBetter : ByteArray := prog_2_method_7_code
def y_C_isBetter : MethodName := ⟨R_C, "isBetter", "(II)Z"⟩
abbrev b_T_best : ByteArray := prog_1_method_5_code
def y_T_best : MethodName := ⟨R_T, "best", "()I"⟩
abbrev b_T_fork : ByteArray := prog_1_method_6_code
def y_T_fork : MethodName := ⟨R_T, "fork", "(II)I"⟩
abbrev b_C_fork : ByteArray := prog_2_method_9_code
def y_C_fork : MethodName := ⟨R_C, "fork", "(II)I"⟩
abbrev b_T_due : ByteArray := prog_1_method_7_code
def y_T_due : MethodName := ⟨R_T, "due", "(I)I"⟩
abbrev b_T_median : ByteArray := prog_1_method_8_code
def y_T_median : MethodName := ⟨R_T, "median", "(I)I"⟩
abbrev b_T_ancestor : ByteArray := prog_1_method_9_code
def y_T_ancestor : MethodName := ⟨R_T, "ancestor", "(II)I"⟩
abbrev b_T_look : ByteArray := prog_1_method_10_code
def y_T_look : MethodName := ⟨R_T, "look", "(II)J"⟩
abbrev b_T_blocks : ByteArray := prog_1_method_11_code
def y_T_blocks : MethodName := ⟨R_T, "blocks", "()I"⟩
abbrev b_M_init : ByteArray := prog_4_method_1_code
def y_M_init : MethodName := ⟨R_M, "<init>", "()V"⟩
abbrev b_M_add : ByteArray := prog_4_method_3_code
def y_M_add : MethodName := ⟨R_M, "add", "(III)I"⟩
abbrev b_M_is : ByteArray := prog_4_method_2_code
def y_M_is : MethodName := ⟨R_M, "is", "(I)Z"⟩
abbrev b_M_median : ByteArray := prog_4_method_9_code
def y_M_median : MethodName := ⟨R_M, "median", "(I)I"⟩
abbrev b_M_due : ByteArray := prog_4_method_8_code
def y_M_due : MethodName := ⟨R_M, "due", "(I)I"⟩
abbrev b_M_ancestor : ByteArray := prog_4_method_10_code
def y_M_ancestor : MethodName := ⟨R_M, "ancestor", "(II)I"⟩
abbrev b_M_refuse : ByteArray := prog_4_method_5_code
def y_M_refuse : MethodName := ⟨R_M, "refuse", "(I)I"⟩
abbrev b_M_best : ByteArray := prog_4_method_6_code
def y_M_best : MethodName := ⟨R_M, "best", "()I"⟩
abbrev b_M_wrong : ByteArray := prog_4_method_4_code
def y_M_wrong : MethodName := ⟨R_M, "wrong", "(I)Z"⟩
abbrev b_M_fork : ByteArray := prog_4_method_7_code
def y_M_fork : MethodName := ⟨R_M, "fork", "(II)I"⟩
abbrev b_M_look : ByteArray := prog_4_method_11_code
def y_M_look : MethodName := ⟨R_M, "look", "(II)J"⟩
abbrev b_M_blocks : ByteArray := prog_4_method_12_code
def y_M_blocks : MethodName := ⟨R_M, "blocks", "()I"⟩
theorem k_0 : (.initialized R_L : Cond) ∈ wt_ws := k_mem 0 rfl rfl
theorem k_1 : (.initialized R_T : Cond) ∈ wt_ws := k_mem 1 rfl rfl
theorem k_2 : (.initialized R_C : Cond) ∈ wt_ws := k_mem 2 rfl rfl
theorem k_3 : (.initialized R_M : Cond) ∈ wt_ws := k_mem 3 rfl rfl
theorem k_4 : (.initialized "java/lang/Math" : Cond) ∈ wt_ws := k_mem 4 rfl rfl
theorem k_5 : (.classLink R_L 7 R_T : Cond) ∈ wt_ws := k_mem 5 rfl rfl
theorem k_6 : (.instantiable R_T 1 : Cond) ∈ wt_ws := k_mem 6 rfl rfl
theorem k_7 : (.methodLink R_L 9 y_T_init : Cond) ∈ wt_ws := k_mem 7 rfl rfl
theorem k_8 : (.instanceMethod y_T_init : Cond) ∈ wt_ws := k_mem 8 rfl rfl
theorem k_9 : (.code y_T_init b_T_init 1 none : Cond) ∈ wt_ws := k_mem 9 rfl rfl
theorem k_10 : (.methodLink R_T 1 Lib.objectInit : Cond) ∈ wt_ws := k_mem 10 rfl rfl
theorem k_11 : (.instanceMethod Lib.objectInit : Cond) ∈ wt_ws := k_mem 11 rfl rfl
theorem k_12 : (.code Lib.objectInit ⟨#[0xb1]⟩ 1 none : Cond) ∈ wt_ws := k_mem 12 rfl rfl
theorem k_13 : (.classLink R_T 7 R_C : Cond) ∈ wt_ws := k_mem 13 rfl rfl
theorem k_14 : (.instantiable R_C 9 : Cond) ∈ wt_ws := k_mem 14 rfl rfl
theorem k_15 : (.methodLink R_T 9 y_C_init : Cond) ∈ wt_ws := k_mem 15 rfl rfl
theorem k_16 : (.instanceMethod y_C_init : Cond) ∈ wt_ws := k_mem 16 rfl rfl
theorem k_17 : (.code y_C_init b_C_init 1 none : Cond) ∈ wt_ws := k_mem 17 rfl rfl
theorem k_18 : (.methodLink R_C 3 Lib.objectInit : Cond) ∈ wt_ws := k_mem 18 rfl rfl
theorem k_19 : (.constant R_C 42 (32768) : Cond) ∈ wt_ws := k_mem 19 rfl rfl
theorem k_20 : (.fieldLink R_C 9 R_C "blocks" "I" : Cond) ∈ wt_ws := k_mem 20 rfl rfl
theorem k_21 : (.fieldLink R_T 16 R_C "blocks" "I" : Cond) ∈ wt_ws := k_mem 21 rfl rfl
theorem k_22 : (.fieldLink R_C 15 R_C "parent" "[I" : Cond) ∈ wt_ws := k_mem 22 rfl rfl
theorem k_23 : (.fieldLink R_T 58 R_C "parent" "[I" : Cond) ∈ wt_ws := k_mem 23 rfl rfl
theorem k_24 : (.fieldLink R_C 19 R_C "height" "[I" : Cond) ∈ wt_ws := k_mem 24 rfl rfl
theorem k_25 : (.fieldLink R_T 47 R_C "height" "[I" : Cond) ∈ wt_ws := k_mem 25 rfl rfl
theorem k_26 : (.fieldLink R_C 22 R_C "time" "[I" : Cond) ∈ wt_ws := k_mem 26 rfl rfl
theorem k_27 : (.fieldLink R_T 61 R_C "time" "[I" : Cond) ∈ wt_ws := k_mem 27 rfl rfl
theorem k_28 : (.fieldLink R_C 25 R_C "target" "[I" : Cond) ∈ wt_ws := k_mem 28 rfl rfl
theorem k_29 : (.fieldLink R_T 64 R_C "target" "[I" : Cond) ∈ wt_ws := k_mem 29 rfl rfl
theorem k_30 : (.fieldLink R_C 28 R_C "arrival" "[I" : Cond) ∈ wt_ws := k_mem 30 rfl rfl
theorem k_31 : (.fieldLink R_C 31 R_C "work" "[J" : Cond) ∈ wt_ws := k_mem 31 rfl rfl
theorem k_32 : (.fieldLink R_T 67 R_C "work" "[J" : Cond) ∈ wt_ws := k_mem 32 rfl rfl
theorem k_33 : (.fieldLink R_C 35 R_C "wrong" "[Z" : Cond) ∈ wt_ws := k_mem 33 rfl rfl
theorem k_34 : (.fieldLink R_T 71 R_C "wrong" "[Z" : Cond) ∈ wt_ws := k_mem 34 rfl rfl
theorem k_35 : (.fieldLink R_C 39 R_C "times" "[I" : Cond) ∈ wt_ws := k_mem 35 rfl rfl
theorem k_55 : (.arrayClass .int : Cond) ∈ wt_ws := k_mem 55 rfl rfl
theorem k_56 : (.arrayClass .long : Cond) ∈ wt_ws := k_mem 56 rfl rfl
theorem k_57 : (.arrayClass .boolean : Cond) ∈ wt_ws := k_mem 57 rfl rfl
theorem k_58 : (.fieldLink R_T 10 R_T "chain" "LWorkTree$Chain;" : Cond) ∈ wt_ws := k_mem 58 rfl rfl
theorem k_62 : (.methodLink R_L 13 y_T_add : Cond) ∈ wt_ws := k_mem 62 rfl rfl
theorem k_63 : (.instanceMethod y_T_add : Cond) ∈ wt_ws := k_mem 63 rfl rfl
theorem k_64 : (.selects R_T y_T_add y_T_add : Cond) ∈ wt_ws := k_mem 64 rfl rfl
theorem k_65 : (.code y_T_add b_T_add 4 (some .int) : Cond) ∈ wt_ws := k_mem 65 rfl rfl
theorem k_66 : (.methodLink R_T 20 y_T_in : Cond) ∈ wt_ws := k_mem 66 rfl rfl
theorem k_67 : (.static y_T_in : Cond) ∈ wt_ws := k_mem 67 rfl rfl
theorem k_68 : (.code y_T_in b_T_in 3 (some .boolean) : Cond) ∈ wt_ws := k_mem 68 rfl rfl
theorem k_71 : (.instanceMethod y_C_median : Cond) ∈ wt_ws := k_mem 71 rfl rfl
theorem k_72 : (.code y_C_median b_C_median 5 (some .int) : Cond) ∈ wt_ws := k_mem 72 rfl rfl
theorem k_73 : (.methodLink R_T 28 y_C_add : Cond) ∈ wt_ws := k_mem 73 rfl rfl
theorem k_74 : (.instanceMethod y_C_add : Cond) ∈ wt_ws := k_mem 74 rfl rfl
theorem k_75 : (.selects R_C y_C_add y_C_add : Cond) ∈ wt_ws := k_mem 75 rfl rfl
theorem k_76 : (.code y_C_add b_C_add 5 (some .int) : Cond) ∈ wt_ws := k_mem 76 rfl rfl
theorem k_77 : (.methodLink R_C 66 y_C_due : Cond) ∈ wt_ws := k_mem 77 rfl rfl
theorem k_78 : (.instanceMethod y_C_due : Cond) ∈ wt_ws := k_mem 78 rfl rfl
theorem k_79 : (.selects R_C y_C_due y_C_due : Cond) ∈ wt_ws := k_mem 79 rfl rfl
theorem k_80 : (.code y_C_due b_C_due 6 (some .int) : Cond) ∈ wt_ws := k_mem 80 rfl rfl
theorem k_81 : (.methodLink R_C 43 y_C_ancestor : Cond) ∈ wt_ws := k_mem 81 rfl rfl
theorem k_82 : (.instanceMethod y_C_ancestor : Cond) ∈ wt_ws := k_mem 82 rfl rfl
theorem k_83 : (.selects R_C y_C_ancestor y_C_ancestor : Cond) ∈ wt_ws := k_mem 83 rfl rfl
theorem k_84 : (.code y_C_ancestor b_C_ancestor 4 (some .int) : Cond) ∈ wt_ws := k_mem 84 rfl rfl
theorem k_85 : (.methodLink R_C 47 Lib.Math.max.name : Cond) ∈ wt_ws := k_mem 85 rfl rfl
theorem k_86 : (.static Lib.Math.max.name : Cond) ∈ wt_ws := k_mem 86 rfl rfl
theorem k_87 : (.code Lib.Math.max.name Lib.Math.max.code 2 (some .int) : Cond) ∈ wt_ws := k_mem 87 rfl rfl
theorem k_88 : (.methodLink R_C 52 Lib.Math.min.name : Cond) ∈ wt_ws := k_mem 88 rfl rfl
theorem k_89 : (.static Lib.Math.min.name : Cond) ∈ wt_ws := k_mem 89 rfl rfl
theorem k_90 : (.code Lib.Math.min.name Lib.Math.min.code 2 (some .int) : Cond) ∈ wt_ws := k_mem 90 rfl rfl
theorem k_91 : (.constantLong R_C 55 (80) : Cond) ∈ wt_ws := k_mem 91 rfl rfl
theorem k_92 : (.constantLong R_C 57 (65535) : Cond) ∈ wt_ws := k_mem 92 rfl rfl
theorem k_93 : (.constantLong R_C 59 (2048) : Cond) ∈ wt_ws := k_mem 93 rfl rfl
theorem k_94 : (.methodLink R_C 61 Lib.MathLoose.max_long.x : Cond) ∈ wt_ws := k_mem 94 rfl rfl
theorem k_95 : (.static Lib.MathLoose.max_long.x : Cond) ∈ wt_ws := k_mem 95 rfl rfl
theorem k_96 : (.code Lib.MathLoose.max_long.x Lib.MathLoose.max_long.code 4 (some .long) : Cond) ∈ wt_ws := k_mem 96 rfl rfl
theorem k_97 : (.methodLink R_C 64 Lib.MathLoose.min_long.x : Cond) ∈ wt_ws := k_mem 97 rfl rfl
theorem k_98 : (.static Lib.MathLoose.min_long.x : Cond) ∈ wt_ws := k_mem 98 rfl rfl
theorem k_99 : (.code Lib.MathLoose.min_long.x Lib.MathLoose.min_long.code 4 (some .long) : Cond) ∈ wt_ws := k_mem 99 rfl rfl
theorem k_100 : (.constant R_C 70 (16777216) : Cond) ∈ wt_ws := k_mem 100 rfl rfl
theorem k_101 : (.methodLink R_L 18 y_T_refuse : Cond) ∈ wt_ws := k_mem 101 rfl rfl
theorem k_102 : (.instanceMethod y_T_refuse : Cond) ∈ wt_ws := k_mem 102 rfl rfl
theorem k_103 : (.selects R_T y_T_refuse y_T_refuse : Cond) ∈ wt_ws := k_mem 103 rfl rfl
theorem k_104 : (.code y_T_refuse b_T_refuse 2 (some .int) : Cond) ∈ wt_ws := k_mem 104 rfl rfl
theorem k_105 : (.methodLink R_T 32 y_C_refuse : Cond) ∈ wt_ws := k_mem 105 rfl rfl
theorem k_106 : (.instanceMethod y_C_refuse : Cond) ∈ wt_ws := k_mem 106 rfl rfl
theorem k_107 : (.selects R_C y_C_refuse y_C_refuse : Cond) ∈ wt_ws := k_mem 107 rfl rfl
theorem k_108 : (.code y_C_refuse b_C_refuse 3 none : Cond) ∈ wt_ws := k_mem 108 rfl rfl
theorem k_109 : (.methodLink R_T 36 y_C_best : Cond) ∈ wt_ws := k_mem 109 rfl rfl
theorem k_110 : (.instanceMethod y_C_best : Cond) ∈ wt_ws := k_mem 110 rfl rfl
theorem k_111 : (.selects R_C y_C_best y_C_best : Cond) ∈ wt_ws := k_mem 111 rfl rfl
theorem k_112 : (.code y_C_best b_C_best 3 (some .int) : Cond) ∈ wt_ws := k_mem 112 rfl rfl
theorem k_113 : (.methodLink R_C 71 y_C_isBetter : Cond) ∈ wt_ws := k_mem 113 rfl rfl
theorem k_114 : (.instanceMethod y_C_isBetter : Cond) ∈ wt_ws := k_mem 114 rfl rfl
theorem k_115 : (.selects R_C y_C_isBetter y_C_isBetter : Cond) ∈ wt_ws := k_mem 115 rfl rfl
theorem k_116 : (.code y_C_isBetter b_C_isBetter 3 (some .boolean) : Cond) ∈ wt_ws := k_mem 116 rfl rfl
theorem k_117 : (.methodLink R_L 23 y_T_best : Cond) ∈ wt_ws := k_mem 117 rfl rfl
theorem k_118 : (.instanceMethod y_T_best : Cond) ∈ wt_ws := k_mem 118 rfl rfl
theorem k_119 : (.selects R_T y_T_best y_T_best : Cond) ∈ wt_ws := k_mem 119 rfl rfl
theorem k_120 : (.code y_T_best b_T_best 1 (some .int) : Cond) ∈ wt_ws := k_mem 120 rfl rfl
theorem k_121 : (.methodLink R_L 28 y_T_fork : Cond) ∈ wt_ws := k_mem 121 rfl rfl
theorem k_122 : (.instanceMethod y_T_fork : Cond) ∈ wt_ws := k_mem 122 rfl rfl
theorem k_123 : (.selects R_T y_T_fork y_T_fork : Cond) ∈ wt_ws := k_mem 123 rfl rfl
theorem k_124 : (.code y_T_fork b_T_fork 3 (some .int) : Cond) ∈ wt_ws := k_mem 124 rfl rfl
theorem k_125 : (.methodLink R_T 40 y_C_fork : Cond) ∈ wt_ws := k_mem 125 rfl rfl
theorem k_126 : (.instanceMethod y_C_fork : Cond) ∈ wt_ws := k_mem 126 rfl rfl
theorem k_127 : (.selects R_C y_C_fork y_C_fork : Cond) ∈ wt_ws := k_mem 127 rfl rfl
theorem k_128 : (.code y_C_fork b_C_fork 5 (some .int) : Cond) ∈ wt_ws := k_mem 128 rfl rfl
theorem k_129 : (.methodLink R_L 33 y_T_due : Cond) ∈ wt_ws := k_mem 129 rfl rfl
theorem k_130 : (.instanceMethod y_T_due : Cond) ∈ wt_ws := k_mem 130 rfl rfl
theorem k_131 : (.selects R_T y_T_due y_T_due : Cond) ∈ wt_ws := k_mem 131 rfl rfl
theorem k_132 : (.code y_T_due b_T_due 2 (some .int) : Cond) ∈ wt_ws := k_mem 132 rfl rfl
theorem k_133 : (.methodLink R_T 44 y_C_due : Cond) ∈ wt_ws := k_mem 133 rfl rfl
theorem k_134 : (.methodLink R_L 37 y_T_median : Cond) ∈ wt_ws := k_mem 134 rfl rfl
theorem k_135 : (.instanceMethod y_T_median : Cond) ∈ wt_ws := k_mem 135 rfl rfl
theorem k_136 : (.selects R_T y_T_median y_T_median : Cond) ∈ wt_ws := k_mem 136 rfl rfl
theorem k_137 : (.code y_T_median b_T_median 2 (some .int) : Cond) ∈ wt_ws := k_mem 137 rfl rfl
theorem k_138 : (.methodLink R_L 41 y_T_ancestor : Cond) ∈ wt_ws := k_mem 138 rfl rfl
theorem k_139 : (.instanceMethod y_T_ancestor : Cond) ∈ wt_ws := k_mem 139 rfl rfl
theorem k_140 : (.selects R_T y_T_ancestor y_T_ancestor : Cond) ∈ wt_ws := k_mem 140 rfl rfl
theorem k_141 : (.code y_T_ancestor b_T_ancestor 3 (some .int) : Cond) ∈ wt_ws := k_mem 141 rfl rfl
theorem k_142 : (.methodLink R_T 51 y_C_ancestor : Cond) ∈ wt_ws := k_mem 142 rfl rfl
theorem k_143 : (.methodLink R_L 45 y_T_look : Cond) ∈ wt_ws := k_mem 143 rfl rfl
theorem k_144 : (.instanceMethod y_T_look : Cond) ∈ wt_ws := k_mem 144 rfl rfl
theorem k_145 : (.selects R_T y_T_look y_T_look : Cond) ∈ wt_ws := k_mem 145 rfl rfl
theorem k_146 : (.code y_T_look b_T_look 3 (some .long) : Cond) ∈ wt_ws := k_mem 146 rfl rfl
theorem k_147 : (.constantLong R_T 54 (-1) : Cond) ∈ wt_ws := k_mem 147 rfl rfl
theorem k_148 : (.constantLong R_T 56 (-2) : Cond) ∈ wt_ws := k_mem 148 rfl rfl
theorem k_149 : (.methodLink R_L 50 y_T_blocks : Cond) ∈ wt_ws := k_mem 149 rfl rfl
theorem k_150 : (.instanceMethod y_T_blocks : Cond) ∈ wt_ws := k_mem 150 rfl rfl
theorem k_151 : (.selects R_T y_T_blocks y_T_blocks : Cond) ∈ wt_ws := k_mem 151 rfl rfl
theorem k_152 : (.code y_T_blocks b_T_blocks 1 (some .int) : Cond) ∈ wt_ws := k_mem 152 rfl rfl
theorem k_153 : (.classLink R_L 10 R_M : Cond) ∈ wt_ws := k_mem 153 rfl rfl
theorem k_154 : (.instantiable R_M 9 : Cond) ∈ wt_ws := k_mem 154 rfl rfl
theorem k_155 : (.methodLink R_L 12 y_M_init : Cond) ∈ wt_ws := k_mem 155 rfl rfl
theorem k_156 : (.instanceMethod y_M_init : Cond) ∈ wt_ws := k_mem 156 rfl rfl
theorem k_157 : (.code y_M_init b_M_init 1 none : Cond) ∈ wt_ws := k_mem 157 rfl rfl
theorem k_158 : (.methodLink R_M 1 Lib.objectInit : Cond) ∈ wt_ws := k_mem 158 rfl rfl
theorem k_159 : (.constant R_M 40 (32768) : Cond) ∈ wt_ws := k_mem 159 rfl rfl
theorem k_160 : (.fieldLink R_M 9 R_M "parent" "[I" : Cond) ∈ wt_ws := k_mem 160 rfl rfl
theorem k_161 : (.fieldLink R_M 13 R_M "height" "[I" : Cond) ∈ wt_ws := k_mem 161 rfl rfl
theorem k_162 : (.fieldLink R_M 16 R_M "time" "[I" : Cond) ∈ wt_ws := k_mem 162 rfl rfl
theorem k_163 : (.fieldLink R_M 19 R_M "target" "[I" : Cond) ∈ wt_ws := k_mem 163 rfl rfl
theorem k_164 : (.fieldLink R_M 22 R_M "work" "[J" : Cond) ∈ wt_ws := k_mem 164 rfl rfl
theorem k_165 : (.fieldLink R_M 26 R_M "arrival" "[I" : Cond) ∈ wt_ws := k_mem 165 rfl rfl
theorem k_166 : (.fieldLink R_M 29 R_M "refused" "[Z" : Cond) ∈ wt_ws := k_mem 166 rfl rfl
theorem k_167 : (.fieldLink R_M 33 R_M "times" "[I" : Cond) ∈ wt_ws := k_mem 167 rfl rfl
theorem k_168 : (.fieldLink R_M 36 R_M "count" "I" : Cond) ∈ wt_ws := k_mem 168 rfl rfl
theorem k_188 : (.methodLink R_L 17 y_M_add : Cond) ∈ wt_ws := k_mem 188 rfl rfl
theorem k_189 : (.instanceMethod y_M_add : Cond) ∈ wt_ws := k_mem 189 rfl rfl
theorem k_190 : (.selects R_M y_M_add y_M_add : Cond) ∈ wt_ws := k_mem 190 rfl rfl
theorem k_191 : (.code y_M_add b_M_add 5 (some .int) : Cond) ∈ wt_ws := k_mem 191 rfl rfl
theorem k_192 : (.methodLink R_M 41 y_M_is : Cond) ∈ wt_ws := k_mem 192 rfl rfl
theorem k_194 : (.instanceMethod y_M_is : Cond) ∈ wt_ws := k_mem 194 rfl rfl
theorem k_195 : (.code y_M_is b_M_is 2 (some .boolean) : Cond) ∈ wt_ws := k_mem 195 rfl rfl
theorem k_196 : (.methodLink R_M 45 y_M_median : Cond) ∈ wt_ws := k_mem 196 rfl rfl
theorem k_197 : (.instanceMethod y_M_median : Cond) ∈ wt_ws := k_mem 197 rfl rfl
theorem k_198 : (.selects R_M y_M_median y_M_median : Cond) ∈ wt_ws := k_mem 198 rfl rfl
theorem k_199 : (.code y_M_median b_M_median 5 (some .int) : Cond) ∈ wt_ws := k_mem 199 rfl rfl
theorem k_200 : (.methodLink R_M 49 y_M_due : Cond) ∈ wt_ws := k_mem 200 rfl rfl
theorem k_201 : (.instanceMethod y_M_due : Cond) ∈ wt_ws := k_mem 201 rfl rfl
theorem k_202 : (.selects R_M y_M_due y_M_due : Cond) ∈ wt_ws := k_mem 202 rfl rfl
theorem k_203 : (.code y_M_due b_M_due 5 (some .int) : Cond) ∈ wt_ws := k_mem 203 rfl rfl
theorem k_204 : (.methodLink R_M 60 y_M_ancestor : Cond) ∈ wt_ws := k_mem 204 rfl rfl
theorem k_205 : (.instanceMethod y_M_ancestor : Cond) ∈ wt_ws := k_mem 205 rfl rfl
theorem k_206 : (.selects R_M y_M_ancestor y_M_ancestor : Cond) ∈ wt_ws := k_mem 206 rfl rfl
theorem k_207 : (.code y_M_ancestor b_M_ancestor 4 (some .int) : Cond) ∈ wt_ws := k_mem 207 rfl rfl
theorem k_208 : (.constant R_M 64 (65535) : Cond) ∈ wt_ws := k_mem 208 rfl rfl
theorem k_209 : (.constant R_M 52 (16777216) : Cond) ∈ wt_ws := k_mem 209 rfl rfl
theorem k_210 : (.methodLink R_L 22 y_M_refuse : Cond) ∈ wt_ws := k_mem 210 rfl rfl
theorem k_211 : (.instanceMethod y_M_refuse : Cond) ∈ wt_ws := k_mem 211 rfl rfl
theorem k_212 : (.selects R_M y_M_refuse y_M_refuse : Cond) ∈ wt_ws := k_mem 212 rfl rfl
theorem k_213 : (.code y_M_refuse b_M_refuse 2 (some .int) : Cond) ∈ wt_ws := k_mem 213 rfl rfl
theorem k_214 : (.methodLink R_M 53 y_M_best : Cond) ∈ wt_ws := k_mem 214 rfl rfl
theorem k_215 : (.instanceMethod y_M_best : Cond) ∈ wt_ws := k_mem 215 rfl rfl
theorem k_216 : (.selects R_M y_M_best y_M_best : Cond) ∈ wt_ws := k_mem 216 rfl rfl
theorem k_217 : (.code y_M_best b_M_best 3 (some .int) : Cond) ∈ wt_ws := k_mem 217 rfl rfl
theorem k_218 : (.methodLink R_M 57 y_M_wrong : Cond) ∈ wt_ws := k_mem 218 rfl rfl
theorem k_220 : (.instanceMethod y_M_wrong : Cond) ∈ wt_ws := k_mem 220 rfl rfl
theorem k_221 : (.code y_M_wrong b_M_wrong 4 (some .boolean) : Cond) ∈ wt_ws := k_mem 221 rfl rfl
theorem k_222 : (.methodLink R_L 27 y_M_best : Cond) ∈ wt_ws := k_mem 222 rfl rfl
theorem k_223 : (.methodLink R_L 32 y_M_fork : Cond) ∈ wt_ws := k_mem 223 rfl rfl
theorem k_224 : (.instanceMethod y_M_fork : Cond) ∈ wt_ws := k_mem 224 rfl rfl
theorem k_225 : (.selects R_M y_M_fork y_M_fork : Cond) ∈ wt_ws := k_mem 225 rfl rfl
theorem k_226 : (.code y_M_fork b_M_fork 5 (some .int) : Cond) ∈ wt_ws := k_mem 226 rfl rfl
theorem k_227 : (.methodLink R_L 36 y_M_due : Cond) ∈ wt_ws := k_mem 227 rfl rfl
theorem k_228 : (.methodLink R_L 40 y_M_median : Cond) ∈ wt_ws := k_mem 228 rfl rfl
theorem k_229 : (.methodLink R_L 44 y_M_ancestor : Cond) ∈ wt_ws := k_mem 229 rfl rfl
theorem k_230 : (.methodLink R_L 49 y_M_look : Cond) ∈ wt_ws := k_mem 230 rfl rfl
theorem k_231 : (.instanceMethod y_M_look : Cond) ∈ wt_ws := k_mem 231 rfl rfl
theorem k_232 : (.selects R_M y_M_look y_M_look : Cond) ∈ wt_ws := k_mem 232 rfl rfl
theorem k_233 : (.code y_M_look b_M_look 3 (some .long) : Cond) ∈ wt_ws := k_mem 233 rfl rfl
theorem k_234 : (.constantLong R_M 65 (-1) : Cond) ∈ wt_ws := k_mem 234 rfl rfl
theorem k_235 : (.constantLong R_M 67 (-2) : Cond) ∈ wt_ws := k_mem 235 rfl rfl
theorem k_236 : (.methodLink R_L 53 y_M_blocks : Cond) ∈ wt_ws := k_mem 236 rfl rfl
theorem k_237 : (.instanceMethod y_M_blocks : Cond) ∈ wt_ws := k_mem 237 rfl rfl
theorem k_238 : (.selects R_M y_M_blocks y_M_blocks : Cond) ∈ wt_ws := k_mem 238 rfl rfl
theorem k_239 : (.code y_M_blocks b_M_blocks 1 (some .int) : Cond) ∈ wt_ws := k_mem 239 rfl rfl
theorem ks_0 : (.selects R_C y_C_median y_C_median : Cond) ∈ wt_ws := k_sel 0 rfl rfl
theorem ks_1 : (.selects R_M y_M_is y_M_is : Cond) ∈ wt_ws := k_sel 1 rfl rfl
theorem ks_2 : (.selects R_M y_M_wrong y_M_wrong : Cond) ∈ wt_ws := k_sel 2 rfl rfl
theorem u_in_T : ∀ w ∈ u_ws R_T F_T 1, w ∈ wt_ws := by
  intro w hw
  obtain ⟨k, hk, rfl⟩ := List.mem_map.mp hw
  have hk := List.mem_range.mp hk
  rcases (show k = 0 by omega) with rfl
  · exact k_mem 59 rfl rfl
theorem u_in_C : ∀ w ∈ u_ws R_C F_C 9, w ∈ wt_ws := by
  intro w hw
  obtain ⟨k, hk, rfl⟩ := List.mem_map.mp hw
  have hk := List.mem_range.mp hk
  rcases (show k = 0 ∨ k = 1 ∨ k = 2 ∨ k = 3 ∨ k = 4 ∨ k = 5 ∨ k = 6 ∨ k = 7 ∨ k = 8 by omega) with rfl | rfl | rfl | rfl | rfl | rfl | rfl | rfl | rfl
  · exact k_mem 36 rfl rfl
  · exact k_mem 38 rfl rfl
  · exact k_mem 40 rfl rfl
  · exact k_mem 42 rfl rfl
  · exact k_mem 44 rfl rfl
  · exact k_mem 46 rfl rfl
  · exact k_mem 48 rfl rfl
  · exact k_mem 50 rfl rfl
  · exact k_mem 52 rfl rfl
theorem u_in_M : ∀ w ∈ u_ws R_M F_M 9, w ∈ wt_ws := by
  intro w hw
  obtain ⟨k, hk, rfl⟩ := List.mem_map.mp hw
  have hk := List.mem_range.mp hk
  rcases (show k = 0 ∨ k = 1 ∨ k = 2 ∨ k = 3 ∨ k = 4 ∨ k = 5 ∨ k = 6 ∨ k = 7 ∨ k = 8 by omega) with rfl | rfl | rfl | rfl | rfl | rfl | rfl | rfl | rfl
  · exact k_mem 169 rfl rfl
  · exact k_mem 171 rfl rfl
  · exact k_mem 173 rfl rfl
  · exact k_mem 175 rfl rfl
  · exact k_mem 177 rfl rfl
  · exact k_mem 179 rfl rfl
  · exact k_mem 181 rfl rfl
  · exact k_mem 183 rfl rfl
  · exact k_mem 185 rfl rfl
theorem k_nest : Cond.methodLinkNest R_T 24 y_C_median "WorkTree" ∈ lw_tbl := List.mem_append_right _ (List.mem_of_getElem? (i := 69) rfl)
end
section
theorem d_T_init_0 : decode b_T_init 0 = .ok (.aload_n 0, 1) := by decide +kernel
theorem d_T_init_1 : decode b_T_init 1 = .ok (.invokespecial 1, 3) := by decide +kernel
theorem d_T_init_4 : decode b_T_init 4 = .ok (.aload_n 0, 1) := by decide +kernel
theorem d_T_init_5 : decode b_T_init 5 = .ok (.new 7, 3) := by decide +kernel
theorem d_T_init_8 : decode b_T_init 8 = .ok (.dup, 1) := by decide +kernel
theorem d_T_init_9 : decode b_T_init 9 = .ok (.invokespecial 9, 3) := by decide +kernel
theorem d_T_init_12 : decode b_T_init 12 = .ok (.putfield 10, 3) := by decide +kernel
theorem d_T_init_15 : decode b_T_init 15 = .ok (.return_, 1) := by decide +kernel
theorem d_C_init_0 : decode b_C_init 0 = .ok (.aload_n 0, 1) := by decide +kernel
theorem d_C_init_1 : decode b_C_init 1 = .ok (.invokespecial 3, 3) := by decide +kernel
theorem d_C_init_4 : decode b_C_init 4 = .ok (.aload_n 0, 1) := by decide +kernel
theorem d_C_init_5 : decode b_C_init 5 = .ok (.iconst 1, 1) := by decide +kernel
theorem d_C_init_6 : decode b_C_init 6 = .ok (.putfield 9, 3) := by decide +kernel
theorem d_C_init_9 : decode b_C_init 9 = .ok (.aload_n 0, 1) := by decide +kernel
theorem d_C_init_10 : decode b_C_init 10 = .ok (.sipush 512, 3) := by decide +kernel
theorem d_C_init_13 : decode b_C_init 13 = .ok (.newarray .int, 2) := by decide +kernel
theorem d_C_init_15 : decode b_C_init 15 = .ok (.putfield 15, 3) := by decide +kernel
theorem d_C_init_18 : decode b_C_init 18 = .ok (.aload_n 0, 1) := by decide +kernel
theorem d_C_init_19 : decode b_C_init 19 = .ok (.sipush 512, 3) := by decide +kernel
theorem d_C_init_22 : decode b_C_init 22 = .ok (.newarray .int, 2) := by decide +kernel
theorem d_C_init_24 : decode b_C_init 24 = .ok (.putfield 19, 3) := by decide +kernel
theorem d_C_init_27 : decode b_C_init 27 = .ok (.aload_n 0, 1) := by decide +kernel
theorem d_C_init_28 : decode b_C_init 28 = .ok (.sipush 512, 3) := by decide +kernel
theorem d_C_init_31 : decode b_C_init 31 = .ok (.newarray .int, 2) := by decide +kernel
theorem d_C_init_33 : decode b_C_init 33 = .ok (.putfield 22, 3) := by decide +kernel
theorem d_C_init_36 : decode b_C_init 36 = .ok (.aload_n 0, 1) := by decide +kernel
theorem d_C_init_37 : decode b_C_init 37 = .ok (.sipush 512, 3) := by decide +kernel
theorem d_C_init_40 : decode b_C_init 40 = .ok (.newarray .int, 2) := by decide +kernel
theorem d_C_init_42 : decode b_C_init 42 = .ok (.putfield 25, 3) := by decide +kernel
theorem d_C_init_45 : decode b_C_init 45 = .ok (.aload_n 0, 1) := by decide +kernel
theorem d_C_init_46 : decode b_C_init 46 = .ok (.sipush 512, 3) := by decide +kernel
theorem d_C_init_49 : decode b_C_init 49 = .ok (.newarray .int, 2) := by decide +kernel
theorem d_C_init_51 : decode b_C_init 51 = .ok (.putfield 28, 3) := by decide +kernel
theorem d_C_init_54 : decode b_C_init 54 = .ok (.aload_n 0, 1) := by decide +kernel
theorem d_C_init_55 : decode b_C_init 55 = .ok (.sipush 512, 3) := by decide +kernel
theorem d_C_init_58 : decode b_C_init 58 = .ok (.newarray .long, 2) := by decide +kernel
theorem d_C_init_60 : decode b_C_init 60 = .ok (.putfield 31, 3) := by decide +kernel
theorem d_C_init_63 : decode b_C_init 63 = .ok (.aload_n 0, 1) := by decide +kernel
theorem d_C_init_64 : decode b_C_init 64 = .ok (.sipush 512, 3) := by decide +kernel
theorem d_C_init_67 : decode b_C_init 67 = .ok (.newarray .boolean, 2) := by decide +kernel
theorem d_C_init_69 : decode b_C_init 69 = .ok (.putfield 35, 3) := by decide +kernel
theorem d_C_init_72 : decode b_C_init 72 = .ok (.aload_n 0, 1) := by decide +kernel
theorem d_C_init_73 : decode b_C_init 73 = .ok (.bipush 7, 2) := by decide +kernel
theorem d_C_init_75 : decode b_C_init 75 = .ok (.newarray .int, 2) := by decide +kernel
theorem d_C_init_77 : decode b_C_init 77 = .ok (.putfield 39, 3) := by decide +kernel
theorem d_C_init_80 : decode b_C_init 80 = .ok (.aload_n 0, 1) := by decide +kernel
theorem d_C_init_81 : decode b_C_init 81 = .ok (.getfield 25, 3) := by decide +kernel
theorem d_C_init_84 : decode b_C_init 84 = .ok (.iconst 0, 1) := by decide +kernel
theorem d_C_init_85 : decode b_C_init 85 = .ok (.ldc 42, 2) := by decide +kernel
theorem d_C_init_87 : decode b_C_init 87 = .ok (.iastore, 1) := by decide +kernel
theorem d_C_init_88 : decode b_C_init 88 = .ok (.aload_n 0, 1) := by decide +kernel
theorem d_C_init_89 : decode b_C_init 89 = .ok (.getfield 15, 3) := by decide +kernel
theorem d_C_init_92 : decode b_C_init 92 = .ok (.iconst 0, 1) := by decide +kernel
theorem d_C_init_93 : decode b_C_init 93 = .ok (.iconst (-1), 1) := by decide +kernel
theorem d_C_init_94 : decode b_C_init 94 = .ok (.iastore, 1) := by decide +kernel
theorem d_C_init_95 : decode b_C_init 95 = .ok (.return_, 1) := by decide +kernel
theorem d_T_add_0 : decode b_T_add 0 = .ok (.iload_n 1, 1) := by decide +kernel
theorem d_T_add_1 : decode b_T_add 1 = .ok (.iconst 0, 1) := by decide +kernel
theorem d_T_add_2 : decode b_T_add 2 = .ok (.aload_n 0, 1) := by decide +kernel
theorem d_T_add_3 : decode b_T_add 3 = .ok (.getfield 10, 3) := by decide +kernel
theorem d_T_add_6 : decode b_T_add 6 = .ok (.getfield 16, 3) := by decide +kernel
theorem d_T_add_9 : decode b_T_add 9 = .ok (.iconst 1, 1) := by decide +kernel
theorem d_T_add_10 : decode b_T_add 10 = .ok (.isub, 1) := by decide +kernel
theorem d_T_add_11 : decode b_T_add 11 = .ok (.invokestatic 20, 3) := by decide +kernel
theorem d_T_add_14 : decode b_T_add 14 = .ok (.ifCond .eq 19, 3) := by decide +kernel
theorem d_T_add_17 : decode b_T_add 17 = .ok (.iload_n 2, 1) := by decide +kernel
theorem d_T_add_18 : decode b_T_add 18 = .ok (.aload_n 0, 1) := by decide +kernel
theorem d_T_add_19 : decode b_T_add 19 = .ok (.getfield 10, 3) := by decide +kernel
theorem d_T_add_22 : decode b_T_add 22 = .ok (.iload_n 1, 1) := by decide +kernel
theorem d_T_add_23 : decode b_T_add 23 = .ok (.invokevirtual 24, 3) := by decide +kernel
theorem d_T_add_26 : decode b_T_add 26 = .ok (.if_icmp .le 7, 3) := by decide +kernel
theorem d_T_add_29 : decode b_T_add 29 = .ok (.iload_n 3, 1) := by decide +kernel
theorem d_T_add_30 : decode b_T_add 30 = .ok (.ifCond .ge 5, 3) := by decide +kernel
theorem d_T_add_33 : decode b_T_add 33 = .ok (.iconst (-1), 1) := by decide +kernel
theorem d_T_add_34 : decode b_T_add 34 = .ok (.ireturn, 1) := by decide +kernel
theorem d_T_add_35 : decode b_T_add 35 = .ok (.aload_n 0, 1) := by decide +kernel
theorem d_T_add_36 : decode b_T_add 36 = .ok (.getfield 10, 3) := by decide +kernel
theorem d_T_add_39 : decode b_T_add 39 = .ok (.getfield 16, 3) := by decide +kernel
theorem d_T_add_42 : decode b_T_add 42 = .ok (.sipush 512, 3) := by decide +kernel
theorem d_T_add_45 : decode b_T_add 45 = .ok (.if_icmp .ne 8, 3) := by decide +kernel
theorem d_T_add_48 : decode b_T_add 48 = .ok (.bipush (-3), 2) := by decide +kernel
theorem d_T_add_50 : decode b_T_add 50 = .ok (.goto 13, 3) := by decide +kernel
theorem d_T_add_53 : decode b_T_add 53 = .ok (.aload_n 0, 1) := by decide +kernel
theorem d_T_add_54 : decode b_T_add 54 = .ok (.getfield 10, 3) := by decide +kernel
theorem d_T_add_57 : decode b_T_add 57 = .ok (.iload_n 1, 1) := by decide +kernel
theorem d_T_add_58 : decode b_T_add 58 = .ok (.iload_n 2, 1) := by decide +kernel
theorem d_T_add_59 : decode b_T_add 59 = .ok (.iload_n 3, 1) := by decide +kernel
theorem d_T_add_60 : decode b_T_add 60 = .ok (.invokevirtual 28, 3) := by decide +kernel
theorem d_T_add_63 : decode b_T_add 63 = .ok (.ireturn, 1) := by decide +kernel
theorem d_T_in_0 : decode b_T_in 0 = .ok (.iload_n 0, 1) := by decide +kernel
theorem d_T_in_1 : decode b_T_in 1 = .ok (.iload_n 1, 1) := by decide +kernel
theorem d_T_in_2 : decode b_T_in 2 = .ok (.if_icmp .lt 12, 3) := by decide +kernel
theorem d_T_in_5 : decode b_T_in 5 = .ok (.iload_n 0, 1) := by decide +kernel
theorem d_T_in_6 : decode b_T_in 6 = .ok (.iload_n 2, 1) := by decide +kernel
theorem d_T_in_7 : decode b_T_in 7 = .ok (.if_icmp .gt 7, 3) := by decide +kernel
theorem d_T_in_10 : decode b_T_in 10 = .ok (.iconst 1, 1) := by decide +kernel
theorem d_T_in_11 : decode b_T_in 11 = .ok (.goto 4, 3) := by decide +kernel
theorem d_T_in_14 : decode b_T_in 14 = .ok (.iconst 0, 1) := by decide +kernel
theorem d_T_in_15 : decode b_T_in 15 = .ok (.ireturn, 1) := by decide +kernel
theorem d_C_median_0 : decode b_C_median 0 = .ok (.iconst 0, 1) := by decide +kernel
theorem d_C_median_1 : decode b_C_median 1 = .ok (.istore_n 2, 1) := by decide +kernel
theorem d_C_median_2 : decode b_C_median 2 = .ok (.iload_n 1, 1) := by decide +kernel
theorem d_C_median_3 : decode b_C_median 3 = .ok (.istore_n 3, 1) := by decide +kernel
theorem d_C_median_4 : decode b_C_median 4 = .ok (.iload_n 3, 1) := by decide +kernel
theorem d_C_median_5 : decode b_C_median 5 = .ok (.ifCond .lt 83, 3) := by decide +kernel
theorem d_C_median_8 : decode b_C_median 8 = .ok (.iload_n 2, 1) := by decide +kernel
theorem d_C_median_9 : decode b_C_median 9 = .ok (.bipush 7, 2) := by decide +kernel
theorem d_C_median_11 : decode b_C_median 11 = .ok (.if_icmp .ge 77, 3) := by decide +kernel
theorem d_C_median_14 : decode b_C_median 14 = .ok (.iload_n 2, 1) := by decide +kernel
theorem d_C_median_15 : decode b_C_median 15 = .ok (.istore 4, 2) := by decide +kernel
theorem d_C_median_17 : decode b_C_median 17 = .ok (.iload 4, 2) := by decide +kernel
theorem d_C_median_19 : decode b_C_median 19 = .ok (.ifCond .le 43, 3) := by decide +kernel
theorem d_C_median_22 : decode b_C_median 22 = .ok (.aload_n 0, 1) := by decide +kernel
theorem d_C_median_23 : decode b_C_median 23 = .ok (.getfield 39, 3) := by decide +kernel
theorem d_C_median_26 : decode b_C_median 26 = .ok (.iload 4, 2) := by decide +kernel
theorem d_C_median_28 : decode b_C_median 28 = .ok (.iconst 1, 1) := by decide +kernel
theorem d_C_median_29 : decode b_C_median 29 = .ok (.isub, 1) := by decide +kernel
theorem d_C_median_30 : decode b_C_median 30 = .ok (.iaload, 1) := by decide +kernel
theorem d_C_median_31 : decode b_C_median 31 = .ok (.aload_n 0, 1) := by decide +kernel
theorem d_C_median_32 : decode b_C_median 32 = .ok (.getfield 22, 3) := by decide +kernel
theorem d_C_median_35 : decode b_C_median 35 = .ok (.iload_n 3, 1) := by decide +kernel
theorem d_C_median_36 : decode b_C_median 36 = .ok (.iaload, 1) := by decide +kernel
theorem d_C_median_37 : decode b_C_median 37 = .ok (.if_icmp .le 25, 3) := by decide +kernel
theorem d_C_median_40 : decode b_C_median 40 = .ok (.aload_n 0, 1) := by decide +kernel
theorem d_C_median_41 : decode b_C_median 41 = .ok (.getfield 39, 3) := by decide +kernel
theorem d_C_median_44 : decode b_C_median 44 = .ok (.iload 4, 2) := by decide +kernel
theorem d_C_median_46 : decode b_C_median 46 = .ok (.aload_n 0, 1) := by decide +kernel
theorem d_C_median_47 : decode b_C_median 47 = .ok (.getfield 39, 3) := by decide +kernel
theorem d_C_median_50 : decode b_C_median 50 = .ok (.iload 4, 2) := by decide +kernel
theorem d_C_median_52 : decode b_C_median 52 = .ok (.iconst 1, 1) := by decide +kernel
theorem d_C_median_53 : decode b_C_median 53 = .ok (.isub, 1) := by decide +kernel
theorem d_C_median_54 : decode b_C_median 54 = .ok (.iaload, 1) := by decide +kernel
theorem d_C_median_55 : decode b_C_median 55 = .ok (.iastore, 1) := by decide +kernel
theorem d_C_median_56 : decode b_C_median 56 = .ok (.iinc 4 (-1), 3) := by decide +kernel
theorem d_C_median_59 : decode b_C_median 59 = .ok (.goto (-42), 3) := by decide +kernel
theorem d_C_median_62 : decode b_C_median 62 = .ok (.aload_n 0, 1) := by decide +kernel
theorem d_C_median_63 : decode b_C_median 63 = .ok (.getfield 39, 3) := by decide +kernel
theorem d_C_median_66 : decode b_C_median 66 = .ok (.iload 4, 2) := by decide +kernel
theorem d_C_median_68 : decode b_C_median 68 = .ok (.aload_n 0, 1) := by decide +kernel
theorem d_C_median_69 : decode b_C_median 69 = .ok (.getfield 22, 3) := by decide +kernel
theorem d_C_median_72 : decode b_C_median 72 = .ok (.iload_n 3, 1) := by decide +kernel
theorem d_C_median_73 : decode b_C_median 73 = .ok (.iaload, 1) := by decide +kernel
theorem d_C_median_74 : decode b_C_median 74 = .ok (.iastore, 1) := by decide +kernel
theorem d_C_median_75 : decode b_C_median 75 = .ok (.iinc 2 1, 3) := by decide +kernel
theorem d_C_median_78 : decode b_C_median 78 = .ok (.aload_n 0, 1) := by decide +kernel
theorem d_C_median_79 : decode b_C_median 79 = .ok (.getfield 15, 3) := by decide +kernel
theorem d_C_median_82 : decode b_C_median 82 = .ok (.iload_n 3, 1) := by decide +kernel
theorem d_C_median_83 : decode b_C_median 83 = .ok (.iaload, 1) := by decide +kernel
theorem d_C_median_84 : decode b_C_median 84 = .ok (.istore_n 3, 1) := by decide +kernel
theorem d_C_median_85 : decode b_C_median 85 = .ok (.goto (-81), 3) := by decide +kernel
theorem d_C_median_88 : decode b_C_median 88 = .ok (.aload_n 0, 1) := by decide +kernel
theorem d_C_median_89 : decode b_C_median 89 = .ok (.getfield 39, 3) := by decide +kernel
theorem d_C_median_92 : decode b_C_median 92 = .ok (.iload_n 2, 1) := by decide +kernel
theorem d_C_median_93 : decode b_C_median 93 = .ok (.iconst 2, 1) := by decide +kernel
theorem d_C_median_94 : decode b_C_median 94 = .ok (.idiv, 1) := by decide +kernel
theorem d_C_median_95 : decode b_C_median 95 = .ok (.iaload, 1) := by decide +kernel
theorem d_C_median_96 : decode b_C_median 96 = .ok (.ireturn, 1) := by decide +kernel
theorem d_C_add_0 : decode b_C_add 0 = .ok (.aload_n 0, 1) := by decide +kernel
theorem d_C_add_1 : decode b_C_add 1 = .ok (.getfield 9, 3) := by decide +kernel
theorem d_C_add_4 : decode b_C_add 4 = .ok (.istore 4, 2) := by decide +kernel
theorem d_C_add_6 : decode b_C_add 6 = .ok (.aload_n 0, 1) := by decide +kernel
theorem d_C_add_7 : decode b_C_add 7 = .ok (.dup, 1) := by decide +kernel
theorem d_C_add_8 : decode b_C_add 8 = .ok (.getfield 9, 3) := by decide +kernel
theorem d_C_add_11 : decode b_C_add 11 = .ok (.iconst 1, 1) := by decide +kernel
theorem d_C_add_12 : decode b_C_add 12 = .ok (.iadd, 1) := by decide +kernel
theorem d_C_add_13 : decode b_C_add 13 = .ok (.putfield 9, 3) := by decide +kernel
theorem d_C_add_16 : decode b_C_add 16 = .ok (.aload_n 0, 1) := by decide +kernel
theorem d_C_add_17 : decode b_C_add 17 = .ok (.getfield 15, 3) := by decide +kernel
theorem d_C_add_20 : decode b_C_add 20 = .ok (.iload 4, 2) := by decide +kernel
theorem d_C_add_22 : decode b_C_add 22 = .ok (.iload_n 1, 1) := by decide +kernel
theorem d_C_add_23 : decode b_C_add 23 = .ok (.iastore, 1) := by decide +kernel
theorem d_C_add_24 : decode b_C_add 24 = .ok (.aload_n 0, 1) := by decide +kernel
theorem d_C_add_25 : decode b_C_add 25 = .ok (.getfield 19, 3) := by decide +kernel
theorem d_C_add_28 : decode b_C_add 28 = .ok (.iload 4, 2) := by decide +kernel
theorem d_C_add_30 : decode b_C_add 30 = .ok (.aload_n 0, 1) := by decide +kernel
theorem d_C_add_31 : decode b_C_add 31 = .ok (.getfield 19, 3) := by decide +kernel
theorem d_C_add_34 : decode b_C_add 34 = .ok (.iload_n 1, 1) := by decide +kernel
theorem d_C_add_35 : decode b_C_add 35 = .ok (.iaload, 1) := by decide +kernel
theorem d_C_add_36 : decode b_C_add 36 = .ok (.iconst 1, 1) := by decide +kernel
theorem d_C_add_37 : decode b_C_add 37 = .ok (.iadd, 1) := by decide +kernel
theorem d_C_add_38 : decode b_C_add 38 = .ok (.iastore, 1) := by decide +kernel
theorem d_C_add_39 : decode b_C_add 39 = .ok (.aload_n 0, 1) := by decide +kernel
theorem d_C_add_40 : decode b_C_add 40 = .ok (.getfield 22, 3) := by decide +kernel
theorem d_C_add_43 : decode b_C_add 43 = .ok (.iload 4, 2) := by decide +kernel
theorem d_C_add_45 : decode b_C_add 45 = .ok (.iload_n 2, 1) := by decide +kernel
theorem d_C_add_46 : decode b_C_add 46 = .ok (.iastore, 1) := by decide +kernel
theorem d_C_add_47 : decode b_C_add 47 = .ok (.aload_n 0, 1) := by decide +kernel
theorem d_C_add_48 : decode b_C_add 48 = .ok (.getfield 25, 3) := by decide +kernel
theorem d_C_add_51 : decode b_C_add 51 = .ok (.iload 4, 2) := by decide +kernel
theorem d_C_add_53 : decode b_C_add 53 = .ok (.aload_n 0, 1) := by decide +kernel
theorem d_C_add_54 : decode b_C_add 54 = .ok (.iload_n 1, 1) := by decide +kernel
theorem d_C_add_55 : decode b_C_add 55 = .ok (.invokevirtual 66, 3) := by decide +kernel
theorem d_C_add_58 : decode b_C_add 58 = .ok (.iastore, 1) := by decide +kernel
theorem d_C_add_59 : decode b_C_add 59 = .ok (.aload_n 0, 1) := by decide +kernel
theorem d_C_add_60 : decode b_C_add 60 = .ok (.getfield 31, 3) := by decide +kernel
theorem d_C_add_63 : decode b_C_add 63 = .ok (.iload 4, 2) := by decide +kernel
theorem d_C_add_65 : decode b_C_add 65 = .ok (.aload_n 0, 1) := by decide +kernel
theorem d_C_add_66 : decode b_C_add 66 = .ok (.getfield 31, 3) := by decide +kernel
theorem d_C_add_69 : decode b_C_add 69 = .ok (.iload_n 1, 1) := by decide +kernel
theorem d_C_add_70 : decode b_C_add 70 = .ok (.laload, 1) := by decide +kernel
theorem d_C_add_71 : decode b_C_add 71 = .ok (.ldc 70, 2) := by decide +kernel
theorem d_C_add_73 : decode b_C_add 73 = .ok (.aload_n 0, 1) := by decide +kernel
theorem d_C_add_74 : decode b_C_add 74 = .ok (.getfield 25, 3) := by decide +kernel
theorem d_C_add_77 : decode b_C_add 77 = .ok (.iload 4, 2) := by decide +kernel
theorem d_C_add_79 : decode b_C_add 79 = .ok (.iaload, 1) := by decide +kernel
theorem d_C_add_80 : decode b_C_add 80 = .ok (.idiv, 1) := by decide +kernel
theorem d_C_add_81 : decode b_C_add 81 = .ok (.i2l, 1) := by decide +kernel
theorem d_C_add_82 : decode b_C_add 82 = .ok (.ladd, 1) := by decide +kernel
theorem d_C_add_83 : decode b_C_add 83 = .ok (.lastore, 1) := by decide +kernel
theorem d_C_add_84 : decode b_C_add 84 = .ok (.aload_n 0, 1) := by decide +kernel
theorem d_C_add_85 : decode b_C_add 85 = .ok (.getfield 28, 3) := by decide +kernel
theorem d_C_add_88 : decode b_C_add 88 = .ok (.iload 4, 2) := by decide +kernel
theorem d_C_add_90 : decode b_C_add 90 = .ok (.iload_n 3, 1) := by decide +kernel
theorem d_C_add_91 : decode b_C_add 91 = .ok (.iastore, 1) := by decide +kernel
theorem d_C_add_92 : decode b_C_add 92 = .ok (.aload_n 0, 1) := by decide +kernel
theorem d_C_add_93 : decode b_C_add 93 = .ok (.getfield 35, 3) := by decide +kernel
theorem d_C_add_96 : decode b_C_add 96 = .ok (.iload 4, 2) := by decide +kernel
theorem d_C_add_98 : decode b_C_add 98 = .ok (.aload_n 0, 1) := by decide +kernel
theorem d_C_add_99 : decode b_C_add 99 = .ok (.getfield 35, 3) := by decide +kernel
theorem d_C_add_102 : decode b_C_add 102 = .ok (.iload_n 1, 1) := by decide +kernel
theorem d_C_add_103 : decode b_C_add 103 = .ok (.baload, 1) := by decide +kernel
theorem d_C_add_104 : decode b_C_add 104 = .ok (.bastore, 1) := by decide +kernel
theorem d_C_add_105 : decode b_C_add 105 = .ok (.iload 4, 2) := by decide +kernel
theorem d_C_add_107 : decode b_C_add 107 = .ok (.ireturn, 1) := by decide +kernel
theorem d_C_due_0 : decode b_C_due 0 = .ok (.aload_n 0, 1) := by decide +kernel
theorem d_C_due_1 : decode b_C_due 1 = .ok (.getfield 19, 3) := by decide +kernel
theorem d_C_due_4 : decode b_C_due 4 = .ok (.iload_n 1, 1) := by decide +kernel
theorem d_C_due_5 : decode b_C_due 5 = .ok (.iaload, 1) := by decide +kernel
theorem d_C_due_6 : decode b_C_due 6 = .ok (.iconst 1, 1) := by decide +kernel
theorem d_C_due_7 : decode b_C_due 7 = .ok (.iadd, 1) := by decide +kernel
theorem d_C_due_8 : decode b_C_due 8 = .ok (.istore_n 2, 1) := by decide +kernel
theorem d_C_due_9 : decode b_C_due 9 = .ok (.iload_n 2, 1) := by decide +kernel
theorem d_C_due_10 : decode b_C_due 10 = .ok (.bipush 8, 2) := by decide +kernel
theorem d_C_due_12 : decode b_C_due 12 = .ok (.irem, 1) := by decide +kernel
theorem d_C_due_13 : decode b_C_due 13 = .ok (.ifCond .eq 10, 3) := by decide +kernel
theorem d_C_due_16 : decode b_C_due 16 = .ok (.aload_n 0, 1) := by decide +kernel
theorem d_C_due_17 : decode b_C_due 17 = .ok (.getfield 25, 3) := by decide +kernel
theorem d_C_due_20 : decode b_C_due 20 = .ok (.iload_n 1, 1) := by decide +kernel
theorem d_C_due_21 : decode b_C_due 21 = .ok (.iaload, 1) := by decide +kernel
theorem d_C_due_22 : decode b_C_due 22 = .ok (.ireturn, 1) := by decide +kernel
theorem d_C_due_23 : decode b_C_due 23 = .ok (.aload_n 0, 1) := by decide +kernel
theorem d_C_due_24 : decode b_C_due 24 = .ok (.getfield 22, 3) := by decide +kernel
theorem d_C_due_27 : decode b_C_due 27 = .ok (.iload_n 1, 1) := by decide +kernel
theorem d_C_due_28 : decode b_C_due 28 = .ok (.iaload, 1) := by decide +kernel
theorem d_C_due_29 : decode b_C_due 29 = .ok (.aload_n 0, 1) := by decide +kernel
theorem d_C_due_30 : decode b_C_due 30 = .ok (.getfield 22, 3) := by decide +kernel
theorem d_C_due_33 : decode b_C_due 33 = .ok (.aload_n 0, 1) := by decide +kernel
theorem d_C_due_34 : decode b_C_due 34 = .ok (.iload_n 1, 1) := by decide +kernel
theorem d_C_due_35 : decode b_C_due 35 = .ok (.iload_n 2, 1) := by decide +kernel
theorem d_C_due_36 : decode b_C_due 36 = .ok (.bipush 8, 2) := by decide +kernel
theorem d_C_due_38 : decode b_C_due 38 = .ok (.isub, 1) := by decide +kernel
theorem d_C_due_39 : decode b_C_due 39 = .ok (.invokevirtual 43, 3) := by decide +kernel
theorem d_C_due_42 : decode b_C_due 42 = .ok (.iaload, 1) := by decide +kernel
theorem d_C_due_43 : decode b_C_due 43 = .ok (.isub, 1) := by decide +kernel
theorem d_C_due_44 : decode b_C_due 44 = .ok (.istore_n 3, 1) := by decide +kernel
theorem d_C_due_45 : decode b_C_due 45 = .ok (.aload_n 0, 1) := by decide +kernel
theorem d_C_due_46 : decode b_C_due 46 = .ok (.getfield 25, 3) := by decide +kernel
theorem d_C_due_49 : decode b_C_due 49 = .ok (.iload_n 1, 1) := by decide +kernel
theorem d_C_due_50 : decode b_C_due 50 = .ok (.iaload, 1) := by decide +kernel
theorem d_C_due_51 : decode b_C_due 51 = .ok (.i2l, 1) := by decide +kernel
theorem d_C_due_52 : decode b_C_due 52 = .ok (.sipush 320, 3) := by decide +kernel
theorem d_C_due_55 : decode b_C_due 55 = .ok (.bipush 20, 2) := by decide +kernel
theorem d_C_due_57 : decode b_C_due 57 = .ok (.iload_n 3, 1) := by decide +kernel
theorem d_C_due_58 : decode b_C_due 58 = .ok (.invokestatic 47, 3) := by decide +kernel
theorem d_C_due_61 : decode b_C_due 61 = .ok (.invokestatic 52, 3) := by decide +kernel
theorem d_C_due_64 : decode b_C_due 64 = .ok (.i2l, 1) := by decide +kernel
theorem d_C_due_65 : decode b_C_due 65 = .ok (.lmul, 1) := by decide +kernel
theorem d_C_due_66 : decode b_C_due 66 = .ok (.ldc2_w 55, 3) := by decide +kernel
theorem d_C_due_69 : decode b_C_due 69 = .ok (.ldiv, 1) := by decide +kernel
theorem d_C_due_70 : decode b_C_due 70 = .ok (.lstore 4, 2) := by decide +kernel
theorem d_C_due_72 : decode b_C_due 72 = .ok (.ldc2_w 57, 3) := by decide +kernel
theorem d_C_due_75 : decode b_C_due 75 = .ok (.ldc2_w 59, 3) := by decide +kernel
theorem d_C_due_78 : decode b_C_due 78 = .ok (.lload 4, 2) := by decide +kernel
theorem d_C_due_80 : decode b_C_due 80 = .ok (.invokestatic 61, 3) := by decide +kernel
theorem d_C_due_83 : decode b_C_due 83 = .ok (.invokestatic 64, 3) := by decide +kernel
theorem d_C_due_86 : decode b_C_due 86 = .ok (.l2i, 1) := by decide +kernel
theorem d_C_due_87 : decode b_C_due 87 = .ok (.ireturn, 1) := by decide +kernel
theorem d_C_ancestor_0 : decode b_C_ancestor 0 = .ok (.iload_n 1, 1) := by decide +kernel
theorem d_C_ancestor_1 : decode b_C_ancestor 1 = .ok (.istore_n 3, 1) := by decide +kernel
theorem d_C_ancestor_2 : decode b_C_ancestor 2 = .ok (.aload_n 0, 1) := by decide +kernel
theorem d_C_ancestor_3 : decode b_C_ancestor 3 = .ok (.getfield 19, 3) := by decide +kernel
theorem d_C_ancestor_6 : decode b_C_ancestor 6 = .ok (.iload_n 3, 1) := by decide +kernel
theorem d_C_ancestor_7 : decode b_C_ancestor 7 = .ok (.iaload, 1) := by decide +kernel
theorem d_C_ancestor_8 : decode b_C_ancestor 8 = .ok (.iload_n 2, 1) := by decide +kernel
theorem d_C_ancestor_9 : decode b_C_ancestor 9 = .ok (.if_icmp .le 13, 3) := by decide +kernel
theorem d_C_ancestor_12 : decode b_C_ancestor 12 = .ok (.aload_n 0, 1) := by decide +kernel
theorem d_C_ancestor_13 : decode b_C_ancestor 13 = .ok (.getfield 15, 3) := by decide +kernel
theorem d_C_ancestor_16 : decode b_C_ancestor 16 = .ok (.iload_n 3, 1) := by decide +kernel
theorem d_C_ancestor_17 : decode b_C_ancestor 17 = .ok (.iaload, 1) := by decide +kernel
theorem d_C_ancestor_18 : decode b_C_ancestor 18 = .ok (.istore_n 3, 1) := by decide +kernel
theorem d_C_ancestor_19 : decode b_C_ancestor 19 = .ok (.goto (-17), 3) := by decide +kernel
theorem d_C_ancestor_22 : decode b_C_ancestor 22 = .ok (.iload_n 3, 1) := by decide +kernel
theorem d_C_ancestor_23 : decode b_C_ancestor 23 = .ok (.ireturn, 1) := by decide +kernel
theorem d_T_refuse_0 : decode b_T_refuse 0 = .ok (.iload_n 1, 1) := by decide +kernel
theorem d_T_refuse_1 : decode b_T_refuse 1 = .ok (.iconst 1, 1) := by decide +kernel
theorem d_T_refuse_2 : decode b_T_refuse 2 = .ok (.aload_n 0, 1) := by decide +kernel
theorem d_T_refuse_3 : decode b_T_refuse 3 = .ok (.getfield 10, 3) := by decide +kernel
theorem d_T_refuse_6 : decode b_T_refuse 6 = .ok (.getfield 16, 3) := by decide +kernel
theorem d_T_refuse_9 : decode b_T_refuse 9 = .ok (.iconst 1, 1) := by decide +kernel
theorem d_T_refuse_10 : decode b_T_refuse 10 = .ok (.isub, 1) := by decide +kernel
theorem d_T_refuse_11 : decode b_T_refuse 11 = .ok (.invokestatic 20, 3) := by decide +kernel
theorem d_T_refuse_14 : decode b_T_refuse 14 = .ok (.ifCond .ne 5, 3) := by decide +kernel
theorem d_T_refuse_17 : decode b_T_refuse 17 = .ok (.iconst (-1), 1) := by decide +kernel
theorem d_T_refuse_18 : decode b_T_refuse 18 = .ok (.ireturn, 1) := by decide +kernel
theorem d_T_refuse_19 : decode b_T_refuse 19 = .ok (.aload_n 0, 1) := by decide +kernel
theorem d_T_refuse_20 : decode b_T_refuse 20 = .ok (.getfield 10, 3) := by decide +kernel
theorem d_T_refuse_23 : decode b_T_refuse 23 = .ok (.iload_n 1, 1) := by decide +kernel
theorem d_T_refuse_24 : decode b_T_refuse 24 = .ok (.invokevirtual 32, 3) := by decide +kernel
theorem d_T_refuse_27 : decode b_T_refuse 27 = .ok (.aload_n 0, 1) := by decide +kernel
theorem d_T_refuse_28 : decode b_T_refuse 28 = .ok (.getfield 10, 3) := by decide +kernel
theorem d_T_refuse_31 : decode b_T_refuse 31 = .ok (.invokevirtual 36, 3) := by decide +kernel
theorem d_T_refuse_34 : decode b_T_refuse 34 = .ok (.ireturn, 1) := by decide +kernel
theorem d_C_refuse_0 : decode b_C_refuse 0 = .ok (.aload_n 0, 1) := by decide +kernel
theorem d_C_refuse_1 : decode b_C_refuse 1 = .ok (.getfield 35, 3) := by decide +kernel
theorem d_C_refuse_4 : decode b_C_refuse 4 = .ok (.iload_n 1, 1) := by decide +kernel
theorem d_C_refuse_5 : decode b_C_refuse 5 = .ok (.iconst 1, 1) := by decide +kernel
theorem d_C_refuse_6 : decode b_C_refuse 6 = .ok (.bastore, 1) := by decide +kernel
theorem d_C_refuse_7 : decode b_C_refuse 7 = .ok (.iload_n 1, 1) := by decide +kernel
theorem d_C_refuse_8 : decode b_C_refuse 8 = .ok (.iconst 1, 1) := by decide +kernel
theorem d_C_refuse_9 : decode b_C_refuse 9 = .ok (.iadd, 1) := by decide +kernel
theorem d_C_refuse_10 : decode b_C_refuse 10 = .ok (.istore_n 2, 1) := by decide +kernel
theorem d_C_refuse_11 : decode b_C_refuse 11 = .ok (.iload_n 2, 1) := by decide +kernel
theorem d_C_refuse_12 : decode b_C_refuse 12 = .ok (.aload_n 0, 1) := by decide +kernel
theorem d_C_refuse_13 : decode b_C_refuse 13 = .ok (.getfield 9, 3) := by decide +kernel
theorem d_C_refuse_16 : decode b_C_refuse 16 = .ok (.if_icmp .ge 30, 3) := by decide +kernel
theorem d_C_refuse_19 : decode b_C_refuse 19 = .ok (.aload_n 0, 1) := by decide +kernel
theorem d_C_refuse_20 : decode b_C_refuse 20 = .ok (.getfield 35, 3) := by decide +kernel
theorem d_C_refuse_23 : decode b_C_refuse 23 = .ok (.aload_n 0, 1) := by decide +kernel
theorem d_C_refuse_24 : decode b_C_refuse 24 = .ok (.getfield 15, 3) := by decide +kernel
theorem d_C_refuse_27 : decode b_C_refuse 27 = .ok (.iload_n 2, 1) := by decide +kernel
theorem d_C_refuse_28 : decode b_C_refuse 28 = .ok (.iaload, 1) := by decide +kernel
theorem d_C_refuse_29 : decode b_C_refuse 29 = .ok (.baload, 1) := by decide +kernel
theorem d_C_refuse_30 : decode b_C_refuse 30 = .ok (.ifCond .eq 10, 3) := by decide +kernel
theorem d_C_refuse_33 : decode b_C_refuse 33 = .ok (.aload_n 0, 1) := by decide +kernel
theorem d_C_refuse_34 : decode b_C_refuse 34 = .ok (.getfield 35, 3) := by decide +kernel
theorem d_C_refuse_37 : decode b_C_refuse 37 = .ok (.iload_n 2, 1) := by decide +kernel
theorem d_C_refuse_38 : decode b_C_refuse 38 = .ok (.iconst 1, 1) := by decide +kernel
theorem d_C_refuse_39 : decode b_C_refuse 39 = .ok (.bastore, 1) := by decide +kernel
theorem d_C_refuse_40 : decode b_C_refuse 40 = .ok (.iinc 2 1, 3) := by decide +kernel
theorem d_C_refuse_43 : decode b_C_refuse 43 = .ok (.goto (-32), 3) := by decide +kernel
theorem d_C_refuse_46 : decode b_C_refuse 46 = .ok (.return_, 1) := by decide +kernel
theorem d_C_best_0 : decode b_C_best 0 = .ok (.iconst 0, 1) := by decide +kernel
theorem d_C_best_1 : decode b_C_best 1 = .ok (.istore_n 1, 1) := by decide +kernel
theorem d_C_best_2 : decode b_C_best 2 = .ok (.iconst 1, 1) := by decide +kernel
theorem d_C_best_3 : decode b_C_best 3 = .ok (.istore_n 2, 1) := by decide +kernel
theorem d_C_best_4 : decode b_C_best 4 = .ok (.iload_n 2, 1) := by decide +kernel
theorem d_C_best_5 : decode b_C_best 5 = .ok (.aload_n 0, 1) := by decide +kernel
theorem d_C_best_6 : decode b_C_best 6 = .ok (.getfield 9, 3) := by decide +kernel
theorem d_C_best_9 : decode b_C_best 9 = .ok (.if_icmp .ge 29, 3) := by decide +kernel
theorem d_C_best_12 : decode b_C_best 12 = .ok (.aload_n 0, 1) := by decide +kernel
theorem d_C_best_13 : decode b_C_best 13 = .ok (.getfield 35, 3) := by decide +kernel
theorem d_C_best_16 : decode b_C_best 16 = .ok (.iload_n 2, 1) := by decide +kernel
theorem d_C_best_17 : decode b_C_best 17 = .ok (.baload, 1) := by decide +kernel
theorem d_C_best_18 : decode b_C_best 18 = .ok (.ifCond .ne 14, 3) := by decide +kernel
theorem d_C_best_21 : decode b_C_best 21 = .ok (.aload_n 0, 1) := by decide +kernel
theorem d_C_best_22 : decode b_C_best 22 = .ok (.iload_n 2, 1) := by decide +kernel
theorem d_C_best_23 : decode b_C_best 23 = .ok (.iload_n 1, 1) := by decide +kernel
theorem d_C_best_24 : decode b_C_best 24 = .ok (.invokevirtual 71, 3) := by decide +kernel
theorem d_C_best_27 : decode b_C_best 27 = .ok (.ifCond .eq 5, 3) := by decide +kernel
theorem d_C_best_30 : decode b_C_best 30 = .ok (.iload_n 2, 1) := by decide +kernel
theorem d_C_best_31 : decode b_C_best 31 = .ok (.istore_n 1, 1) := by decide +kernel
theorem d_C_best_32 : decode b_C_best 32 = .ok (.iinc 2 1, 3) := by decide +kernel
theorem d_C_best_35 : decode b_C_best 35 = .ok (.goto (-31), 3) := by decide +kernel
theorem d_C_best_38 : decode b_C_best 38 = .ok (.iload_n 1, 1) := by decide +kernel
theorem d_C_best_39 : decode b_C_best 39 = .ok (.ireturn, 1) := by decide +kernel
theorem d_C_isBetter_0 : decode b_C_isBetter 0 = .ok (.aload_n 0, 1) := by decide +kernel
theorem d_C_isBetter_1 : decode b_C_isBetter 1 = .ok (.getfield 31, 3) := by decide +kernel
theorem d_C_isBetter_4 : decode b_C_isBetter 4 = .ok (.iload_n 1, 1) := by decide +kernel
theorem d_C_isBetter_5 : decode b_C_isBetter 5 = .ok (.laload, 1) := by decide +kernel
theorem d_C_isBetter_6 : decode b_C_isBetter 6 = .ok (.aload_n 0, 1) := by decide +kernel
theorem d_C_isBetter_7 : decode b_C_isBetter 7 = .ok (.getfield 31, 3) := by decide +kernel
theorem d_C_isBetter_10 : decode b_C_isBetter 10 = .ok (.iload_n 2, 1) := by decide +kernel
theorem d_C_isBetter_11 : decode b_C_isBetter 11 = .ok (.laload, 1) := by decide +kernel
theorem d_C_isBetter_12 : decode b_C_isBetter 12 = .ok (.lcmp, 1) := by decide +kernel
theorem d_C_isBetter_13 : decode b_C_isBetter 13 = .ok (.ifCond .eq 27, 3) := by decide +kernel
theorem d_C_isBetter_16 : decode b_C_isBetter 16 = .ok (.aload_n 0, 1) := by decide +kernel
theorem d_C_isBetter_17 : decode b_C_isBetter 17 = .ok (.getfield 31, 3) := by decide +kernel
theorem d_C_isBetter_20 : decode b_C_isBetter 20 = .ok (.iload_n 1, 1) := by decide +kernel
theorem d_C_isBetter_21 : decode b_C_isBetter 21 = .ok (.laload, 1) := by decide +kernel
theorem d_C_isBetter_22 : decode b_C_isBetter 22 = .ok (.aload_n 0, 1) := by decide +kernel
theorem d_C_isBetter_23 : decode b_C_isBetter 23 = .ok (.getfield 31, 3) := by decide +kernel
theorem d_C_isBetter_26 : decode b_C_isBetter 26 = .ok (.iload_n 2, 1) := by decide +kernel
theorem d_C_isBetter_27 : decode b_C_isBetter 27 = .ok (.laload, 1) := by decide +kernel
theorem d_C_isBetter_28 : decode b_C_isBetter 28 = .ok (.lcmp, 1) := by decide +kernel
theorem d_C_isBetter_29 : decode b_C_isBetter 29 = .ok (.ifCond .le 7, 3) := by decide +kernel
theorem d_C_isBetter_32 : decode b_C_isBetter 32 = .ok (.iconst 1, 1) := by decide +kernel
theorem d_C_isBetter_33 : decode b_C_isBetter 33 = .ok (.goto 27, 3) := by decide +kernel
theorem d_C_isBetter_36 : decode b_C_isBetter 36 = .ok (.iconst 0, 1) := by decide +kernel
theorem d_C_isBetter_37 : decode b_C_isBetter 37 = .ok (.goto 23, 3) := by decide +kernel
theorem d_C_isBetter_40 : decode b_C_isBetter 40 = .ok (.aload_n 0, 1) := by decide +kernel
theorem d_C_isBetter_41 : decode b_C_isBetter 41 = .ok (.getfield 28, 3) := by decide +kernel
theorem d_C_isBetter_44 : decode b_C_isBetter 44 = .ok (.iload_n 1, 1) := by decide +kernel
theorem d_C_isBetter_45 : decode b_C_isBetter 45 = .ok (.iaload, 1) := by decide +kernel
theorem d_C_isBetter_46 : decode b_C_isBetter 46 = .ok (.aload_n 0, 1) := by decide +kernel
theorem d_C_isBetter_47 : decode b_C_isBetter 47 = .ok (.getfield 28, 3) := by decide +kernel
theorem d_C_isBetter_50 : decode b_C_isBetter 50 = .ok (.iload_n 2, 1) := by decide +kernel
theorem d_C_isBetter_51 : decode b_C_isBetter 51 = .ok (.iaload, 1) := by decide +kernel
theorem d_C_isBetter_52 : decode b_C_isBetter 52 = .ok (.if_icmp .ge 7, 3) := by decide +kernel
theorem d_C_isBetter_55 : decode b_C_isBetter 55 = .ok (.iconst 1, 1) := by decide +kernel
theorem d_C_isBetter_56 : decode b_C_isBetter 56 = .ok (.goto 4, 3) := by decide +kernel
theorem d_C_isBetter_59 : decode b_C_isBetter 59 = .ok (.iconst 0, 1) := by decide +kernel
theorem d_C_isBetter_60 : decode b_C_isBetter 60 = .ok (.ireturn, 1) := by decide +kernel
theorem d_T_best_0 : decode b_T_best 0 = .ok (.aload_n 0, 1) := by decide +kernel
theorem d_T_best_1 : decode b_T_best 1 = .ok (.getfield 10, 3) := by decide +kernel
theorem d_T_best_4 : decode b_T_best 4 = .ok (.invokevirtual 36, 3) := by decide +kernel
theorem d_T_best_7 : decode b_T_best 7 = .ok (.ireturn, 1) := by decide +kernel
theorem d_T_fork_0 : decode b_T_fork 0 = .ok (.iload_n 1, 1) := by decide +kernel
theorem d_T_fork_1 : decode b_T_fork 1 = .ok (.iconst 0, 1) := by decide +kernel
theorem d_T_fork_2 : decode b_T_fork 2 = .ok (.aload_n 0, 1) := by decide +kernel
theorem d_T_fork_3 : decode b_T_fork 3 = .ok (.getfield 10, 3) := by decide +kernel
theorem d_T_fork_6 : decode b_T_fork 6 = .ok (.getfield 16, 3) := by decide +kernel
theorem d_T_fork_9 : decode b_T_fork 9 = .ok (.iconst 1, 1) := by decide +kernel
theorem d_T_fork_10 : decode b_T_fork 10 = .ok (.isub, 1) := by decide +kernel
theorem d_T_fork_11 : decode b_T_fork 11 = .ok (.invokestatic 20, 3) := by decide +kernel
theorem d_T_fork_14 : decode b_T_fork 14 = .ok (.ifCond .eq 32, 3) := by decide +kernel
theorem d_T_fork_17 : decode b_T_fork 17 = .ok (.iload_n 2, 1) := by decide +kernel
theorem d_T_fork_18 : decode b_T_fork 18 = .ok (.iconst 0, 1) := by decide +kernel
theorem d_T_fork_19 : decode b_T_fork 19 = .ok (.aload_n 0, 1) := by decide +kernel
theorem d_T_fork_20 : decode b_T_fork 20 = .ok (.getfield 10, 3) := by decide +kernel
theorem d_T_fork_23 : decode b_T_fork 23 = .ok (.getfield 16, 3) := by decide +kernel
theorem d_T_fork_26 : decode b_T_fork 26 = .ok (.iconst 1, 1) := by decide +kernel
theorem d_T_fork_27 : decode b_T_fork 27 = .ok (.isub, 1) := by decide +kernel
theorem d_T_fork_28 : decode b_T_fork 28 = .ok (.invokestatic 20, 3) := by decide +kernel
theorem d_T_fork_31 : decode b_T_fork 31 = .ok (.ifCond .eq 15, 3) := by decide +kernel
theorem d_T_fork_34 : decode b_T_fork 34 = .ok (.aload_n 0, 1) := by decide +kernel
theorem d_T_fork_35 : decode b_T_fork 35 = .ok (.getfield 10, 3) := by decide +kernel
theorem d_T_fork_38 : decode b_T_fork 38 = .ok (.iload_n 1, 1) := by decide +kernel
theorem d_T_fork_39 : decode b_T_fork 39 = .ok (.iload_n 2, 1) := by decide +kernel
theorem d_T_fork_40 : decode b_T_fork 40 = .ok (.invokevirtual 40, 3) := by decide +kernel
theorem d_T_fork_43 : decode b_T_fork 43 = .ok (.goto 5, 3) := by decide +kernel
theorem d_T_fork_46 : decode b_T_fork 46 = .ok (.bipush (-2), 2) := by decide +kernel
theorem d_T_fork_48 : decode b_T_fork 48 = .ok (.ireturn, 1) := by decide +kernel
theorem d_C_fork_0 : decode b_C_fork 0 = .ok (.iload_n 1, 1) := by decide +kernel
theorem d_C_fork_1 : decode b_C_fork 1 = .ok (.istore_n 3, 1) := by decide +kernel
theorem d_C_fork_2 : decode b_C_fork 2 = .ok (.iload_n 2, 1) := by decide +kernel
theorem d_C_fork_3 : decode b_C_fork 3 = .ok (.istore 4, 2) := by decide +kernel
theorem d_C_fork_5 : decode b_C_fork 5 = .ok (.iload_n 3, 1) := by decide +kernel
theorem d_C_fork_6 : decode b_C_fork 6 = .ok (.iload 4, 2) := by decide +kernel
theorem d_C_fork_8 : decode b_C_fork 8 = .ok (.if_icmp .eq 31, 3) := by decide +kernel
theorem d_C_fork_11 : decode b_C_fork 11 = .ok (.iload_n 3, 1) := by decide +kernel
theorem d_C_fork_12 : decode b_C_fork 12 = .ok (.iload 4, 2) := by decide +kernel
theorem d_C_fork_14 : decode b_C_fork 14 = .ok (.if_icmp .le 13, 3) := by decide +kernel
theorem d_C_fork_17 : decode b_C_fork 17 = .ok (.aload_n 0, 1) := by decide +kernel
theorem d_C_fork_18 : decode b_C_fork 18 = .ok (.getfield 15, 3) := by decide +kernel
theorem d_C_fork_21 : decode b_C_fork 21 = .ok (.iload_n 3, 1) := by decide +kernel
theorem d_C_fork_22 : decode b_C_fork 22 = .ok (.iaload, 1) := by decide +kernel
theorem d_C_fork_23 : decode b_C_fork 23 = .ok (.istore_n 3, 1) := by decide +kernel
theorem d_C_fork_24 : decode b_C_fork 24 = .ok (.goto (-19), 3) := by decide +kernel
theorem d_C_fork_27 : decode b_C_fork 27 = .ok (.aload_n 0, 1) := by decide +kernel
theorem d_C_fork_28 : decode b_C_fork 28 = .ok (.getfield 15, 3) := by decide +kernel
theorem d_C_fork_31 : decode b_C_fork 31 = .ok (.iload 4, 2) := by decide +kernel
theorem d_C_fork_33 : decode b_C_fork 33 = .ok (.iaload, 1) := by decide +kernel
theorem d_C_fork_34 : decode b_C_fork 34 = .ok (.istore 4, 2) := by decide +kernel
theorem d_C_fork_36 : decode b_C_fork 36 = .ok (.goto (-31), 3) := by decide +kernel
theorem d_C_fork_39 : decode b_C_fork 39 = .ok (.iload_n 3, 1) := by decide +kernel
theorem d_C_fork_40 : decode b_C_fork 40 = .ok (.ireturn, 1) := by decide +kernel
theorem d_T_due_0 : decode b_T_due 0 = .ok (.iload_n 1, 1) := by decide +kernel
theorem d_T_due_1 : decode b_T_due 1 = .ok (.iconst 0, 1) := by decide +kernel
theorem d_T_due_2 : decode b_T_due 2 = .ok (.aload_n 0, 1) := by decide +kernel
theorem d_T_due_3 : decode b_T_due 3 = .ok (.getfield 10, 3) := by decide +kernel
theorem d_T_due_6 : decode b_T_due 6 = .ok (.getfield 16, 3) := by decide +kernel
theorem d_T_due_9 : decode b_T_due 9 = .ok (.iconst 1, 1) := by decide +kernel
theorem d_T_due_10 : decode b_T_due 10 = .ok (.isub, 1) := by decide +kernel
theorem d_T_due_11 : decode b_T_due 11 = .ok (.invokestatic 20, 3) := by decide +kernel
theorem d_T_due_14 : decode b_T_due 14 = .ok (.ifCond .eq 14, 3) := by decide +kernel
theorem d_T_due_17 : decode b_T_due 17 = .ok (.aload_n 0, 1) := by decide +kernel
theorem d_T_due_18 : decode b_T_due 18 = .ok (.getfield 10, 3) := by decide +kernel
theorem d_T_due_21 : decode b_T_due 21 = .ok (.iload_n 1, 1) := by decide +kernel
theorem d_T_due_22 : decode b_T_due 22 = .ok (.invokevirtual 44, 3) := by decide +kernel
theorem d_T_due_25 : decode b_T_due 25 = .ok (.goto 5, 3) := by decide +kernel
theorem d_T_due_28 : decode b_T_due 28 = .ok (.bipush (-2), 2) := by decide +kernel
theorem d_T_due_30 : decode b_T_due 30 = .ok (.ireturn, 1) := by decide +kernel
theorem d_T_median_0 : decode b_T_median 0 = .ok (.iload_n 1, 1) := by decide +kernel
theorem d_T_median_1 : decode b_T_median 1 = .ok (.iconst 0, 1) := by decide +kernel
theorem d_T_median_2 : decode b_T_median 2 = .ok (.aload_n 0, 1) := by decide +kernel
theorem d_T_median_3 : decode b_T_median 3 = .ok (.getfield 10, 3) := by decide +kernel
theorem d_T_median_6 : decode b_T_median 6 = .ok (.getfield 16, 3) := by decide +kernel
theorem d_T_median_9 : decode b_T_median 9 = .ok (.iconst 1, 1) := by decide +kernel
theorem d_T_median_10 : decode b_T_median 10 = .ok (.isub, 1) := by decide +kernel
theorem d_T_median_11 : decode b_T_median 11 = .ok (.invokestatic 20, 3) := by decide +kernel
theorem d_T_median_14 : decode b_T_median 14 = .ok (.ifCond .eq 14, 3) := by decide +kernel
theorem d_T_median_17 : decode b_T_median 17 = .ok (.aload_n 0, 1) := by decide +kernel
theorem d_T_median_18 : decode b_T_median 18 = .ok (.getfield 10, 3) := by decide +kernel
theorem d_T_median_21 : decode b_T_median 21 = .ok (.iload_n 1, 1) := by decide +kernel
theorem d_T_median_22 : decode b_T_median 22 = .ok (.invokevirtual 24, 3) := by decide +kernel
theorem d_T_median_25 : decode b_T_median 25 = .ok (.goto 5, 3) := by decide +kernel
theorem d_T_median_28 : decode b_T_median 28 = .ok (.bipush (-2), 2) := by decide +kernel
theorem d_T_median_30 : decode b_T_median 30 = .ok (.ireturn, 1) := by decide +kernel
theorem d_T_ancestor_0 : decode b_T_ancestor 0 = .ok (.iload_n 1, 1) := by decide +kernel
theorem d_T_ancestor_1 : decode b_T_ancestor 1 = .ok (.iconst 0, 1) := by decide +kernel
theorem d_T_ancestor_2 : decode b_T_ancestor 2 = .ok (.aload_n 0, 1) := by decide +kernel
theorem d_T_ancestor_3 : decode b_T_ancestor 3 = .ok (.getfield 10, 3) := by decide +kernel
theorem d_T_ancestor_6 : decode b_T_ancestor 6 = .ok (.getfield 16, 3) := by decide +kernel
theorem d_T_ancestor_9 : decode b_T_ancestor 9 = .ok (.iconst 1, 1) := by decide +kernel
theorem d_T_ancestor_10 : decode b_T_ancestor 10 = .ok (.isub, 1) := by decide +kernel
theorem d_T_ancestor_11 : decode b_T_ancestor 11 = .ok (.invokestatic 20, 3) := by decide +kernel
theorem d_T_ancestor_14 : decode b_T_ancestor 14 = .ok (.ifCond .eq 20, 3) := by decide +kernel
theorem d_T_ancestor_17 : decode b_T_ancestor 17 = .ok (.iload_n 2, 1) := by decide +kernel
theorem d_T_ancestor_18 : decode b_T_ancestor 18 = .ok (.iconst 0, 1) := by decide +kernel
theorem d_T_ancestor_19 : decode b_T_ancestor 19 = .ok (.aload_n 0, 1) := by decide +kernel
theorem d_T_ancestor_20 : decode b_T_ancestor 20 = .ok (.getfield 10, 3) := by decide +kernel
theorem d_T_ancestor_23 : decode b_T_ancestor 23 = .ok (.getfield 47, 3) := by decide +kernel
theorem d_T_ancestor_26 : decode b_T_ancestor 26 = .ok (.iload_n 1, 1) := by decide +kernel
theorem d_T_ancestor_27 : decode b_T_ancestor 27 = .ok (.iaload, 1) := by decide +kernel
theorem d_T_ancestor_28 : decode b_T_ancestor 28 = .ok (.invokestatic 20, 3) := by decide +kernel
theorem d_T_ancestor_31 : decode b_T_ancestor 31 = .ok (.ifCond .ne 6, 3) := by decide +kernel
theorem d_T_ancestor_34 : decode b_T_ancestor 34 = .ok (.bipush (-2), 2) := by decide +kernel
theorem d_T_ancestor_36 : decode b_T_ancestor 36 = .ok (.ireturn, 1) := by decide +kernel
theorem d_T_ancestor_37 : decode b_T_ancestor 37 = .ok (.aload_n 0, 1) := by decide +kernel
theorem d_T_ancestor_38 : decode b_T_ancestor 38 = .ok (.getfield 10, 3) := by decide +kernel
theorem d_T_ancestor_41 : decode b_T_ancestor 41 = .ok (.iload_n 1, 1) := by decide +kernel
theorem d_T_ancestor_42 : decode b_T_ancestor 42 = .ok (.iload_n 2, 1) := by decide +kernel
theorem d_T_ancestor_43 : decode b_T_ancestor 43 = .ok (.invokevirtual 51, 3) := by decide +kernel
theorem d_T_ancestor_46 : decode b_T_ancestor 46 = .ok (.ireturn, 1) := by decide +kernel
theorem d_T_look_0 : decode b_T_look 0 = .ok (.iload_n 2, 1) := by decide +kernel
theorem d_T_look_1 : decode b_T_look 1 = .ok (.iconst 0, 1) := by decide +kernel
theorem d_T_look_2 : decode b_T_look 2 = .ok (.iconst 5, 1) := by decide +kernel
theorem d_T_look_3 : decode b_T_look 3 = .ok (.invokestatic 20, 3) := by decide +kernel
theorem d_T_look_6 : decode b_T_look 6 = .ok (.ifCond .ne 7, 3) := by decide +kernel
theorem d_T_look_9 : decode b_T_look 9 = .ok (.ldc2_w 54, 3) := by decide +kernel
theorem d_T_look_12 : decode b_T_look 12 = .ok (.lreturn, 1) := by decide +kernel
theorem d_T_look_13 : decode b_T_look 13 = .ok (.iload_n 1, 1) := by decide +kernel
theorem d_T_look_14 : decode b_T_look 14 = .ok (.iconst 0, 1) := by decide +kernel
theorem d_T_look_15 : decode b_T_look 15 = .ok (.aload_n 0, 1) := by decide +kernel
theorem d_T_look_16 : decode b_T_look 16 = .ok (.getfield 10, 3) := by decide +kernel
theorem d_T_look_19 : decode b_T_look 19 = .ok (.getfield 16, 3) := by decide +kernel
theorem d_T_look_22 : decode b_T_look 22 = .ok (.iconst 1, 1) := by decide +kernel
theorem d_T_look_23 : decode b_T_look 23 = .ok (.isub, 1) := by decide +kernel
theorem d_T_look_24 : decode b_T_look 24 = .ok (.invokestatic 20, 3) := by decide +kernel
theorem d_T_look_27 : decode b_T_look 27 = .ok (.ifCond .ne 7, 3) := by decide +kernel
theorem d_T_look_30 : decode b_T_look 30 = .ok (.ldc2_w 56, 3) := by decide +kernel
theorem d_T_look_33 : decode b_T_look 33 = .ok (.lreturn, 1) := by decide +kernel
theorem d_T_look_34 : decode b_T_look 34 = .ok (.iload_n 2, 1) := by decide +kernel
theorem d_T_look_35 : decode b_T_look 35 = .ok (.tableswitch 97 0 4 #[33, 44, 65, 76, 87], 33) := by decide +kernel
theorem d_T_look_68 : decode b_T_look 68 = .ok (.aload_n 0, 1) := by decide +kernel
theorem d_T_look_69 : decode b_T_look 69 = .ok (.getfield 10, 3) := by decide +kernel
theorem d_T_look_72 : decode b_T_look 72 = .ok (.getfield 47, 3) := by decide +kernel
theorem d_T_look_75 : decode b_T_look 75 = .ok (.iload_n 1, 1) := by decide +kernel
theorem d_T_look_76 : decode b_T_look 76 = .ok (.iaload, 1) := by decide +kernel
theorem d_T_look_77 : decode b_T_look 77 = .ok (.i2l, 1) := by decide +kernel
theorem d_T_look_78 : decode b_T_look 78 = .ok (.lreturn, 1) := by decide +kernel
theorem d_T_look_79 : decode b_T_look 79 = .ok (.iload_n 1, 1) := by decide +kernel
theorem d_T_look_80 : decode b_T_look 80 = .ok (.ifCond .ne 9, 3) := by decide +kernel
theorem d_T_look_83 : decode b_T_look 83 = .ok (.ldc2_w 56, 3) := by decide +kernel
theorem d_T_look_86 : decode b_T_look 86 = .ok (.goto 13, 3) := by decide +kernel
theorem d_T_look_89 : decode b_T_look 89 = .ok (.aload_n 0, 1) := by decide +kernel
theorem d_T_look_90 : decode b_T_look 90 = .ok (.getfield 10, 3) := by decide +kernel
theorem d_T_look_93 : decode b_T_look 93 = .ok (.getfield 58, 3) := by decide +kernel
theorem d_T_look_96 : decode b_T_look 96 = .ok (.iload_n 1, 1) := by decide +kernel
theorem d_T_look_97 : decode b_T_look 97 = .ok (.iaload, 1) := by decide +kernel
end
section
theorem d_T_look_98 : decode b_T_look 98 = .ok (.i2l, 1) := by decide +kernel
theorem d_T_look_99 : decode b_T_look 99 = .ok (.lreturn, 1) := by decide +kernel
theorem d_T_look_100 : decode b_T_look 100 = .ok (.aload_n 0, 1) := by decide +kernel
theorem d_T_look_101 : decode b_T_look 101 = .ok (.getfield 10, 3) := by decide +kernel
theorem d_T_look_104 : decode b_T_look 104 = .ok (.getfield 61, 3) := by decide +kernel
theorem d_T_look_107 : decode b_T_look 107 = .ok (.iload_n 1, 1) := by decide +kernel
theorem d_T_look_108 : decode b_T_look 108 = .ok (.iaload, 1) := by decide +kernel
theorem d_T_look_109 : decode b_T_look 109 = .ok (.i2l, 1) := by decide +kernel
theorem d_T_look_110 : decode b_T_look 110 = .ok (.lreturn, 1) := by decide +kernel
theorem d_T_look_111 : decode b_T_look 111 = .ok (.aload_n 0, 1) := by decide +kernel
theorem d_T_look_112 : decode b_T_look 112 = .ok (.getfield 10, 3) := by decide +kernel
theorem d_T_look_115 : decode b_T_look 115 = .ok (.getfield 64, 3) := by decide +kernel
theorem d_T_look_118 : decode b_T_look 118 = .ok (.iload_n 1, 1) := by decide +kernel
theorem d_T_look_119 : decode b_T_look 119 = .ok (.iaload, 1) := by decide +kernel
theorem d_T_look_120 : decode b_T_look 120 = .ok (.i2l, 1) := by decide +kernel
theorem d_T_look_121 : decode b_T_look 121 = .ok (.lreturn, 1) := by decide +kernel
theorem d_T_look_122 : decode b_T_look 122 = .ok (.aload_n 0, 1) := by decide +kernel
theorem d_T_look_123 : decode b_T_look 123 = .ok (.getfield 10, 3) := by decide +kernel
theorem d_T_look_126 : decode b_T_look 126 = .ok (.getfield 67, 3) := by decide +kernel
theorem d_T_look_129 : decode b_T_look 129 = .ok (.iload_n 1, 1) := by decide +kernel
theorem d_T_look_130 : decode b_T_look 130 = .ok (.laload, 1) := by decide +kernel
theorem d_T_look_131 : decode b_T_look 131 = .ok (.lreturn, 1) := by decide +kernel
theorem d_T_look_132 : decode b_T_look 132 = .ok (.aload_n 0, 1) := by decide +kernel
theorem d_T_look_133 : decode b_T_look 133 = .ok (.getfield 10, 3) := by decide +kernel
theorem d_T_look_136 : decode b_T_look 136 = .ok (.getfield 71, 3) := by decide +kernel
theorem d_T_look_139 : decode b_T_look 139 = .ok (.iload_n 1, 1) := by decide +kernel
theorem d_T_look_140 : decode b_T_look 140 = .ok (.baload, 1) := by decide +kernel
theorem d_T_look_141 : decode b_T_look 141 = .ok (.ifCond .eq 7, 3) := by decide +kernel
theorem d_T_look_144 : decode b_T_look 144 = .ok (.lconst 1, 1) := by decide +kernel
theorem d_T_look_145 : decode b_T_look 145 = .ok (.goto 4, 3) := by decide +kernel
theorem d_T_look_148 : decode b_T_look 148 = .ok (.lconst 0, 1) := by decide +kernel
theorem d_T_look_149 : decode b_T_look 149 = .ok (.lreturn, 1) := by decide +kernel
theorem d_T_blocks_0 : decode b_T_blocks 0 = .ok (.aload_n 0, 1) := by decide +kernel
theorem d_T_blocks_1 : decode b_T_blocks 1 = .ok (.getfield 10, 3) := by decide +kernel
theorem d_T_blocks_4 : decode b_T_blocks 4 = .ok (.getfield 16, 3) := by decide +kernel
theorem d_T_blocks_7 : decode b_T_blocks 7 = .ok (.ireturn, 1) := by decide +kernel
theorem d_M_init_0 : decode b_M_init 0 = .ok (.aload_n 0, 1) := by decide +kernel
theorem d_M_init_1 : decode b_M_init 1 = .ok (.invokespecial 1, 3) := by decide +kernel
theorem d_M_init_4 : decode b_M_init 4 = .ok (.aload_n 0, 1) := by decide +kernel
theorem d_M_init_5 : decode b_M_init 5 = .ok (.sipush 512, 3) := by decide +kernel
theorem d_M_init_8 : decode b_M_init 8 = .ok (.newarray .int, 2) := by decide +kernel
theorem d_M_init_10 : decode b_M_init 10 = .ok (.putfield 9, 3) := by decide +kernel
theorem d_M_init_13 : decode b_M_init 13 = .ok (.aload_n 0, 1) := by decide +kernel
theorem d_M_init_14 : decode b_M_init 14 = .ok (.sipush 512, 3) := by decide +kernel
theorem d_M_init_17 : decode b_M_init 17 = .ok (.newarray .int, 2) := by decide +kernel
theorem d_M_init_19 : decode b_M_init 19 = .ok (.putfield 13, 3) := by decide +kernel
theorem d_M_init_22 : decode b_M_init 22 = .ok (.aload_n 0, 1) := by decide +kernel
theorem d_M_init_23 : decode b_M_init 23 = .ok (.sipush 512, 3) := by decide +kernel
theorem d_M_init_26 : decode b_M_init 26 = .ok (.newarray .int, 2) := by decide +kernel
theorem d_M_init_28 : decode b_M_init 28 = .ok (.putfield 16, 3) := by decide +kernel
theorem d_M_init_31 : decode b_M_init 31 = .ok (.aload_n 0, 1) := by decide +kernel
theorem d_M_init_32 : decode b_M_init 32 = .ok (.sipush 512, 3) := by decide +kernel
theorem d_M_init_35 : decode b_M_init 35 = .ok (.newarray .int, 2) := by decide +kernel
theorem d_M_init_37 : decode b_M_init 37 = .ok (.putfield 19, 3) := by decide +kernel
theorem d_M_init_40 : decode b_M_init 40 = .ok (.aload_n 0, 1) := by decide +kernel
theorem d_M_init_41 : decode b_M_init 41 = .ok (.sipush 512, 3) := by decide +kernel
theorem d_M_init_44 : decode b_M_init 44 = .ok (.newarray .long, 2) := by decide +kernel
theorem d_M_init_46 : decode b_M_init 46 = .ok (.putfield 22, 3) := by decide +kernel
theorem d_M_init_49 : decode b_M_init 49 = .ok (.aload_n 0, 1) := by decide +kernel
theorem d_M_init_50 : decode b_M_init 50 = .ok (.sipush 512, 3) := by decide +kernel
theorem d_M_init_53 : decode b_M_init 53 = .ok (.newarray .int, 2) := by decide +kernel
theorem d_M_init_55 : decode b_M_init 55 = .ok (.putfield 26, 3) := by decide +kernel
theorem d_M_init_58 : decode b_M_init 58 = .ok (.aload_n 0, 1) := by decide +kernel
theorem d_M_init_59 : decode b_M_init 59 = .ok (.sipush 512, 3) := by decide +kernel
theorem d_M_init_62 : decode b_M_init 62 = .ok (.newarray .boolean, 2) := by decide +kernel
theorem d_M_init_64 : decode b_M_init 64 = .ok (.putfield 29, 3) := by decide +kernel
theorem d_M_init_67 : decode b_M_init 67 = .ok (.aload_n 0, 1) := by decide +kernel
theorem d_M_init_68 : decode b_M_init 68 = .ok (.bipush 7, 2) := by decide +kernel
theorem d_M_init_70 : decode b_M_init 70 = .ok (.newarray .int, 2) := by decide +kernel
theorem d_M_init_72 : decode b_M_init 72 = .ok (.putfield 33, 3) := by decide +kernel
theorem d_M_init_75 : decode b_M_init 75 = .ok (.aload_n 0, 1) := by decide +kernel
theorem d_M_init_76 : decode b_M_init 76 = .ok (.iconst 1, 1) := by decide +kernel
theorem d_M_init_77 : decode b_M_init 77 = .ok (.putfield 36, 3) := by decide +kernel
theorem d_M_init_80 : decode b_M_init 80 = .ok (.aload_n 0, 1) := by decide +kernel
theorem d_M_init_81 : decode b_M_init 81 = .ok (.getfield 9, 3) := by decide +kernel
theorem d_M_init_84 : decode b_M_init 84 = .ok (.iconst 0, 1) := by decide +kernel
theorem d_M_init_85 : decode b_M_init 85 = .ok (.bipush (-2), 2) := by decide +kernel
theorem d_M_init_87 : decode b_M_init 87 = .ok (.iastore, 1) := by decide +kernel
theorem d_M_init_88 : decode b_M_init 88 = .ok (.aload_n 0, 1) := by decide +kernel
theorem d_M_init_89 : decode b_M_init 89 = .ok (.getfield 19, 3) := by decide +kernel
theorem d_M_init_92 : decode b_M_init 92 = .ok (.iconst 0, 1) := by decide +kernel
theorem d_M_init_93 : decode b_M_init 93 = .ok (.ldc 40, 2) := by decide +kernel
theorem d_M_init_95 : decode b_M_init 95 = .ok (.iastore, 1) := by decide +kernel
theorem d_M_init_96 : decode b_M_init 96 = .ok (.return_, 1) := by decide +kernel
theorem d_M_add_0 : decode b_M_add 0 = .ok (.aload_n 0, 1) := by decide +kernel
theorem d_M_add_1 : decode b_M_add 1 = .ok (.iload_n 1, 1) := by decide +kernel
theorem d_M_add_2 : decode b_M_add 2 = .ok (.invokevirtual 41, 3) := by decide +kernel
theorem d_M_add_5 : decode b_M_add 5 = .ok (.ifCond .eq 16, 3) := by decide +kernel
theorem d_M_add_8 : decode b_M_add 8 = .ok (.iload_n 2, 1) := by decide +kernel
theorem d_M_add_9 : decode b_M_add 9 = .ok (.aload_n 0, 1) := by decide +kernel
theorem d_M_add_10 : decode b_M_add 10 = .ok (.iload_n 1, 1) := by decide +kernel
theorem d_M_add_11 : decode b_M_add 11 = .ok (.invokevirtual 45, 3) := by decide +kernel
theorem d_M_add_14 : decode b_M_add 14 = .ok (.if_icmp .le 7, 3) := by decide +kernel
theorem d_M_add_17 : decode b_M_add 17 = .ok (.iload_n 3, 1) := by decide +kernel
theorem d_M_add_18 : decode b_M_add 18 = .ok (.ifCond .ge 5, 3) := by decide +kernel
theorem d_M_add_21 : decode b_M_add 21 = .ok (.iconst (-1), 1) := by decide +kernel
theorem d_M_add_22 : decode b_M_add 22 = .ok (.ireturn, 1) := by decide +kernel
theorem d_M_add_23 : decode b_M_add 23 = .ok (.aload_n 0, 1) := by decide +kernel
theorem d_M_add_24 : decode b_M_add 24 = .ok (.getfield 36, 3) := by decide +kernel
theorem d_M_add_27 : decode b_M_add 27 = .ok (.sipush 512, 3) := by decide +kernel
theorem d_M_add_30 : decode b_M_add 30 = .ok (.if_icmp .ne 6, 3) := by decide +kernel
theorem d_M_add_33 : decode b_M_add 33 = .ok (.bipush (-3), 2) := by decide +kernel
theorem d_M_add_35 : decode b_M_add 35 = .ok (.ireturn, 1) := by decide +kernel
theorem d_M_add_36 : decode b_M_add 36 = .ok (.aload_n 0, 1) := by decide +kernel
theorem d_M_add_37 : decode b_M_add 37 = .ok (.getfield 36, 3) := by decide +kernel
theorem d_M_add_40 : decode b_M_add 40 = .ok (.istore 4, 2) := by decide +kernel
theorem d_M_add_42 : decode b_M_add 42 = .ok (.aload_n 0, 1) := by decide +kernel
theorem d_M_add_43 : decode b_M_add 43 = .ok (.getfield 9, 3) := by decide +kernel
theorem d_M_add_46 : decode b_M_add 46 = .ok (.iload 4, 2) := by decide +kernel
theorem d_M_add_48 : decode b_M_add 48 = .ok (.iload_n 1, 1) := by decide +kernel
theorem d_M_add_49 : decode b_M_add 49 = .ok (.iastore, 1) := by decide +kernel
theorem d_M_add_50 : decode b_M_add 50 = .ok (.aload_n 0, 1) := by decide +kernel
theorem d_M_add_51 : decode b_M_add 51 = .ok (.getfield 16, 3) := by decide +kernel
theorem d_M_add_54 : decode b_M_add 54 = .ok (.iload 4, 2) := by decide +kernel
theorem d_M_add_56 : decode b_M_add 56 = .ok (.iload_n 2, 1) := by decide +kernel
theorem d_M_add_57 : decode b_M_add 57 = .ok (.iastore, 1) := by decide +kernel
theorem d_M_add_58 : decode b_M_add 58 = .ok (.aload_n 0, 1) := by decide +kernel
theorem d_M_add_59 : decode b_M_add 59 = .ok (.getfield 26, 3) := by decide +kernel
theorem d_M_add_62 : decode b_M_add 62 = .ok (.iload 4, 2) := by decide +kernel
theorem d_M_add_64 : decode b_M_add 64 = .ok (.iload_n 3, 1) := by decide +kernel
theorem d_M_add_65 : decode b_M_add 65 = .ok (.iastore, 1) := by decide +kernel
theorem d_M_add_66 : decode b_M_add 66 = .ok (.aload_n 0, 1) := by decide +kernel
theorem d_M_add_67 : decode b_M_add 67 = .ok (.getfield 13, 3) := by decide +kernel
theorem d_M_add_70 : decode b_M_add 70 = .ok (.iload 4, 2) := by decide +kernel
theorem d_M_add_72 : decode b_M_add 72 = .ok (.aload_n 0, 1) := by decide +kernel
theorem d_M_add_73 : decode b_M_add 73 = .ok (.getfield 13, 3) := by decide +kernel
theorem d_M_add_76 : decode b_M_add 76 = .ok (.iload_n 1, 1) := by decide +kernel
theorem d_M_add_77 : decode b_M_add 77 = .ok (.iaload, 1) := by decide +kernel
theorem d_M_add_78 : decode b_M_add 78 = .ok (.iconst 1, 1) := by decide +kernel
theorem d_M_add_79 : decode b_M_add 79 = .ok (.iadd, 1) := by decide +kernel
theorem d_M_add_80 : decode b_M_add 80 = .ok (.iastore, 1) := by decide +kernel
theorem d_M_add_81 : decode b_M_add 81 = .ok (.aload_n 0, 1) := by decide +kernel
theorem d_M_add_82 : decode b_M_add 82 = .ok (.getfield 19, 3) := by decide +kernel
theorem d_M_add_85 : decode b_M_add 85 = .ok (.iload 4, 2) := by decide +kernel
theorem d_M_add_87 : decode b_M_add 87 = .ok (.aload_n 0, 1) := by decide +kernel
theorem d_M_add_88 : decode b_M_add 88 = .ok (.iload_n 1, 1) := by decide +kernel
theorem d_M_add_89 : decode b_M_add 89 = .ok (.invokevirtual 49, 3) := by decide +kernel
theorem d_M_add_92 : decode b_M_add 92 = .ok (.iastore, 1) := by decide +kernel
theorem d_M_add_93 : decode b_M_add 93 = .ok (.aload_n 0, 1) := by decide +kernel
theorem d_M_add_94 : decode b_M_add 94 = .ok (.getfield 22, 3) := by decide +kernel
theorem d_M_add_97 : decode b_M_add 97 = .ok (.iload 4, 2) := by decide +kernel
theorem d_M_add_99 : decode b_M_add 99 = .ok (.aload_n 0, 1) := by decide +kernel
theorem d_M_add_100 : decode b_M_add 100 = .ok (.getfield 22, 3) := by decide +kernel
theorem d_M_add_103 : decode b_M_add 103 = .ok (.iload_n 1, 1) := by decide +kernel
theorem d_M_add_104 : decode b_M_add 104 = .ok (.laload, 1) := by decide +kernel
theorem d_M_add_105 : decode b_M_add 105 = .ok (.ldc 52, 2) := by decide +kernel
theorem d_M_add_107 : decode b_M_add 107 = .ok (.aload_n 0, 1) := by decide +kernel
theorem d_M_add_108 : decode b_M_add 108 = .ok (.getfield 19, 3) := by decide +kernel
theorem d_M_add_111 : decode b_M_add 111 = .ok (.iload 4, 2) := by decide +kernel
theorem d_M_add_113 : decode b_M_add 113 = .ok (.iaload, 1) := by decide +kernel
theorem d_M_add_114 : decode b_M_add 114 = .ok (.idiv, 1) := by decide +kernel
theorem d_M_add_115 : decode b_M_add 115 = .ok (.i2l, 1) := by decide +kernel
theorem d_M_add_116 : decode b_M_add 116 = .ok (.ladd, 1) := by decide +kernel
theorem d_M_add_117 : decode b_M_add 117 = .ok (.lastore, 1) := by decide +kernel
theorem d_M_add_118 : decode b_M_add 118 = .ok (.aload_n 0, 1) := by decide +kernel
theorem d_M_add_119 : decode b_M_add 119 = .ok (.dup, 1) := by decide +kernel
theorem d_M_add_120 : decode b_M_add 120 = .ok (.getfield 36, 3) := by decide +kernel
theorem d_M_add_123 : decode b_M_add 123 = .ok (.iconst 1, 1) := by decide +kernel
theorem d_M_add_124 : decode b_M_add 124 = .ok (.iadd, 1) := by decide +kernel
theorem d_M_add_125 : decode b_M_add 125 = .ok (.putfield 36, 3) := by decide +kernel
theorem d_M_add_128 : decode b_M_add 128 = .ok (.iload 4, 2) := by decide +kernel
theorem d_M_add_130 : decode b_M_add 130 = .ok (.ireturn, 1) := by decide +kernel
theorem d_M_is_0 : decode b_M_is 0 = .ok (.iload_n 1, 1) := by decide +kernel
theorem d_M_is_1 : decode b_M_is 1 = .ok (.ifCond .lt 15, 3) := by decide +kernel
theorem d_M_is_4 : decode b_M_is 4 = .ok (.iload_n 1, 1) := by decide +kernel
theorem d_M_is_5 : decode b_M_is 5 = .ok (.aload_n 0, 1) := by decide +kernel
theorem d_M_is_6 : decode b_M_is 6 = .ok (.getfield 36, 3) := by decide +kernel
theorem d_M_is_9 : decode b_M_is 9 = .ok (.if_icmp .ge 7, 3) := by decide +kernel
theorem d_M_is_12 : decode b_M_is 12 = .ok (.iconst 1, 1) := by decide +kernel
theorem d_M_is_13 : decode b_M_is 13 = .ok (.goto 4, 3) := by decide +kernel
theorem d_M_is_16 : decode b_M_is 16 = .ok (.iconst 0, 1) := by decide +kernel
theorem d_M_is_17 : decode b_M_is 17 = .ok (.ireturn, 1) := by decide +kernel
theorem d_M_median_0 : decode b_M_median 0 = .ok (.aload_n 0, 1) := by decide +kernel
theorem d_M_median_1 : decode b_M_median 1 = .ok (.iload_n 1, 1) := by decide +kernel
theorem d_M_median_2 : decode b_M_median 2 = .ok (.invokevirtual 41, 3) := by decide +kernel
theorem d_M_median_5 : decode b_M_median 5 = .ok (.ifCond .ne 6, 3) := by decide +kernel
theorem d_M_median_8 : decode b_M_median 8 = .ok (.bipush (-2), 2) := by decide +kernel
theorem d_M_median_10 : decode b_M_median 10 = .ok (.ireturn, 1) := by decide +kernel
theorem d_M_median_11 : decode b_M_median 11 = .ok (.iconst 0, 1) := by decide +kernel
theorem d_M_median_12 : decode b_M_median 12 = .ok (.istore_n 2, 1) := by decide +kernel
theorem d_M_median_13 : decode b_M_median 13 = .ok (.iload_n 1, 1) := by decide +kernel
theorem d_M_median_14 : decode b_M_median 14 = .ok (.istore_n 3, 1) := by decide +kernel
theorem d_M_median_15 : decode b_M_median 15 = .ok (.iload_n 3, 1) := by decide +kernel
theorem d_M_median_16 : decode b_M_median 16 = .ok (.ifCond .lt 83, 3) := by decide +kernel
theorem d_M_median_19 : decode b_M_median 19 = .ok (.iload_n 2, 1) := by decide +kernel
theorem d_M_median_20 : decode b_M_median 20 = .ok (.bipush 7, 2) := by decide +kernel
theorem d_M_median_22 : decode b_M_median 22 = .ok (.if_icmp .ge 77, 3) := by decide +kernel
theorem d_M_median_25 : decode b_M_median 25 = .ok (.iload_n 2, 1) := by decide +kernel
theorem d_M_median_26 : decode b_M_median 26 = .ok (.istore 4, 2) := by decide +kernel
theorem d_M_median_28 : decode b_M_median 28 = .ok (.iload 4, 2) := by decide +kernel
theorem d_M_median_30 : decode b_M_median 30 = .ok (.ifCond .le 43, 3) := by decide +kernel
theorem d_M_median_33 : decode b_M_median 33 = .ok (.aload_n 0, 1) := by decide +kernel
theorem d_M_median_34 : decode b_M_median 34 = .ok (.getfield 33, 3) := by decide +kernel
theorem d_M_median_37 : decode b_M_median 37 = .ok (.iload 4, 2) := by decide +kernel
theorem d_M_median_39 : decode b_M_median 39 = .ok (.iconst 1, 1) := by decide +kernel
theorem d_M_median_40 : decode b_M_median 40 = .ok (.isub, 1) := by decide +kernel
theorem d_M_median_41 : decode b_M_median 41 = .ok (.iaload, 1) := by decide +kernel
theorem d_M_median_42 : decode b_M_median 42 = .ok (.aload_n 0, 1) := by decide +kernel
theorem d_M_median_43 : decode b_M_median 43 = .ok (.getfield 16, 3) := by decide +kernel
theorem d_M_median_46 : decode b_M_median 46 = .ok (.iload_n 3, 1) := by decide +kernel
theorem d_M_median_47 : decode b_M_median 47 = .ok (.iaload, 1) := by decide +kernel
theorem d_M_median_48 : decode b_M_median 48 = .ok (.if_icmp .le 25, 3) := by decide +kernel
theorem d_M_median_51 : decode b_M_median 51 = .ok (.aload_n 0, 1) := by decide +kernel
theorem d_M_median_52 : decode b_M_median 52 = .ok (.getfield 33, 3) := by decide +kernel
theorem d_M_median_55 : decode b_M_median 55 = .ok (.iload 4, 2) := by decide +kernel
theorem d_M_median_57 : decode b_M_median 57 = .ok (.aload_n 0, 1) := by decide +kernel
theorem d_M_median_58 : decode b_M_median 58 = .ok (.getfield 33, 3) := by decide +kernel
theorem d_M_median_61 : decode b_M_median 61 = .ok (.iload 4, 2) := by decide +kernel
theorem d_M_median_63 : decode b_M_median 63 = .ok (.iconst 1, 1) := by decide +kernel
theorem d_M_median_64 : decode b_M_median 64 = .ok (.isub, 1) := by decide +kernel
theorem d_M_median_65 : decode b_M_median 65 = .ok (.iaload, 1) := by decide +kernel
theorem d_M_median_66 : decode b_M_median 66 = .ok (.iastore, 1) := by decide +kernel
theorem d_M_median_67 : decode b_M_median 67 = .ok (.iinc 4 (-1), 3) := by decide +kernel
theorem d_M_median_70 : decode b_M_median 70 = .ok (.goto (-42), 3) := by decide +kernel
theorem d_M_median_73 : decode b_M_median 73 = .ok (.aload_n 0, 1) := by decide +kernel
theorem d_M_median_74 : decode b_M_median 74 = .ok (.getfield 33, 3) := by decide +kernel
theorem d_M_median_77 : decode b_M_median 77 = .ok (.iload 4, 2) := by decide +kernel
theorem d_M_median_79 : decode b_M_median 79 = .ok (.aload_n 0, 1) := by decide +kernel
theorem d_M_median_80 : decode b_M_median 80 = .ok (.getfield 16, 3) := by decide +kernel
theorem d_M_median_83 : decode b_M_median 83 = .ok (.iload_n 3, 1) := by decide +kernel
theorem d_M_median_84 : decode b_M_median 84 = .ok (.iaload, 1) := by decide +kernel
theorem d_M_median_85 : decode b_M_median 85 = .ok (.iastore, 1) := by decide +kernel
theorem d_M_median_86 : decode b_M_median 86 = .ok (.iinc 2 1, 3) := by decide +kernel
theorem d_M_median_89 : decode b_M_median 89 = .ok (.aload_n 0, 1) := by decide +kernel
theorem d_M_median_90 : decode b_M_median 90 = .ok (.getfield 9, 3) := by decide +kernel
theorem d_M_median_93 : decode b_M_median 93 = .ok (.iload_n 3, 1) := by decide +kernel
theorem d_M_median_94 : decode b_M_median 94 = .ok (.iaload, 1) := by decide +kernel
theorem d_M_median_95 : decode b_M_median 95 = .ok (.istore_n 3, 1) := by decide +kernel
theorem d_M_median_96 : decode b_M_median 96 = .ok (.goto (-81), 3) := by decide +kernel
theorem d_M_median_99 : decode b_M_median 99 = .ok (.aload_n 0, 1) := by decide +kernel
theorem d_M_median_100 : decode b_M_median 100 = .ok (.getfield 33, 3) := by decide +kernel
theorem d_M_median_103 : decode b_M_median 103 = .ok (.iload_n 2, 1) := by decide +kernel
theorem d_M_median_104 : decode b_M_median 104 = .ok (.iconst 2, 1) := by decide +kernel
theorem d_M_median_105 : decode b_M_median 105 = .ok (.idiv, 1) := by decide +kernel
theorem d_M_median_106 : decode b_M_median 106 = .ok (.iaload, 1) := by decide +kernel
theorem d_M_median_107 : decode b_M_median 107 = .ok (.ireturn, 1) := by decide +kernel
theorem d_M_due_0 : decode b_M_due 0 = .ok (.aload_n 0, 1) := by decide +kernel
theorem d_M_due_1 : decode b_M_due 1 = .ok (.iload_n 1, 1) := by decide +kernel
theorem d_M_due_2 : decode b_M_due 2 = .ok (.invokevirtual 41, 3) := by decide +kernel
theorem d_M_due_5 : decode b_M_due 5 = .ok (.ifCond .ne 6, 3) := by decide +kernel
theorem d_M_due_8 : decode b_M_due 8 = .ok (.bipush (-2), 2) := by decide +kernel
theorem d_M_due_10 : decode b_M_due 10 = .ok (.ireturn, 1) := by decide +kernel
theorem d_M_due_11 : decode b_M_due 11 = .ok (.aload_n 0, 1) := by decide +kernel
theorem d_M_due_12 : decode b_M_due 12 = .ok (.getfield 19, 3) := by decide +kernel
theorem d_M_due_15 : decode b_M_due 15 = .ok (.iload_n 1, 1) := by decide +kernel
theorem d_M_due_16 : decode b_M_due 16 = .ok (.iaload, 1) := by decide +kernel
theorem d_M_due_17 : decode b_M_due 17 = .ok (.istore_n 2, 1) := by decide +kernel
theorem d_M_due_18 : decode b_M_due 18 = .ok (.aload_n 0, 1) := by decide +kernel
theorem d_M_due_19 : decode b_M_due 19 = .ok (.getfield 13, 3) := by decide +kernel
theorem d_M_due_22 : decode b_M_due 22 = .ok (.iload_n 1, 1) := by decide +kernel
theorem d_M_due_23 : decode b_M_due 23 = .ok (.iaload, 1) := by decide +kernel
theorem d_M_due_24 : decode b_M_due 24 = .ok (.iconst 1, 1) := by decide +kernel
theorem d_M_due_25 : decode b_M_due 25 = .ok (.iadd, 1) := by decide +kernel
theorem d_M_due_26 : decode b_M_due 26 = .ok (.istore_n 3, 1) := by decide +kernel
theorem d_M_due_27 : decode b_M_due 27 = .ok (.iload_n 3, 1) := by decide +kernel
theorem d_M_due_28 : decode b_M_due 28 = .ok (.bipush 8, 2) := by decide +kernel
theorem d_M_due_30 : decode b_M_due 30 = .ok (.irem, 1) := by decide +kernel
theorem d_M_due_31 : decode b_M_due 31 = .ok (.ifCond .eq 5, 3) := by decide +kernel
theorem d_M_due_34 : decode b_M_due 34 = .ok (.iload_n 2, 1) := by decide +kernel
theorem d_M_due_35 : decode b_M_due 35 = .ok (.ireturn, 1) := by decide +kernel
theorem d_M_due_36 : decode b_M_due 36 = .ok (.aload_n 0, 1) := by decide +kernel
theorem d_M_due_37 : decode b_M_due 37 = .ok (.getfield 16, 3) := by decide +kernel
theorem d_M_due_40 : decode b_M_due 40 = .ok (.iload_n 1, 1) := by decide +kernel
theorem d_M_due_41 : decode b_M_due 41 = .ok (.iaload, 1) := by decide +kernel
theorem d_M_due_42 : decode b_M_due 42 = .ok (.aload_n 0, 1) := by decide +kernel
theorem d_M_due_43 : decode b_M_due 43 = .ok (.getfield 16, 3) := by decide +kernel
theorem d_M_due_46 : decode b_M_due 46 = .ok (.aload_n 0, 1) := by decide +kernel
theorem d_M_due_47 : decode b_M_due 47 = .ok (.iload_n 1, 1) := by decide +kernel
theorem d_M_due_48 : decode b_M_due 48 = .ok (.iload_n 3, 1) := by decide +kernel
theorem d_M_due_49 : decode b_M_due 49 = .ok (.bipush 8, 2) := by decide +kernel
theorem d_M_due_51 : decode b_M_due 51 = .ok (.isub, 1) := by decide +kernel
theorem d_M_due_52 : decode b_M_due 52 = .ok (.invokevirtual 60, 3) := by decide +kernel
theorem d_M_due_55 : decode b_M_due 55 = .ok (.iaload, 1) := by decide +kernel
theorem d_M_due_56 : decode b_M_due 56 = .ok (.isub, 1) := by decide +kernel
theorem d_M_due_57 : decode b_M_due 57 = .ok (.istore 4, 2) := by decide +kernel
theorem d_M_due_59 : decode b_M_due 59 = .ok (.iload 4, 2) := by decide +kernel
theorem d_M_due_61 : decode b_M_due 61 = .ok (.bipush 20, 2) := by decide +kernel
theorem d_M_due_63 : decode b_M_due 63 = .ok (.if_icmp .ge 7, 3) := by decide +kernel
theorem d_M_due_66 : decode b_M_due 66 = .ok (.bipush 20, 2) := by decide +kernel
theorem d_M_due_68 : decode b_M_due 68 = .ok (.istore 4, 2) := by decide +kernel
theorem d_M_due_70 : decode b_M_due 70 = .ok (.iload 4, 2) := by decide +kernel
theorem d_M_due_72 : decode b_M_due 72 = .ok (.sipush 320, 3) := by decide +kernel
theorem d_M_due_75 : decode b_M_due 75 = .ok (.if_icmp .le 8, 3) := by decide +kernel
theorem d_M_due_78 : decode b_M_due 78 = .ok (.sipush 320, 3) := by decide +kernel
theorem d_M_due_81 : decode b_M_due 81 = .ok (.istore 4, 2) := by decide +kernel
theorem d_M_due_83 : decode b_M_due 83 = .ok (.iload_n 2, 1) := by decide +kernel
theorem d_M_due_84 : decode b_M_due 84 = .ok (.iload 4, 2) := by decide +kernel
theorem d_M_due_86 : decode b_M_due 86 = .ok (.imul, 1) := by decide +kernel
theorem d_M_due_87 : decode b_M_due 87 = .ok (.bipush 80, 2) := by decide +kernel
theorem d_M_due_89 : decode b_M_due 89 = .ok (.idiv, 1) := by decide +kernel
theorem d_M_due_90 : decode b_M_due 90 = .ok (.istore_n 2, 1) := by decide +kernel
theorem d_M_due_91 : decode b_M_due 91 = .ok (.iload_n 2, 1) := by decide +kernel
theorem d_M_due_92 : decode b_M_due 92 = .ok (.sipush 2048, 3) := by decide +kernel
theorem d_M_due_95 : decode b_M_due 95 = .ok (.if_icmp .ge 9, 3) := by decide +kernel
theorem d_M_due_98 : decode b_M_due 98 = .ok (.sipush 2048, 3) := by decide +kernel
theorem d_M_due_101 : decode b_M_due 101 = .ok (.goto 15, 3) := by decide +kernel
theorem d_M_due_104 : decode b_M_due 104 = .ok (.iload_n 2, 1) := by decide +kernel
theorem d_M_due_105 : decode b_M_due 105 = .ok (.ldc 64, 2) := by decide +kernel
theorem d_M_due_107 : decode b_M_due 107 = .ok (.if_icmp .le 8, 3) := by decide +kernel
theorem d_M_due_110 : decode b_M_due 110 = .ok (.ldc 64, 2) := by decide +kernel
theorem d_M_due_112 : decode b_M_due 112 = .ok (.goto 4, 3) := by decide +kernel
theorem d_M_due_115 : decode b_M_due 115 = .ok (.iload_n 2, 1) := by decide +kernel
theorem d_M_due_116 : decode b_M_due 116 = .ok (.ireturn, 1) := by decide +kernel
theorem d_M_ancestor_0 : decode b_M_ancestor 0 = .ok (.aload_n 0, 1) := by decide +kernel
theorem d_M_ancestor_1 : decode b_M_ancestor 1 = .ok (.iload_n 1, 1) := by decide +kernel
theorem d_M_ancestor_2 : decode b_M_ancestor 2 = .ok (.invokevirtual 41, 3) := by decide +kernel
theorem d_M_ancestor_5 : decode b_M_ancestor 5 = .ok (.ifCond .eq 17, 3) := by decide +kernel
theorem d_M_ancestor_8 : decode b_M_ancestor 8 = .ok (.iload_n 2, 1) := by decide +kernel
theorem d_M_ancestor_9 : decode b_M_ancestor 9 = .ok (.ifCond .lt 13, 3) := by decide +kernel
theorem d_M_ancestor_12 : decode b_M_ancestor 12 = .ok (.iload_n 2, 1) := by decide +kernel
theorem d_M_ancestor_13 : decode b_M_ancestor 13 = .ok (.aload_n 0, 1) := by decide +kernel
theorem d_M_ancestor_14 : decode b_M_ancestor 14 = .ok (.getfield 13, 3) := by decide +kernel
theorem d_M_ancestor_17 : decode b_M_ancestor 17 = .ok (.iload_n 1, 1) := by decide +kernel
theorem d_M_ancestor_18 : decode b_M_ancestor 18 = .ok (.iaload, 1) := by decide +kernel
theorem d_M_ancestor_19 : decode b_M_ancestor 19 = .ok (.if_icmp .le 6, 3) := by decide +kernel
theorem d_M_ancestor_22 : decode b_M_ancestor 22 = .ok (.bipush (-2), 2) := by decide +kernel
theorem d_M_ancestor_24 : decode b_M_ancestor 24 = .ok (.ireturn, 1) := by decide +kernel
theorem d_M_ancestor_25 : decode b_M_ancestor 25 = .ok (.iload_n 1, 1) := by decide +kernel
theorem d_M_ancestor_26 : decode b_M_ancestor 26 = .ok (.istore_n 3, 1) := by decide +kernel
theorem d_M_ancestor_27 : decode b_M_ancestor 27 = .ok (.aload_n 0, 1) := by decide +kernel
theorem d_M_ancestor_28 : decode b_M_ancestor 28 = .ok (.getfield 13, 3) := by decide +kernel
theorem d_M_ancestor_31 : decode b_M_ancestor 31 = .ok (.iload_n 3, 1) := by decide +kernel
theorem d_M_ancestor_32 : decode b_M_ancestor 32 = .ok (.iaload, 1) := by decide +kernel
theorem d_M_ancestor_33 : decode b_M_ancestor 33 = .ok (.iload_n 2, 1) := by decide +kernel
theorem d_M_ancestor_34 : decode b_M_ancestor 34 = .ok (.if_icmp .le 13, 3) := by decide +kernel
theorem d_M_ancestor_37 : decode b_M_ancestor 37 = .ok (.aload_n 0, 1) := by decide +kernel
theorem d_M_ancestor_38 : decode b_M_ancestor 38 = .ok (.getfield 9, 3) := by decide +kernel
theorem d_M_ancestor_41 : decode b_M_ancestor 41 = .ok (.iload_n 3, 1) := by decide +kernel
theorem d_M_ancestor_42 : decode b_M_ancestor 42 = .ok (.iaload, 1) := by decide +kernel
theorem d_M_ancestor_43 : decode b_M_ancestor 43 = .ok (.istore_n 3, 1) := by decide +kernel
theorem d_M_ancestor_44 : decode b_M_ancestor 44 = .ok (.goto (-17), 3) := by decide +kernel
theorem d_M_ancestor_47 : decode b_M_ancestor 47 = .ok (.iload_n 3, 1) := by decide +kernel
theorem d_M_ancestor_48 : decode b_M_ancestor 48 = .ok (.ireturn, 1) := by decide +kernel
theorem d_M_refuse_0 : decode b_M_refuse 0 = .ok (.aload_n 0, 1) := by decide +kernel
theorem d_M_refuse_1 : decode b_M_refuse 1 = .ok (.iload_n 1, 1) := by decide +kernel
theorem d_M_refuse_2 : decode b_M_refuse 2 = .ok (.invokevirtual 41, 3) := by decide +kernel
theorem d_M_refuse_5 : decode b_M_refuse 5 = .ok (.ifCond .eq 7, 3) := by decide +kernel
theorem d_M_refuse_8 : decode b_M_refuse 8 = .ok (.iload_n 1, 1) := by decide +kernel
theorem d_M_refuse_9 : decode b_M_refuse 9 = .ok (.ifCond .ne 5, 3) := by decide +kernel
theorem d_M_refuse_12 : decode b_M_refuse 12 = .ok (.iconst (-1), 1) := by decide +kernel
theorem d_M_refuse_13 : decode b_M_refuse 13 = .ok (.ireturn, 1) := by decide +kernel
theorem d_M_refuse_14 : decode b_M_refuse 14 = .ok (.aload_n 0, 1) := by decide +kernel
theorem d_M_refuse_15 : decode b_M_refuse 15 = .ok (.getfield 29, 3) := by decide +kernel
theorem d_M_refuse_18 : decode b_M_refuse 18 = .ok (.iload_n 1, 1) := by decide +kernel
theorem d_M_refuse_19 : decode b_M_refuse 19 = .ok (.iconst 1, 1) := by decide +kernel
theorem d_M_refuse_20 : decode b_M_refuse 20 = .ok (.bastore, 1) := by decide +kernel
theorem d_M_refuse_21 : decode b_M_refuse 21 = .ok (.aload_n 0, 1) := by decide +kernel
theorem d_M_refuse_22 : decode b_M_refuse 22 = .ok (.invokevirtual 53, 3) := by decide +kernel
theorem d_M_refuse_25 : decode b_M_refuse 25 = .ok (.ireturn, 1) := by decide +kernel
theorem d_M_best_0 : decode b_M_best 0 = .ok (.iconst 0, 1) := by decide +kernel
theorem d_M_best_1 : decode b_M_best 1 = .ok (.istore_n 1, 1) := by decide +kernel
theorem d_M_best_2 : decode b_M_best 2 = .ok (.iconst 1, 1) := by decide +kernel
theorem d_M_best_3 : decode b_M_best 3 = .ok (.istore_n 2, 1) := by decide +kernel
theorem d_M_best_4 : decode b_M_best 4 = .ok (.iload_n 2, 1) := by decide +kernel
theorem d_M_best_5 : decode b_M_best 5 = .ok (.aload_n 0, 1) := by decide +kernel
theorem d_M_best_6 : decode b_M_best 6 = .ok (.getfield 36, 3) := by decide +kernel
theorem d_M_best_9 : decode b_M_best 9 = .ok (.if_icmp .ge 66, 3) := by decide +kernel
theorem d_M_best_12 : decode b_M_best 12 = .ok (.aload_n 0, 1) := by decide +kernel
theorem d_M_best_13 : decode b_M_best 13 = .ok (.getfield 22, 3) := by decide +kernel
theorem d_M_best_16 : decode b_M_best 16 = .ok (.iload_n 2, 1) := by decide +kernel
theorem d_M_best_17 : decode b_M_best 17 = .ok (.laload, 1) := by decide +kernel
theorem d_M_best_18 : decode b_M_best 18 = .ok (.aload_n 0, 1) := by decide +kernel
theorem d_M_best_19 : decode b_M_best 19 = .ok (.getfield 22, 3) := by decide +kernel
theorem d_M_best_22 : decode b_M_best 22 = .ok (.iload_n 1, 1) := by decide +kernel
theorem d_M_best_23 : decode b_M_best 23 = .ok (.laload, 1) := by decide +kernel
theorem d_M_best_24 : decode b_M_best 24 = .ok (.lcmp, 1) := by decide +kernel
theorem d_M_best_25 : decode b_M_best 25 = .ok (.ifCond .gt 34, 3) := by decide +kernel
theorem d_M_best_28 : decode b_M_best 28 = .ok (.aload_n 0, 1) := by decide +kernel
theorem d_M_best_29 : decode b_M_best 29 = .ok (.getfield 22, 3) := by decide +kernel
theorem d_M_best_32 : decode b_M_best 32 = .ok (.iload_n 2, 1) := by decide +kernel
theorem d_M_best_33 : decode b_M_best 33 = .ok (.laload, 1) := by decide +kernel
theorem d_M_best_34 : decode b_M_best 34 = .ok (.aload_n 0, 1) := by decide +kernel
theorem d_M_best_35 : decode b_M_best 35 = .ok (.getfield 22, 3) := by decide +kernel
theorem d_M_best_38 : decode b_M_best 38 = .ok (.iload_n 1, 1) := by decide +kernel
theorem d_M_best_39 : decode b_M_best 39 = .ok (.laload, 1) := by decide +kernel
theorem d_M_best_40 : decode b_M_best 40 = .ok (.lcmp, 1) := by decide +kernel
theorem d_M_best_41 : decode b_M_best 41 = .ok (.ifCond .ne 28, 3) := by decide +kernel
theorem d_M_best_44 : decode b_M_best 44 = .ok (.aload_n 0, 1) := by decide +kernel
theorem d_M_best_45 : decode b_M_best 45 = .ok (.getfield 26, 3) := by decide +kernel
theorem d_M_best_48 : decode b_M_best 48 = .ok (.iload_n 2, 1) := by decide +kernel
theorem d_M_best_49 : decode b_M_best 49 = .ok (.iaload, 1) := by decide +kernel
theorem d_M_best_50 : decode b_M_best 50 = .ok (.aload_n 0, 1) := by decide +kernel
theorem d_M_best_51 : decode b_M_best 51 = .ok (.getfield 26, 3) := by decide +kernel
theorem d_M_best_54 : decode b_M_best 54 = .ok (.iload_n 1, 1) := by decide +kernel
theorem d_M_best_55 : decode b_M_best 55 = .ok (.iaload, 1) := by decide +kernel
theorem d_M_best_56 : decode b_M_best 56 = .ok (.if_icmp .ge 13, 3) := by decide +kernel
theorem d_M_best_59 : decode b_M_best 59 = .ok (.aload_n 0, 1) := by decide +kernel
theorem d_M_best_60 : decode b_M_best 60 = .ok (.iload_n 2, 1) := by decide +kernel
theorem d_M_best_61 : decode b_M_best 61 = .ok (.invokevirtual 57, 3) := by decide +kernel
theorem d_M_best_64 : decode b_M_best 64 = .ok (.ifCond .ne 5, 3) := by decide +kernel
theorem d_M_best_67 : decode b_M_best 67 = .ok (.iload_n 2, 1) := by decide +kernel
theorem d_M_best_68 : decode b_M_best 68 = .ok (.istore_n 1, 1) := by decide +kernel
theorem d_M_best_69 : decode b_M_best 69 = .ok (.iinc 2 1, 3) := by decide +kernel
theorem d_M_best_72 : decode b_M_best 72 = .ok (.goto (-68), 3) := by decide +kernel
theorem d_M_best_75 : decode b_M_best 75 = .ok (.iload_n 1, 1) := by decide +kernel
theorem d_M_best_76 : decode b_M_best 76 = .ok (.ireturn, 1) := by decide +kernel
theorem d_M_wrong_0 : decode b_M_wrong 0 = .ok (.iconst 0, 1) := by decide +kernel
theorem d_M_wrong_1 : decode b_M_wrong 1 = .ok (.istore_n 2, 1) := by decide +kernel
theorem d_M_wrong_2 : decode b_M_wrong 2 = .ok (.iload_n 1, 1) := by decide +kernel
theorem d_M_wrong_3 : decode b_M_wrong 3 = .ok (.istore_n 3, 1) := by decide +kernel
theorem d_M_wrong_4 : decode b_M_wrong 4 = .ok (.iload_n 3, 1) := by decide +kernel
theorem d_M_wrong_5 : decode b_M_wrong 5 = .ok (.ifCond .le 32, 3) := by decide +kernel
theorem d_M_wrong_8 : decode b_M_wrong 8 = .ok (.iload_n 2, 1) := by decide +kernel
theorem d_M_wrong_9 : decode b_M_wrong 9 = .ok (.ifCond .ne 12, 3) := by decide +kernel
theorem d_M_wrong_12 : decode b_M_wrong 12 = .ok (.aload_n 0, 1) := by decide +kernel
theorem d_M_wrong_13 : decode b_M_wrong 13 = .ok (.getfield 29, 3) := by decide +kernel
theorem d_M_wrong_16 : decode b_M_wrong 16 = .ok (.iload_n 3, 1) := by decide +kernel
theorem d_M_wrong_17 : decode b_M_wrong 17 = .ok (.baload, 1) := by decide +kernel
theorem d_M_wrong_18 : decode b_M_wrong 18 = .ok (.ifCond .eq 7, 3) := by decide +kernel
theorem d_M_wrong_21 : decode b_M_wrong 21 = .ok (.iconst 1, 1) := by decide +kernel
theorem d_M_wrong_22 : decode b_M_wrong 22 = .ok (.goto 4, 3) := by decide +kernel
theorem d_M_wrong_25 : decode b_M_wrong 25 = .ok (.iconst 0, 1) := by decide +kernel
theorem d_M_wrong_26 : decode b_M_wrong 26 = .ok (.istore_n 2, 1) := by decide +kernel
theorem d_M_wrong_27 : decode b_M_wrong 27 = .ok (.aload_n 0, 1) := by decide +kernel
theorem d_M_wrong_28 : decode b_M_wrong 28 = .ok (.getfield 9, 3) := by decide +kernel
theorem d_M_wrong_31 : decode b_M_wrong 31 = .ok (.iload_n 3, 1) := by decide +kernel
theorem d_M_wrong_32 : decode b_M_wrong 32 = .ok (.iaload, 1) := by decide +kernel
theorem d_M_wrong_33 : decode b_M_wrong 33 = .ok (.istore_n 3, 1) := by decide +kernel
theorem d_M_wrong_34 : decode b_M_wrong 34 = .ok (.goto (-30), 3) := by decide +kernel
theorem d_M_wrong_37 : decode b_M_wrong 37 = .ok (.iload_n 2, 1) := by decide +kernel
theorem d_M_wrong_38 : decode b_M_wrong 38 = .ok (.ireturn, 1) := by decide +kernel
theorem d_M_fork_0 : decode b_M_fork 0 = .ok (.aload_n 0, 1) := by decide +kernel
theorem d_M_fork_1 : decode b_M_fork 1 = .ok (.iload_n 1, 1) := by decide +kernel
theorem d_M_fork_2 : decode b_M_fork 2 = .ok (.invokevirtual 41, 3) := by decide +kernel
theorem d_M_fork_5 : decode b_M_fork 5 = .ok (.ifCond .eq 11, 3) := by decide +kernel
theorem d_M_fork_8 : decode b_M_fork 8 = .ok (.aload_n 0, 1) := by decide +kernel
theorem d_M_fork_9 : decode b_M_fork 9 = .ok (.iload_n 2, 1) := by decide +kernel
theorem d_M_fork_10 : decode b_M_fork 10 = .ok (.invokevirtual 41, 3) := by decide +kernel
theorem d_M_fork_13 : decode b_M_fork 13 = .ok (.ifCond .ne 6, 3) := by decide +kernel
theorem d_M_fork_16 : decode b_M_fork 16 = .ok (.bipush (-2), 2) := by decide +kernel
theorem d_M_fork_18 : decode b_M_fork 18 = .ok (.ireturn, 1) := by decide +kernel
theorem d_M_fork_19 : decode b_M_fork 19 = .ok (.iload_n 1, 1) := by decide +kernel
theorem d_M_fork_20 : decode b_M_fork 20 = .ok (.istore_n 3, 1) := by decide +kernel
theorem d_M_fork_21 : decode b_M_fork 21 = .ok (.iload_n 2, 1) := by decide +kernel
theorem d_M_fork_22 : decode b_M_fork 22 = .ok (.istore 4, 2) := by decide +kernel
theorem d_M_fork_24 : decode b_M_fork 24 = .ok (.iload_n 3, 1) := by decide +kernel
theorem d_M_fork_25 : decode b_M_fork 25 = .ok (.iload 4, 2) := by decide +kernel
theorem d_M_fork_27 : decode b_M_fork 27 = .ok (.if_icmp .eq 41, 3) := by decide +kernel
theorem d_M_fork_30 : decode b_M_fork 30 = .ok (.aload_n 0, 1) := by decide +kernel
theorem d_M_fork_31 : decode b_M_fork 31 = .ok (.getfield 13, 3) := by decide +kernel
theorem d_M_fork_34 : decode b_M_fork 34 = .ok (.iload_n 3, 1) := by decide +kernel
theorem d_M_fork_35 : decode b_M_fork 35 = .ok (.iaload, 1) := by decide +kernel
theorem d_M_fork_36 : decode b_M_fork 36 = .ok (.aload_n 0, 1) := by decide +kernel
theorem d_M_fork_37 : decode b_M_fork 37 = .ok (.getfield 13, 3) := by decide +kernel
theorem d_M_fork_40 : decode b_M_fork 40 = .ok (.iload 4, 2) := by decide +kernel
theorem d_M_fork_42 : decode b_M_fork 42 = .ok (.iaload, 1) := by decide +kernel
theorem d_M_fork_43 : decode b_M_fork 43 = .ok (.if_icmp .lt 13, 3) := by decide +kernel
theorem d_M_fork_46 : decode b_M_fork 46 = .ok (.aload_n 0, 1) := by decide +kernel
theorem d_M_fork_47 : decode b_M_fork 47 = .ok (.getfield 9, 3) := by decide +kernel
theorem d_M_fork_50 : decode b_M_fork 50 = .ok (.iload_n 3, 1) := by decide +kernel
theorem d_M_fork_51 : decode b_M_fork 51 = .ok (.iaload, 1) := by decide +kernel
theorem d_M_fork_52 : decode b_M_fork 52 = .ok (.istore_n 3, 1) := by decide +kernel
theorem d_M_fork_53 : decode b_M_fork 53 = .ok (.goto (-29), 3) := by decide +kernel
theorem d_M_fork_56 : decode b_M_fork 56 = .ok (.aload_n 0, 1) := by decide +kernel
theorem d_M_fork_57 : decode b_M_fork 57 = .ok (.getfield 9, 3) := by decide +kernel
theorem d_M_fork_60 : decode b_M_fork 60 = .ok (.iload 4, 2) := by decide +kernel
theorem d_M_fork_62 : decode b_M_fork 62 = .ok (.iaload, 1) := by decide +kernel
theorem d_M_fork_63 : decode b_M_fork 63 = .ok (.istore 4, 2) := by decide +kernel
theorem d_M_fork_65 : decode b_M_fork 65 = .ok (.goto (-41), 3) := by decide +kernel
theorem d_M_fork_68 : decode b_M_fork 68 = .ok (.iload_n 3, 1) := by decide +kernel
theorem d_M_fork_69 : decode b_M_fork 69 = .ok (.ireturn, 1) := by decide +kernel
theorem d_M_look_0 : decode b_M_look 0 = .ok (.iload_n 2, 1) := by decide +kernel
theorem d_M_look_1 : decode b_M_look 1 = .ok (.ifCond .lt 8, 3) := by decide +kernel
theorem d_M_look_4 : decode b_M_look 4 = .ok (.iload_n 2, 1) := by decide +kernel
theorem d_M_look_5 : decode b_M_look 5 = .ok (.iconst 5, 1) := by decide +kernel
theorem d_M_look_6 : decode b_M_look 6 = .ok (.if_icmp .le 7, 3) := by decide +kernel
theorem d_M_look_9 : decode b_M_look 9 = .ok (.ldc2_w 65, 3) := by decide +kernel
theorem d_M_look_12 : decode b_M_look 12 = .ok (.lreturn, 1) := by decide +kernel
theorem d_M_look_13 : decode b_M_look 13 = .ok (.aload_n 0, 1) := by decide +kernel
theorem d_M_look_14 : decode b_M_look 14 = .ok (.iload_n 1, 1) := by decide +kernel
theorem d_M_look_15 : decode b_M_look 15 = .ok (.invokevirtual 41, 3) := by decide +kernel
theorem d_M_look_18 : decode b_M_look 18 = .ok (.ifCond .ne 7, 3) := by decide +kernel
theorem d_M_look_21 : decode b_M_look 21 = .ok (.ldc2_w 67, 3) := by decide +kernel
theorem d_M_look_24 : decode b_M_look 24 = .ok (.lreturn, 1) := by decide +kernel
theorem d_M_look_25 : decode b_M_look 25 = .ok (.iload_n 2, 1) := by decide +kernel
theorem d_M_look_26 : decode b_M_look 26 = .ok (.tableswitch 73 0 4 #[34, 42, 50, 58, 66], 34) := by decide +kernel
theorem d_M_look_60 : decode b_M_look 60 = .ok (.aload_n 0, 1) := by decide +kernel
theorem d_M_look_61 : decode b_M_look 61 = .ok (.getfield 13, 3) := by decide +kernel
theorem d_M_look_64 : decode b_M_look 64 = .ok (.iload_n 1, 1) := by decide +kernel
theorem d_M_look_65 : decode b_M_look 65 = .ok (.iaload, 1) := by decide +kernel
theorem d_M_look_66 : decode b_M_look 66 = .ok (.i2l, 1) := by decide +kernel
theorem d_M_look_67 : decode b_M_look 67 = .ok (.lreturn, 1) := by decide +kernel
theorem d_M_look_68 : decode b_M_look 68 = .ok (.aload_n 0, 1) := by decide +kernel
theorem d_M_look_69 : decode b_M_look 69 = .ok (.getfield 9, 3) := by decide +kernel
theorem d_M_look_72 : decode b_M_look 72 = .ok (.iload_n 1, 1) := by decide +kernel
theorem d_M_look_73 : decode b_M_look 73 = .ok (.iaload, 1) := by decide +kernel
theorem d_M_look_74 : decode b_M_look 74 = .ok (.i2l, 1) := by decide +kernel
theorem d_M_look_75 : decode b_M_look 75 = .ok (.lreturn, 1) := by decide +kernel
theorem d_M_look_76 : decode b_M_look 76 = .ok (.aload_n 0, 1) := by decide +kernel
theorem d_M_look_77 : decode b_M_look 77 = .ok (.getfield 16, 3) := by decide +kernel
theorem d_M_look_80 : decode b_M_look 80 = .ok (.iload_n 1, 1) := by decide +kernel
theorem d_M_look_81 : decode b_M_look 81 = .ok (.iaload, 1) := by decide +kernel
theorem d_M_look_82 : decode b_M_look 82 = .ok (.i2l, 1) := by decide +kernel
theorem d_M_look_83 : decode b_M_look 83 = .ok (.lreturn, 1) := by decide +kernel
theorem d_M_look_84 : decode b_M_look 84 = .ok (.aload_n 0, 1) := by decide +kernel
theorem d_M_look_85 : decode b_M_look 85 = .ok (.getfield 19, 3) := by decide +kernel
theorem d_M_look_88 : decode b_M_look 88 = .ok (.iload_n 1, 1) := by decide +kernel
theorem d_M_look_89 : decode b_M_look 89 = .ok (.iaload, 1) := by decide +kernel
theorem d_M_look_90 : decode b_M_look 90 = .ok (.i2l, 1) := by decide +kernel
theorem d_M_look_91 : decode b_M_look 91 = .ok (.lreturn, 1) := by decide +kernel
theorem d_M_look_92 : decode b_M_look 92 = .ok (.aload_n 0, 1) := by decide +kernel
theorem d_M_look_93 : decode b_M_look 93 = .ok (.getfield 22, 3) := by decide +kernel
theorem d_M_look_96 : decode b_M_look 96 = .ok (.iload_n 1, 1) := by decide +kernel
theorem d_M_look_97 : decode b_M_look 97 = .ok (.laload, 1) := by decide +kernel
theorem d_M_look_98 : decode b_M_look 98 = .ok (.lreturn, 1) := by decide +kernel
theorem d_M_look_99 : decode b_M_look 99 = .ok (.aload_n 0, 1) := by decide +kernel
theorem d_M_look_100 : decode b_M_look 100 = .ok (.iload_n 1, 1) := by decide +kernel
theorem d_M_look_101 : decode b_M_look 101 = .ok (.invokevirtual 57, 3) := by decide +kernel
theorem d_M_look_104 : decode b_M_look 104 = .ok (.ifCond .eq 7, 3) := by decide +kernel
theorem d_M_look_107 : decode b_M_look 107 = .ok (.lconst 1, 1) := by decide +kernel
theorem d_M_look_108 : decode b_M_look 108 = .ok (.goto 4, 3) := by decide +kernel
theorem d_M_look_111 : decode b_M_look 111 = .ok (.lconst 0, 1) := by decide +kernel
theorem d_M_look_112 : decode b_M_look 112 = .ok (.lreturn, 1) := by decide +kernel
theorem d_M_blocks_0 : decode b_M_blocks 0 = .ok (.aload_n 0, 1) := by decide +kernel
theorem d_M_blocks_1 : decode b_M_blocks 1 = .ok (.getfield 36, 3) := by decide +kernel
theorem d_M_blocks_4 : decode b_M_blocks 4 = .ok (.ireturn, 1) := by decide +kernel
end
section
theorem d_law_0 : decode code 0 = .ok (.new 7, 3) := by decide +kernel
theorem d_law_3 : decode code 3 = .ok (.dup, 1) := by decide +kernel
theorem d_law_4 : decode code 4 = .ok (.invokespecial 9, 3) := by decide +kernel
theorem d_law_7 : decode code 7 = .ok (.astore_n 1, 1) := by decide +kernel
theorem d_law_8 : decode code 8 = .ok (.new 10, 3) := by decide +kernel
theorem d_law_11 : decode code 11 = .ok (.dup, 1) := by decide +kernel
theorem d_law_12 : decode code 12 = .ok (.invokespecial 12, 3) := by decide +kernel
theorem d_law_15 : decode code 15 = .ok (.astore_n 2, 1) := by decide +kernel
theorem d_law_16 : decode code 16 = .ok (.iconst 0, 1) := by decide +kernel
theorem d_law_17 : decode code 17 = .ok (.istore_n 3, 1) := by decide +kernel
theorem d_law_18 : decode code 18 = .ok (.iload_n 3, 1) := by decide +kernel
theorem d_law_19 : decode code 19 = .ok (.aload_n 0, 1) := by decide +kernel
theorem d_law_20 : decode code 20 = .ok (.arraylength, 1) := by decide +kernel
theorem d_law_21 : decode code 21 = .ok (.iconst 4, 1) := by decide +kernel
theorem d_law_22 : decode code 22 = .ok (.isub, 1) := by decide +kernel
theorem d_law_23 : decode code 23 = .ok (.if_icmp .gt 305, 3) := by decide +kernel
theorem d_law_26 : decode code 26 = .ok (.aload_n 0, 1) := by decide +kernel
theorem d_law_27 : decode code 27 = .ok (.iload_n 3, 1) := by decide +kernel
theorem d_law_28 : decode code 28 = .ok (.iaload, 1) := by decide +kernel
theorem d_law_29 : decode code 29 = .ok (.bipush 15, 2) := by decide +kernel
theorem d_law_31 : decode code 31 = .ok (.iand, 1) := by decide +kernel
theorem d_law_32 : decode code 32 = .ok (.tableswitch 290 0 8 #[52, 95, 118, 131, 164, 187, 210, 243, 277], 52) := by decide +kernel
theorem d_law_84 : decode code 84 = .ok (.aload_n 1, 1) := by decide +kernel
theorem d_law_85 : decode code 85 = .ok (.aload_n 0, 1) := by decide +kernel
theorem d_law_86 : decode code 86 = .ok (.iload_n 3, 1) := by decide +kernel
theorem d_law_87 : decode code 87 = .ok (.iconst 1, 1) := by decide +kernel
theorem d_law_88 : decode code 88 = .ok (.iadd, 1) := by decide +kernel
theorem d_law_89 : decode code 89 = .ok (.iaload, 1) := by decide +kernel
theorem d_law_90 : decode code 90 = .ok (.aload_n 0, 1) := by decide +kernel
theorem d_law_91 : decode code 91 = .ok (.iload_n 3, 1) := by decide +kernel
theorem d_law_92 : decode code 92 = .ok (.iconst 2, 1) := by decide +kernel
theorem d_law_93 : decode code 93 = .ok (.iadd, 1) := by decide +kernel
theorem d_law_94 : decode code 94 = .ok (.iaload, 1) := by decide +kernel
theorem d_law_95 : decode code 95 = .ok (.aload_n 0, 1) := by decide +kernel
theorem d_law_96 : decode code 96 = .ok (.iload_n 3, 1) := by decide +kernel
theorem d_law_97 : decode code 97 = .ok (.iconst 3, 1) := by decide +kernel
theorem d_law_98 : decode code 98 = .ok (.iadd, 1) := by decide +kernel
theorem d_law_99 : decode code 99 = .ok (.iaload, 1) := by decide +kernel
theorem d_law_100 : decode code 100 = .ok (.invokevirtual 13, 3) := by decide +kernel
theorem d_law_103 : decode code 103 = .ok (.aload_n 2, 1) := by decide +kernel
theorem d_law_104 : decode code 104 = .ok (.aload_n 0, 1) := by decide +kernel
theorem d_law_105 : decode code 105 = .ok (.iload_n 3, 1) := by decide +kernel
theorem d_law_106 : decode code 106 = .ok (.iconst 1, 1) := by decide +kernel
theorem d_law_107 : decode code 107 = .ok (.iadd, 1) := by decide +kernel
theorem d_law_108 : decode code 108 = .ok (.iaload, 1) := by decide +kernel
theorem d_law_109 : decode code 109 = .ok (.aload_n 0, 1) := by decide +kernel
theorem d_law_110 : decode code 110 = .ok (.iload_n 3, 1) := by decide +kernel
theorem d_law_111 : decode code 111 = .ok (.iconst 2, 1) := by decide +kernel
theorem d_law_112 : decode code 112 = .ok (.iadd, 1) := by decide +kernel
theorem d_law_113 : decode code 113 = .ok (.iaload, 1) := by decide +kernel
theorem d_law_114 : decode code 114 = .ok (.aload_n 0, 1) := by decide +kernel
theorem d_law_115 : decode code 115 = .ok (.iload_n 3, 1) := by decide +kernel
theorem d_law_116 : decode code 116 = .ok (.iconst 3, 1) := by decide +kernel
theorem d_law_117 : decode code 117 = .ok (.iadd, 1) := by decide +kernel
theorem d_law_118 : decode code 118 = .ok (.iaload, 1) := by decide +kernel
theorem d_law_119 : decode code 119 = .ok (.invokevirtual 17, 3) := by decide +kernel
theorem d_law_122 : decode code 122 = .ok (.if_icmp .eq 200, 3) := by decide +kernel
theorem d_law_125 : decode code 125 = .ok (.iconst 0, 1) := by decide +kernel
theorem d_law_126 : decode code 126 = .ok (.ireturn, 1) := by decide +kernel
theorem d_law_127 : decode code 127 = .ok (.aload_n 1, 1) := by decide +kernel
theorem d_law_128 : decode code 128 = .ok (.aload_n 0, 1) := by decide +kernel
theorem d_law_129 : decode code 129 = .ok (.iload_n 3, 1) := by decide +kernel
theorem d_law_130 : decode code 130 = .ok (.iconst 1, 1) := by decide +kernel
theorem d_law_131 : decode code 131 = .ok (.iadd, 1) := by decide +kernel
theorem d_law_132 : decode code 132 = .ok (.iaload, 1) := by decide +kernel
theorem d_law_133 : decode code 133 = .ok (.invokevirtual 18, 3) := by decide +kernel
theorem d_law_136 : decode code 136 = .ok (.aload_n 2, 1) := by decide +kernel
theorem d_law_137 : decode code 137 = .ok (.aload_n 0, 1) := by decide +kernel
theorem d_law_138 : decode code 138 = .ok (.iload_n 3, 1) := by decide +kernel
theorem d_law_139 : decode code 139 = .ok (.iconst 1, 1) := by decide +kernel
theorem d_law_140 : decode code 140 = .ok (.iadd, 1) := by decide +kernel
theorem d_law_141 : decode code 141 = .ok (.iaload, 1) := by decide +kernel
theorem d_law_142 : decode code 142 = .ok (.invokevirtual 22, 3) := by decide +kernel
theorem d_law_145 : decode code 145 = .ok (.if_icmp .eq 177, 3) := by decide +kernel
theorem d_law_148 : decode code 148 = .ok (.iconst 0, 1) := by decide +kernel
theorem d_law_149 : decode code 149 = .ok (.ireturn, 1) := by decide +kernel
theorem d_law_150 : decode code 150 = .ok (.aload_n 1, 1) := by decide +kernel
theorem d_law_151 : decode code 151 = .ok (.invokevirtual 23, 3) := by decide +kernel
theorem d_law_154 : decode code 154 = .ok (.aload_n 2, 1) := by decide +kernel
theorem d_law_155 : decode code 155 = .ok (.invokevirtual 27, 3) := by decide +kernel
theorem d_law_158 : decode code 158 = .ok (.if_icmp .eq 164, 3) := by decide +kernel
theorem d_law_161 : decode code 161 = .ok (.iconst 0, 1) := by decide +kernel
theorem d_law_162 : decode code 162 = .ok (.ireturn, 1) := by decide +kernel
theorem d_law_163 : decode code 163 = .ok (.aload_n 1, 1) := by decide +kernel
theorem d_law_164 : decode code 164 = .ok (.aload_n 0, 1) := by decide +kernel
theorem d_law_165 : decode code 165 = .ok (.iload_n 3, 1) := by decide +kernel
theorem d_law_166 : decode code 166 = .ok (.iconst 1, 1) := by decide +kernel
theorem d_law_167 : decode code 167 = .ok (.iadd, 1) := by decide +kernel
theorem d_law_168 : decode code 168 = .ok (.iaload, 1) := by decide +kernel
theorem d_law_169 : decode code 169 = .ok (.aload_n 0, 1) := by decide +kernel
theorem d_law_170 : decode code 170 = .ok (.iload_n 3, 1) := by decide +kernel
theorem d_law_171 : decode code 171 = .ok (.iconst 2, 1) := by decide +kernel
theorem d_law_172 : decode code 172 = .ok (.iadd, 1) := by decide +kernel
theorem d_law_173 : decode code 173 = .ok (.iaload, 1) := by decide +kernel
theorem d_law_174 : decode code 174 = .ok (.invokevirtual 28, 3) := by decide +kernel
theorem d_law_177 : decode code 177 = .ok (.aload_n 2, 1) := by decide +kernel
theorem d_law_178 : decode code 178 = .ok (.aload_n 0, 1) := by decide +kernel
theorem d_law_179 : decode code 179 = .ok (.iload_n 3, 1) := by decide +kernel
theorem d_law_180 : decode code 180 = .ok (.iconst 1, 1) := by decide +kernel
theorem d_law_181 : decode code 181 = .ok (.iadd, 1) := by decide +kernel
theorem d_law_182 : decode code 182 = .ok (.iaload, 1) := by decide +kernel
theorem d_law_183 : decode code 183 = .ok (.aload_n 0, 1) := by decide +kernel
theorem d_law_184 : decode code 184 = .ok (.iload_n 3, 1) := by decide +kernel
theorem d_law_185 : decode code 185 = .ok (.iconst 2, 1) := by decide +kernel
theorem d_law_186 : decode code 186 = .ok (.iadd, 1) := by decide +kernel
theorem d_law_187 : decode code 187 = .ok (.iaload, 1) := by decide +kernel
theorem d_law_188 : decode code 188 = .ok (.invokevirtual 32, 3) := by decide +kernel
theorem d_law_191 : decode code 191 = .ok (.if_icmp .eq 131, 3) := by decide +kernel
theorem d_law_194 : decode code 194 = .ok (.iconst 0, 1) := by decide +kernel
theorem d_law_195 : decode code 195 = .ok (.ireturn, 1) := by decide +kernel
theorem d_law_196 : decode code 196 = .ok (.aload_n 1, 1) := by decide +kernel
theorem d_law_197 : decode code 197 = .ok (.aload_n 0, 1) := by decide +kernel
theorem d_law_198 : decode code 198 = .ok (.iload_n 3, 1) := by decide +kernel
theorem d_law_199 : decode code 199 = .ok (.iconst 1, 1) := by decide +kernel
theorem d_law_200 : decode code 200 = .ok (.iadd, 1) := by decide +kernel
theorem d_law_201 : decode code 201 = .ok (.iaload, 1) := by decide +kernel
theorem d_law_202 : decode code 202 = .ok (.invokevirtual 33, 3) := by decide +kernel
theorem d_law_205 : decode code 205 = .ok (.aload_n 2, 1) := by decide +kernel
theorem d_law_206 : decode code 206 = .ok (.aload_n 0, 1) := by decide +kernel
theorem d_law_207 : decode code 207 = .ok (.iload_n 3, 1) := by decide +kernel
theorem d_law_208 : decode code 208 = .ok (.iconst 1, 1) := by decide +kernel
theorem d_law_209 : decode code 209 = .ok (.iadd, 1) := by decide +kernel
theorem d_law_210 : decode code 210 = .ok (.iaload, 1) := by decide +kernel
theorem d_law_211 : decode code 211 = .ok (.invokevirtual 36, 3) := by decide +kernel
theorem d_law_214 : decode code 214 = .ok (.if_icmp .eq 108, 3) := by decide +kernel
theorem d_law_217 : decode code 217 = .ok (.iconst 0, 1) := by decide +kernel
theorem d_law_218 : decode code 218 = .ok (.ireturn, 1) := by decide +kernel
theorem d_law_219 : decode code 219 = .ok (.aload_n 1, 1) := by decide +kernel
theorem d_law_220 : decode code 220 = .ok (.aload_n 0, 1) := by decide +kernel
theorem d_law_221 : decode code 221 = .ok (.iload_n 3, 1) := by decide +kernel
theorem d_law_222 : decode code 222 = .ok (.iconst 1, 1) := by decide +kernel
theorem d_law_223 : decode code 223 = .ok (.iadd, 1) := by decide +kernel
theorem d_law_224 : decode code 224 = .ok (.iaload, 1) := by decide +kernel
theorem d_law_225 : decode code 225 = .ok (.invokevirtual 37, 3) := by decide +kernel
theorem d_law_228 : decode code 228 = .ok (.aload_n 2, 1) := by decide +kernel
theorem d_law_229 : decode code 229 = .ok (.aload_n 0, 1) := by decide +kernel
theorem d_law_230 : decode code 230 = .ok (.iload_n 3, 1) := by decide +kernel
theorem d_law_231 : decode code 231 = .ok (.iconst 1, 1) := by decide +kernel
theorem d_law_232 : decode code 232 = .ok (.iadd, 1) := by decide +kernel
theorem d_law_233 : decode code 233 = .ok (.iaload, 1) := by decide +kernel
theorem d_law_234 : decode code 234 = .ok (.invokevirtual 40, 3) := by decide +kernel
theorem d_law_237 : decode code 237 = .ok (.if_icmp .eq 85, 3) := by decide +kernel
theorem d_law_240 : decode code 240 = .ok (.iconst 0, 1) := by decide +kernel
theorem d_law_241 : decode code 241 = .ok (.ireturn, 1) := by decide +kernel
theorem d_law_242 : decode code 242 = .ok (.aload_n 1, 1) := by decide +kernel
theorem d_law_243 : decode code 243 = .ok (.aload_n 0, 1) := by decide +kernel
theorem d_law_244 : decode code 244 = .ok (.iload_n 3, 1) := by decide +kernel
theorem d_law_245 : decode code 245 = .ok (.iconst 1, 1) := by decide +kernel
theorem d_law_246 : decode code 246 = .ok (.iadd, 1) := by decide +kernel
theorem d_law_247 : decode code 247 = .ok (.iaload, 1) := by decide +kernel
theorem d_law_248 : decode code 248 = .ok (.aload_n 0, 1) := by decide +kernel
theorem d_law_249 : decode code 249 = .ok (.iload_n 3, 1) := by decide +kernel
theorem d_law_250 : decode code 250 = .ok (.iconst 2, 1) := by decide +kernel
theorem d_law_251 : decode code 251 = .ok (.iadd, 1) := by decide +kernel
theorem d_law_252 : decode code 252 = .ok (.iaload, 1) := by decide +kernel
theorem d_law_253 : decode code 253 = .ok (.invokevirtual 41, 3) := by decide +kernel
theorem d_law_256 : decode code 256 = .ok (.aload_n 2, 1) := by decide +kernel
theorem d_law_257 : decode code 257 = .ok (.aload_n 0, 1) := by decide +kernel
theorem d_law_258 : decode code 258 = .ok (.iload_n 3, 1) := by decide +kernel
theorem d_law_259 : decode code 259 = .ok (.iconst 1, 1) := by decide +kernel
theorem d_law_260 : decode code 260 = .ok (.iadd, 1) := by decide +kernel
theorem d_law_261 : decode code 261 = .ok (.iaload, 1) := by decide +kernel
theorem d_law_262 : decode code 262 = .ok (.aload_n 0, 1) := by decide +kernel
theorem d_law_263 : decode code 263 = .ok (.iload_n 3, 1) := by decide +kernel
theorem d_law_264 : decode code 264 = .ok (.iconst 2, 1) := by decide +kernel
theorem d_law_265 : decode code 265 = .ok (.iadd, 1) := by decide +kernel
theorem d_law_266 : decode code 266 = .ok (.iaload, 1) := by decide +kernel
theorem d_law_267 : decode code 267 = .ok (.invokevirtual 44, 3) := by decide +kernel
theorem d_law_270 : decode code 270 = .ok (.if_icmp .eq 52, 3) := by decide +kernel
theorem d_law_273 : decode code 273 = .ok (.iconst 0, 1) := by decide +kernel
theorem d_law_274 : decode code 274 = .ok (.ireturn, 1) := by decide +kernel
theorem d_law_275 : decode code 275 = .ok (.aload_n 1, 1) := by decide +kernel
theorem d_law_276 : decode code 276 = .ok (.aload_n 0, 1) := by decide +kernel
theorem d_law_277 : decode code 277 = .ok (.iload_n 3, 1) := by decide +kernel
theorem d_law_278 : decode code 278 = .ok (.iconst 1, 1) := by decide +kernel
theorem d_law_279 : decode code 279 = .ok (.iadd, 1) := by decide +kernel
theorem d_law_280 : decode code 280 = .ok (.iaload, 1) := by decide +kernel
theorem d_law_281 : decode code 281 = .ok (.aload_n 0, 1) := by decide +kernel
theorem d_law_282 : decode code 282 = .ok (.iload_n 3, 1) := by decide +kernel
theorem d_law_283 : decode code 283 = .ok (.iconst 2, 1) := by decide +kernel
theorem d_law_284 : decode code 284 = .ok (.iadd, 1) := by decide +kernel
theorem d_law_285 : decode code 285 = .ok (.iaload, 1) := by decide +kernel
theorem d_law_286 : decode code 286 = .ok (.invokevirtual 45, 3) := by decide +kernel
theorem d_law_289 : decode code 289 = .ok (.aload_n 2, 1) := by decide +kernel
theorem d_law_290 : decode code 290 = .ok (.aload_n 0, 1) := by decide +kernel
theorem d_law_291 : decode code 291 = .ok (.iload_n 3, 1) := by decide +kernel
theorem d_law_292 : decode code 292 = .ok (.iconst 1, 1) := by decide +kernel
theorem d_law_293 : decode code 293 = .ok (.iadd, 1) := by decide +kernel
theorem d_law_294 : decode code 294 = .ok (.iaload, 1) := by decide +kernel
theorem d_law_295 : decode code 295 = .ok (.aload_n 0, 1) := by decide +kernel
theorem d_law_296 : decode code 296 = .ok (.iload_n 3, 1) := by decide +kernel
theorem d_law_297 : decode code 297 = .ok (.iconst 2, 1) := by decide +kernel
theorem d_law_298 : decode code 298 = .ok (.iadd, 1) := by decide +kernel
theorem d_law_299 : decode code 299 = .ok (.iaload, 1) := by decide +kernel
theorem d_law_300 : decode code 300 = .ok (.invokevirtual 49, 3) := by decide +kernel
theorem d_law_303 : decode code 303 = .ok (.lcmp, 1) := by decide +kernel
theorem d_law_304 : decode code 304 = .ok (.ifCond .eq 18, 3) := by decide +kernel
theorem d_law_307 : decode code 307 = .ok (.iconst 0, 1) := by decide +kernel
theorem d_law_308 : decode code 308 = .ok (.ireturn, 1) := by decide +kernel
theorem d_law_309 : decode code 309 = .ok (.aload_n 1, 1) := by decide +kernel
theorem d_law_310 : decode code 310 = .ok (.invokevirtual 50, 3) := by decide +kernel
theorem d_law_313 : decode code 313 = .ok (.aload_n 2, 1) := by decide +kernel
theorem d_law_314 : decode code 314 = .ok (.invokevirtual 53, 3) := by decide +kernel
theorem d_law_317 : decode code 317 = .ok (.if_icmp .eq 5, 3) := by decide +kernel
theorem d_law_320 : decode code 320 = .ok (.iconst 0, 1) := by decide +kernel
theorem d_law_321 : decode code 321 = .ok (.ireturn, 1) := by decide +kernel
theorem d_law_322 : decode code 322 = .ok (.iinc 3 4, 3) := by decide +kernel
theorem d_law_325 : decode code 325 = .ok (.goto (-307), 3) := by decide +kernel
theorem d_law_328 : decode code 328 = .ok (.iconst 1, 1) := by decide +kernel
theorem d_law_329 : decode code 329 = .ok (.ireturn, 1) := by decide +kernel
end
section
/-! the tree as numbers: what the methods compute, no program in sight -/
def bz (b : Bool) : Int32 := if b then 1 else 0
theorem bz_0 {b : Bool} : bz b = 0 ↔ b = false := by cases b <;> decide +kernel
theorem bz_nar (b : Bool) : vp_nar .boolean (bz b) = bz b := by cases b <;> first | rfl | decide +kernel
theorem bz_narrow (b : Bool) : narrow .boolean (.int (bz b)) = .int (bz b) := by cases b <;> first | rfl | decide +kernel
/-- arrays as pictures of functions: parents (row 0 apart), numbers, flags -/
def ar_p (c0 : Int32) (pf : Nat → Nat) : Nat → Int32 := fun j => if j = 0 then c0 else nI (pf j)
def ar_n (ef : Nat → Nat) : Nat → Int32 := fun j => nI (ef j)
def ar_b (xf : Nat → Bool) : Nat → Int32 := fun j => bz (xf j)
theorem ar_p_at {c0 : Int32} {pf : Nat → Nat} {k : Nat} (hk : k ≠ 0) : ar_p c0 pf k = nI (pf k) := if_neg hk
theorem ar_p_0 {c0 : Int32} {pf : Nat → Nat} : ar_p c0 pf 0 = c0 := if_pos rfl
theorem ar_p_up {c0 : Int32} {pf : Nat → Nat} {k v : Nat} (hk : k ≠ 0) : upd (ar_p c0 pf) k (nI v) = ar_p c0 (va_up pf k v) := by
  funext j
  unfold upd ar_p va_up
  by_cases h : j = k
  · subst h; simp [hk]
  · simp [h]
theorem ar_n_up {ef : Nat → Nat} {k v : Nat} : upd (ar_n ef) k (nI v) = ar_n (va_up ef k v) := by
  funext j
  unfold upd ar_n va_up
  by_cases h : j = k <;> simp [h]
theorem ar_b_up {xf : Nat → Bool} {k : Nat} {v : Bool} : upd (ar_b xf) k (bz v) = ar_b (va_up xf k v) := by
  funext j
  unfold upd ar_b va_up
  by_cases h : j = k <;> simp [h]
theorem up_at {α : Type} {f : Nat → α} {k : Nat} {v : α} : va_up f k v k = v := if_pos rfl
theorem up_ne {α : Type} {f : Nat → α} {k j : Nat} {v : α} (h : j ≠ k) : va_up f k v j = f j := if_neg h
/-- a tree: parents are smaller, heights go up by one -/
def Tr (n : Nat) (pf ef : Nat → Nat) : Prop := ef 0 = 0 ∧ ∀ k, 1 ≤ k → k < n → pf k < k ∧ ef k = ef (pf k) + 1
theorem Tr.le {n : Nat} {pf ef : Nat → Nat} (h : Tr n pf ef) : ∀ k, k < n → ef k ≤ k := by
  intro k
  induction k using Nat.strongRecOn with
  | ind k ih =>
    intro hk
    by_cases h0 : k = 0
    · subst h0; rw [h.1]; exact Nat.le_refl _
    · obtain ⟨h1, h2⟩ := h.2 k (by omega) hk
      have := ih (pf k) h1 (by omega)
      omega
theorem Tr.pos {n : Nat} {pf ef : Nat → Nat} (h : Tr n pf ef) {k : Nat} (hk : k < n) (h0 : 0 < ef k) : 1 ≤ k := by
  rcases Nat.eq_zero_or_pos k with h1 | h1
  · subst h1; rw [h.1] at h0; omega
  · exact h1
theorem Tr.up {n : Nat} {pf ef : Nat → Nat} (h : Tr n pf ef) {k : Nat} (hk : k < n) : Tr (n + 1) (va_up pf n k) (va_up ef n (ef k + 1)) := by
  refine ⟨by rw [up_ne (by omega)]; exact h.1, fun j h1 h2 => ?_⟩
  by_cases hj : j = n
  · subst hj
    rw [up_at, up_at, up_ne (by omega)]
    exact ⟨hk, rfl⟩
  · obtain ⟨g1, g2⟩ := h.2 j h1 (by omega)
    rw [up_ne hj, up_ne hj, up_ne (by omega)]
    exact ⟨g1, g2⟩
/-- the forebear at a height -/
def wt_anc (pf ef : Nat → Nat) (t : Nat) : Nat → Nat → Nat
  | 0, k => k
  | f + 1, k => if ef k ≤ t then k else wt_anc pf ef t f (pf k)
theorem wt_anc_le {n : Nat} {pf ef : Nat → Nat} (h : Tr n pf ef) (t : Nat) : ∀ f k, k < n → wt_anc pf ef t f k ≤ k := by
  intro f
  induction f with
  | zero => intro k _; exact Nat.le_refl _
  | succ f ih =>
    intro k hk
    unfold wt_anc
    by_cases h1 : ef k ≤ t
    · rw [if_pos h1]; exact Nat.le_refl _
    · rw [if_neg h1]
      have h2 := h.pos hk (by omega)
      have h3 := (h.2 k h2 hk).1
      have := ih (pf k) (by omega)
      omega
theorem wt_anc_eq {n : Nat} {pf ef pf' ef' : Nat → Nat} (h : Tr n pf ef) (hp : ∀ j, j < n → pf' j = pf j) (he : ∀ j, j < n → ef' j = ef j) (t : Nat) : ∀ f k, k < n → wt_anc pf' ef' t f k = wt_anc pf ef t f k := by
  intro f
  induction f with
  | zero => intro k _; rfl
  | succ f ih =>
    intro k hk
    unfold wt_anc
    rw [he k hk, hp k hk]
    by_cases h1 : ef k ≤ t
    · rw [if_pos h1, if_pos h1]
    · rw [if_neg h1, if_neg h1]
      have h2 := h.pos hk (by omega)
      have h3 := (h.2 k h2 hk).1
      exact ih (pf k) (by omega)
theorem wt_anc_s (pf ef : Nat → Nat) (t f k : Nat) : wt_anc pf ef t (f + 1) k = if ef k ≤ t then k else wt_anc pf ef t f (pf k) := rfl
theorem wt_anc_fuel {n : Nat} {pf ef : Nat → Nat} (h : Tr n pf ef) (t : Nat) : ∀ f k, k < n → k ≤ f → wt_anc pf ef t (f + 1) k = wt_anc pf ef t f k := by
  intro f
  induction f with
  | zero =>
    intro k hk hf
    obtain rfl : k = 0 := by omega
    rw [wt_anc_s, if_pos (by rw [h.1]; exact Nat.zero_le _)]
    rfl
  | succ f ih =>
    intro k hk hf
    rw [wt_anc_s pf ef t (f + 1) k, wt_anc_s pf ef t f k]
    by_cases h1 : ef k ≤ t
    · rw [if_pos h1, if_pos h1]
    · rw [if_neg h1, if_neg h1]
      have h2 := h.pos hk (by omega)
      have h3 := (h.2 k h2 hk).1
      exact ih (pf k) (by omega) (by omega)
theorem wt_anc_pos {pf ef : Nat → Nat} {t k : Nat} (h : ef k ≤ t) : wt_anc pf ef t 512 k = k := (wt_anc_s pf ef t 511 k).trans (if_pos h)
theorem wt_anc_neg {n : Nat} {pf ef : Nat → Nat} (h : Tr n pf ef) (hn : n ≤ 512) {t k : Nat} (hk : k < n) (ht : t < ef k) : wt_anc pf ef t 512 k = wt_anc pf ef t 512 (pf k) := by
  have h2 := h.pos hk (by omega)
  have h3 := (h.2 k h2 hk).1
  rw [wt_anc_fuel h t 511 (pf k) (by omega) (by omega)]
  exact (wt_anc_s pf ef t 511 k).trans (if_neg (by omega))
/-- the insertion of one time, and the median's walk -/
def wt_ins (v : Int32) : Nat → (Nat → Int32) → (Nat → Int32)
  | 0, ts => va_up ts 0 v
  | i + 1, ts => if ts i ≤ v then va_up ts (i + 1) v else wt_ins v i (va_up ts (i + 1) (ts i))
def wt_md (pf : Nat → Nat) (tf : Nat → Int32) : Nat → Nat → Nat → (Nat → Int32) → (Nat → Int32) × Nat
  | 0, _, many, ts => (ts, many)
  | f + 1, k, many, ts => if k = 0 then (wt_ins (tf k) many ts, many + 1) else wt_md pf tf f (pf k) (many + 1) (wt_ins (tf k) many ts)
def wt_medT (pf : Nat → Nat) (tf : Nat → Int32) (k : Nat) (ts : Nat → Int32) : Nat → Int32 := (wt_md pf tf 7 k 0 ts).1
def wt_medR (pf : Nat → Nat) (tf : Nat → Int32) (k : Nat) (ts : Nat → Int32) : Int32 := (wt_md pf tf 7 k 0 ts).1 ((wt_md pf tf 7 k 0 ts).2 / 2)
/-- the target that is due -/
def wt_clS (x : Int32) : Nat := if x.toInt < 20 then 20 else if 320 < x.toInt then 320 else x.toInt.toNat
def wt_clT (t : Nat) : Nat := if t < 2048 then 2048 else if 65535 < t then 65535 else t
def wt_due (pf ef gf : Nat → Nat) (tf : Nat → Int32) (k : Nat) : Nat := if (ef k + 1) % 8 = 0 then wt_clT (gf k * wt_clS (tf k - tf (wt_anc pf ef (ef k + 1 - 8) 512 k)) / 80) else gf k
theorem wt_clS_in (x : Int32) : 20 ≤ wt_clS x ∧ wt_clS x ≤ 320 := by
  unfold wt_clS
  split
  · omega
  · split <;> omega
theorem wt_clT_in (t : Nat) : 2048 ≤ wt_clT t ∧ wt_clT t ≤ 65535 := by
  unfold wt_clT
  split
  · omega
  · split <;> omega
/-- the targets' bounds -/
def Tg (n : Nat) (gf : Nat → Nat) : Prop := ∀ k, k < n → 2048 ≤ gf k ∧ gf k ≤ 65535
theorem wt_due_in {n : Nat} {pf ef gf : Nat → Nat} {tf : Nat → Int32} (h : Tg n gf) {k : Nat} (hk : k < n) : 2048 ≤ wt_due pf ef gf tf k ∧ wt_due pf ef gf tf k ≤ 65535 := by
  unfold wt_due
  split
  · exact wt_clT_in _
  · exact h k hk
theorem wt_due_eq {n : Nat} {pf ef gf pf' ef' gf' : Nat → Nat} {tf tf' : Nat → Int32} (h : Tr n pf ef) (hp : ∀ j, j < n → pf' j = pf j) (he : ∀ j, j < n → ef' j = ef j) (hg : ∀ j, j < n → gf' j = gf j) (ht : ∀ j, j < n → tf' j = tf j) {k : Nat} (hk : k < n) : wt_due pf' ef' gf' tf' k = wt_due pf ef gf tf k := by
  unfold wt_due
  have h1 := wt_anc_le h (ef k + 1 - 8) 512 k hk
  rw [he k hk, hg k hk, ht k hk, wt_anc_eq h hp he _ 512 k hk, ht _ (by omega)]
theorem Tg.up {n : Nat} {gf : Nat → Nat} (h : Tg n gf) {v : Nat} (hv : 2048 ≤ v ∧ v ≤ 65535) : Tg (n + 1) (va_up gf n v) := by
  intro k hk
  by_cases hj : k = n
  · subst hj; rw [up_at]; exact hv
  · rw [up_ne hj]; exact h k (by omega)
/-- a block is refused, and so are all behind it -/
def wt_rf (pf : Nat → Nat) : Nat → Nat → (Nat → Bool) → (Nat → Bool)
  | 0, _, xf => xf
  | c + 1, j, xf => wt_rf pf c (j + 1) (if xf (pf j) = true then va_up xf j true else xf)
/-- the flags of the class against the marks of the reference -/
def Wr (n : Nat) (pf : Nat → Nat) (rf xf : Nat → Bool) : Prop := xf 0 = false ∧ ∀ x, 1 ≤ x → x < n → xf x = (rf x || xf (pf x))
theorem Wr.up {n : Nat} {pf ef : Nat → Nat} {rf xf : Nat → Bool} (hT : Tr n pf ef) (hn : 1 ≤ n) (h : Wr n pf rf xf) (hr : rf n = false) {k : Nat} (hk : k < n) : Wr (n + 1) (va_up pf n k) rf (va_up xf n (xf k)) := by
  refine ⟨by rw [up_ne (by omega)]; exact h.1, fun x h1 h2 => ?_⟩
  by_cases hj : x = n
  · subst hj
    rw [up_at, up_at, up_ne (by omega), hr, Bool.false_or]
  · have h3 := (hT.2 x h1 (by omega)).1
    rw [up_ne hj, up_ne hj, up_ne (by omega)]
    exact h.2 x h1 (by omega)
theorem wt_rf_wr {n : Nat} {pf ef : Nat → Nat} {rf : Nat → Bool} {xf : Nat → Bool} (hT : Tr n pf ef) (h : Wr n pf rf xf) {k : Nat} (hk : 1 ≤ k) (hkn : k < n) :
    ∀ (c j : Nat) (yf : Nat → Bool), c + j = n → k < j → yf 0 = false → (∀ x, 1 ≤ x → x < j → yf x = (va_up rf k true x || yf (pf x))) → (∀ x, j ≤ x → yf x = xf x) → (∀ x, xf x = true → yf x = true) → Wr n pf (va_up rf k true) (wt_rf pf c j yf) := by
  intro c
  induction c with
  | zero =>
    intro j yf hc hj h0 h1 h2 h3
    exact ⟨h0, fun x g1 g2 => h1 x g1 (by omega)⟩
  | succ c ih =>
    intro j yf hc hj h0 h1 h2 h3
    unfold wt_rf
    obtain ⟨g1, -⟩ := hT.2 j (by omega) (by omega)
    have hold := h.2 j (by omega) (by omega)
    refine ih (j + 1) _ (by omega) (by omega) ?_ ?_ ?_ ?_
    · split
      · rw [up_ne (by omega)]; exact h0
      · exact h0
    · intro x a1 a2
      by_cases hx : x = j
      · subst hx
        rw [up_ne (by omega)]
        by_cases hy : yf (pf x) = true
        · rw [if_pos hy, up_at, up_ne (by omega), hy, Bool.or_true]
        · rw [if_neg hy]
          have hy0 : yf (pf x) = false := by simpa using hy
          have hz : xf (pf x) = false := by
            cases hq : xf (pf x) with
            | false => rfl
            | true => exact absurd (h3 _ hq) hy
          rw [h2 x (Nat.le_refl _), hold, hz, hy0]
      · have a3 : x < j := by omega
        have a4 := (hT.2 x a1 (by omega)).1
        have a5 := h1 x a1 a3
        split
        · rw [up_ne hx, up_ne (f := yf) (k := j) (j := pf x) (by omega)]; exact a5
        · exact a5
    · intro x a1
      split
      · rw [up_ne (by omega)]; exact h2 x (by omega)
      · exact h2 x (by omega)
    · intro x a1
      split
      · by_cases hx : x = j
        · subst hx; exact up_at
        · rw [up_ne hx]; exact h3 x a1
      · exact h3 x a1
theorem wt_refused {n : Nat} {pf ef : Nat → Nat} {rf xf : Nat → Bool} (hT : Tr n pf ef) (h : Wr n pf rf xf) {k : Nat} (hk : 1 ≤ k) (hkn : k < n) : Wr n pf (va_up rf k true) (wt_rf pf (n - (k + 1)) (k + 1) (va_up xf k true)) := by
  refine wt_rf_wr hT h hk hkn (n - (k + 1)) (k + 1) (va_up xf k true) (by omega) (by omega) ?_ ?_ ?_ ?_
  · rw [up_ne (by omega)]; exact h.1
  · intro x a1 a2
    have a4 := (hT.2 x a1 (by omega)).1
    by_cases hx : x = k
    · subst hx; rw [up_at, up_at, Bool.true_or]
    · rw [up_ne hx, up_ne hx, up_ne (by omega)]
      exact h.2 x a1 (by omega)
  · intro x a1; exact up_ne (by omega)
  · intro x a1
    by_cases hx : x = k
    · subst hx; exact up_at
    · rw [up_ne hx]; exact a1
/-- the best block -/
def wt_bet (wf : Nat → Int64) (af : Nat → Int32) (j b : Nat) : Bool := decide (wf b < wf j ∨ (wf j = wf b ∧ af j < af b))
def wt_bt (wf : Nat → Int64) (af : Nat → Int32) (xf : Nat → Bool) : Nat → Nat → Nat → Nat
  | 0, _, b => b
  | c + 1, j, b => wt_bt wf af xf c (j + 1) (if xf j = false ∧ wt_bet wf af j b = true then j else b)
/-- where two branches part -/
def wt_fk (pf : Nat → Nat) : Nat → Nat → Nat → Nat
  | 0, a, _ => a
  | f + 1, a, b => if a = b then a else if b < a then wt_fk pf f (pf a) b else wt_fk pf f a (pf b)
theorem wt_fk_s (pf : Nat → Nat) (f a b : Nat) : wt_fk pf (f + 1) a b = if a = b then a else if b < a then wt_fk pf f (pf a) b else wt_fk pf f a (pf b) := rfl
theorem wt_fk_fuel {n : Nat} {pf ef : Nat → Nat} (hT : Tr n pf ef) : ∀ f a b, a < n → b < n → a + b ≤ f → wt_fk pf (f + 1) a b = wt_fk pf f a b := by
  intro f
  induction f with
  | zero =>
    intro a b ha hb hs
    have h1 : a = b := by omega
    subst h1
    simp [wt_fk]
  | succ f ih =>
    intro a b ha hb hs
    rw [wt_fk_s pf (f + 1) a b, wt_fk_s pf f a b]
    by_cases h1 : a = b
    · rw [if_pos h1, if_pos h1]
    · rw [if_neg h1, if_neg h1]
      by_cases h2 : b < a
      · rw [if_pos h2, if_pos h2]
        have h3 := (hT.2 a (by omega) ha).1
        exact ih (pf a) b (by omega) hb (by omega)
      · rw [if_neg h2, if_neg h2]
        have h3 := (hT.2 b (by omega) hb).1
        exact ih a (pf b) ha (by omega) (by omega)
def wt_lc (pf : Nat → Nat) (a b : Nat) : Nat := wt_fk pf 1024 a b
theorem wt_lc_self (pf : Nat → Nat) (a : Nat) : wt_lc pf a a = a := by
  unfold wt_lc
  exact (wt_fk_s pf 1023 a a).trans (if_pos rfl)
theorem wt_lc_gt {n : Nat} {pf ef : Nat → Nat} (hT : Tr n pf ef) (hn : n ≤ 512) {a b : Nat} (ha : a < n) (hb : b < n) (h : b < a) : wt_lc pf a b = wt_lc pf (pf a) b := by
  have h3 := (hT.2 a (by omega) ha).1
  have h4 := wt_fk_fuel hT 1023 (pf a) b (by omega) hb (by omega)
  unfold wt_lc
  rw [h4]
  show wt_fk pf (1023 + 1) a b = _
  rw [wt_fk_s, if_neg (by omega), if_pos h]
theorem wt_lc_lt {n : Nat} {pf ef : Nat → Nat} (hT : Tr n pf ef) (hn : n ≤ 512) {a b : Nat} (ha : a < n) (hb : b < n) (h : a < b) : wt_lc pf a b = wt_lc pf a (pf b) := by
  have h3 := (hT.2 b (by omega) hb).1
  have h4 := wt_fk_fuel hT 1023 a (pf b) ha (by omega) (by omega)
  unfold wt_lc
  rw [h4]
  show wt_fk pf (1023 + 1) a b = _
  rw [wt_fk_s, if_neg (by omega), if_neg (by omega)]
theorem wt_lc_hge {n : Nat} {pf ef : Nat → Nat} (hT : Tr n pf ef) (hn : n ≤ 512) : ∀ N a b, a + b ≤ N → a < n → b < n → a ≠ b → ef b ≤ ef a → wt_lc pf a b = wt_lc pf (pf a) b := by
  intro N
  induction N with
  | zero => intro a b hs _ _ hab _; omega
  | succ N ih =>
    intro a b hs ha hb hab hh
    by_cases h1 : b < a
    · exact wt_lc_gt hT hn ha hb h1
    · have h2 : a < b := by omega
      obtain ⟨g1, g2⟩ := hT.2 b (by omega) hb
      have ha1 := hT.pos ha (show 0 < ef a by omega)
      obtain ⟨g3, g4⟩ := hT.2 a ha1 ha
      have hne : a ≠ pf b := by
        intro q
        rw [← q] at g2
        omega
      rw [wt_lc_lt hT hn ha hb h2, ih a (pf b) (by omega) ha (by omega) hne (by omega)]
      exact (wt_lc_lt hT hn (by omega) hb (by omega)).symm
theorem wt_lc_hlt {n : Nat} {pf ef : Nat → Nat} (hT : Tr n pf ef) (hn : n ≤ 512) : ∀ N a b, a + b ≤ N → a < n → b < n → ef a < ef b → wt_lc pf a b = wt_lc pf a (pf b) := by
  intro N
  induction N with
  | zero =>
    intro a b hs _ _ hh
    have h1 : a = b := by omega
    subst h1
    omega
  | succ N ih =>
    intro a b hs ha hb hh
    by_cases h1 : a < b
    · exact wt_lc_lt hT hn ha hb h1
    · have hne : a ≠ b := fun q => by subst q; omega
      have h2 : b < a := by omega
      have hb1 := hT.pos hb (show 0 < ef b by omega)
      obtain ⟨g1, g2⟩ := hT.2 b hb1 hb
      obtain ⟨g3, g4⟩ := hT.2 a (by omega) ha
      rw [wt_lc_gt hT hn ha hb h2, ih (pf a) b (by omega) (by omega) hb (by omega)]
      exact (wt_lc_gt hT hn ha (by omega) (by omega)).symm
/-- what is looked up -/
def wt_look (pf ef gf : Nat → Nat) (tf : Nat → Int32) (wf : Nat → Int64) (xf : Nat → Bool) (k : Nat) (q : Int32) : Int64 :=
  if q = 0 then (nI (ef k)).toInt64 else if q = 1 then (if k = 0 then -2 else (nI (pf k)).toInt64) else if q = 2 then (tf k).toInt64 else if q = 3 then (nI (gf k)).toInt64 else if q = 4 then wf k else (if xf k = true then 1 else 0)
/-- an argument as an index below n -/
def wt_ix (x : Int32) (n : Nat) : Option Nat := if 0 ≤ x.toInt ∧ x.toInt < n then some x.toInt.toNat else none
theorem wt_ix_some {j n : Nat} (hj : j < n) (hn : n ≤ 512) : wt_ix (nI j) n = some j := by
  unfold wt_ix
  rw [nI_toInt (by omega), if_pos ⟨by omega, by omega⟩]
  simp
theorem wt_ix_none {x : Int32} {n : Nat} (h : ¬ (0 ≤ x.toInt ∧ x.toInt < n)) : wt_ix x n = none := if_neg h
theorem wt_ix_in {x : Int32} {n : Nat} (hn : n ≤ 512) (h : 0 ≤ x.toInt ∧ x.toInt < n) : ∃ j, j < n ∧ x = nI j := by
  refine ⟨x.toInt.toNat, by omega, ?_⟩
  apply Int32.toInt_inj.mp
  rw [nI_toInt (by omega)]
  omega
/-- the state, and what the three writing calls do -/
abbrev wt_S : Type := Nat × (Nat → Nat) × (Nat → Nat) × (Nat → Nat) × (Nat → Int32) × (Nat → Int32) × (Nat → Int64) × (Nat → Bool) × (Nat → Int32)
def wt_newW (pf ef gf : Nat → Nat) (tf : Nat → Int32) (wf : Nat → Int64) (k : Nat) : Int64 := wf k + (nI (16777216 / wt_due pf ef gf tf k)).toInt64
def wt_grown (n : Nat) (pf ef gf : Nat → Nat) (tf af : Nat → Int32) (wf : Nat → Int64) (xf' : Nat → Bool) (ts : Nat → Int32) (k : Nat) (ti ar : Int32) : wt_S :=
  (n + 1, va_up pf n k, va_up ef n (ef k + 1), va_up gf n (wt_due pf ef gf tf k), va_up tf n ti, va_up af n ar, va_up wf n (wt_newW pf ef gf tf wf k), xf', ts)
def wt_add (fw : (Nat → Bool) → Nat → Nat → (Nat → Bool)) (n : Nat) (pf ef gf : Nat → Nat) (tf af : Nat → Int32) (wf : Nat → Int64) (xf : Nat → Bool) (ts : Nat → Int32) (pa ti ar : Int32) : Int32 × wt_S :=
  match wt_ix pa n with
  | none => (-1, (n, pf, ef, gf, tf, af, wf, xf, ts))
  | some k => if ti ≤ wt_medR pf tf k ts ∨ ar < 0 then (-1, (n, pf, ef, gf, tf, af, wf, xf, wt_medT pf tf k ts))
    else if n = 512 then (-3, (n, pf, ef, gf, tf, af, wf, xf, wt_medT pf tf k ts))
    else (nI n, wt_grown n pf ef gf tf af wf (fw xf n k) (wt_medT pf tf k ts) k ti ar)
def wt_fwC : (Nat → Bool) → Nat → Nat → (Nat → Bool) := fun xf n k => va_up xf n (xf k)
def wt_fwM : (Nat → Bool) → Nat → Nat → (Nat → Bool) := fun xf _ _ => xf
def wt_rfR (n : Nat) (pf : Nat → Nat) (af : Nat → Int32) (wf : Nat → Int64) (xf : Nat → Bool) (b : Int32) : Int32 :=
  match wt_ix b n with
  | none => -1
  | some k => if k = 0 then -1 else nI (wt_bt wf af (wt_rf pf (n - (k + 1)) (k + 1) (va_up xf k true)) (n - 1) 1 0)
def wt_rfC (n : Nat) (pf : Nat → Nat) (xf : Nat → Bool) (b : Int32) : Nat → Bool :=
  match wt_ix b n with
  | none => xf
  | some k => if k = 0 then xf else wt_rf pf (n - (k + 1)) (k + 1) (va_up xf k true)
def wt_rfM (n : Nat) (rf : Nat → Bool) (b : Int32) : Nat → Bool :=
  match wt_ix b n with
  | none => rf
  | some k => if k = 0 then rf else va_up rf k true
end
section
/-! rows over numbers: the kit's rows, with indices and ints as nI of a Nat -/
abbrev wt_ty (cI cJ cZ : ClassId) : List (ClassId × FieldType) := [(cI, .int), (cJ, .long), (cZ, .boolean)]
/-- the worlds: the chain (cells a 0 .. a 8), the tree above it, the reference (cells a 0 .. a 8 of its own) -/
abbrev ch_ws (a : Nat → Nat) (cI cJ cZ : ClassId) (n : Nat) (pf ef gf : Nat → Nat) (tf af : Nat → Int32) (wf : Nat → Int64) (xf : Nat → Bool) (ts : Nat → Int32) : va_W :=
  [(a 0, .inr (1, [.int (nI n), .ref (a 1), .ref (a 2), .ref (a 3), .ref (a 4), .ref (a 5), .ref (a 6), .ref (a 7), .ref (a 8)])), (a 1, .inl (cI, 512, .inl (ar_p (-1) pf))), (a 2, .inl (cI, 512, .inl (ar_n ef))), (a 3, .inl (cI, 512, .inl tf)), (a 4, .inl (cI, 512, .inl (ar_n gf))), (a 5, .inl (cI, 512, .inl af)), (a 6, .inl (cJ, 512, .inr (.inl wf))), (a 7, .inl (cZ, 512, .inl (ar_b xf))), (a 8, .inl (cI, 7, .inl ts))]
abbrev tr_ws (t : Nat) (a : Nat → Nat) (cI cJ cZ : ClassId) (n : Nat) (pf ef gf : Nat → Nat) (tf af : Nat → Int32) (wf : Nat → Int64) (xf : Nat → Bool) (ts : Nat → Int32) : va_W :=
  (t, .inr (0, [.ref (a 0)])) :: ch_ws a cI cJ cZ n pf ef gf tf af wf xf ts
abbrev mo_ws (b : Nat → Nat) (cI cJ cZ : ClassId) (n : Nat) (pf ef gf : Nat → Nat) (tf af : Nat → Int32) (wf : Nat → Int64) (xf : Nat → Bool) (ts : Nat → Int32) : va_W :=
  [(b 0, .inr (2, [.ref (b 1), .ref (b 2), .ref (b 3), .ref (b 4), .ref (b 5), .ref (b 6), .ref (b 7), .ref (b 8), .int (nI n)])), (b 1, .inl (cI, 512, .inl (ar_p (-2) pf))), (b 2, .inl (cI, 512, .inl (ar_n ef))), (b 3, .inl (cI, 512, .inl tf)), (b 4, .inl (cI, 512, .inl (ar_n gf))), (b 5, .inl (cJ, 512, .inr (.inl wf))), (b 6, .inl (cI, 512, .inl af)), (b 7, .inl (cZ, 512, .inl (ar_b xf))), (b 8, .inl (cI, 7, .inl ts))]
abbrev ch_u (a : Nat → Nat) (cI cJ cZ : ClassId) (u : wt_S) : va_W := ch_ws a cI cJ cZ u.1 u.2.1 u.2.2.1 u.2.2.2.1 u.2.2.2.2.1 u.2.2.2.2.2.1 u.2.2.2.2.2.2.1 u.2.2.2.2.2.2.2.1 u.2.2.2.2.2.2.2.2
abbrev tr_u (t : Nat) (a : Nat → Nat) (cI cJ cZ : ClassId) (u : wt_S) : va_W := tr_ws t a cI cJ cZ u.1 u.2.1 u.2.2.1 u.2.2.2.1 u.2.2.2.2.1 u.2.2.2.2.2.1 u.2.2.2.2.2.2.1 u.2.2.2.2.2.2.2.1 u.2.2.2.2.2.2.2.2
abbrev mo_u (b : Nat → Nat) (cI cJ cZ : ClassId) (u : wt_S) : va_W := mo_ws b cI cJ cZ u.1 u.2.1 u.2.2.1 u.2.2.2.1 u.2.2.2.2.1 u.2.2.2.2.2.1 u.2.2.2.2.2.2.1 u.2.2.2.2.2.2.2.1 u.2.2.2.2.2.2.2.2
theorem wt_inc1 (k : Nat) : nI k + Int32.ofInt 1 = nI (k + 1) := by
  rw [show Int32.ofInt 1 = 1 from by decide +kernel]; exact nI_1 k
theorem wt_inc4 (k : Nat) : nI k + Int32.ofInt 4 = nI (k + 4) := by
  rw [show Int32.ofInt 4 = nI 4 from by decide +kernel]; exact nI_add k 4
theorem wt_dec1 (k : Nat) : nI (k + 1) + Int32.ofInt (-1) = nI k := by
  rw [show Int32.ofInt (-1) = -1 from by decide +kernel]; exact pk_m1 k
section WN
variable {p : Program} {l : Launch} {e : Env} {R : Room} {s : State} {m : MethodId} {args : Array Value} {below : List Frame} {meth : Method} {c : Code} {H : Heap} {locs : List Loc} {cells slots : Nat} {Q : State → Prop}
variable {cc : ByteArray} {pc : Nat} {ls : Array Slot} {rest : List Value}
theorem wt_top {x v : Int32} (h : x = v) (k : W p l e R s m args below meth c H locs cells slots Q (F0 m pc ls (.int v :: rest))) : W p l e R s m args below meth c H locs cells slots Q (F0 m pc ls (.int x :: rest)) := h ▸ k
theorem wt_topL {x v : Int64} (h : x = v) (k : W p l e R s m args below meth c H locs cells slots Q (F0 m pc ls (.long v :: rest))) : W p l e R s m args below meth c H locs cells slots Q (F0 m pc ls (.long x :: rest)) := h ▸ k
theorem wn_iadd (hexec : p.tables.exec = Jvm.exec) (hb : c.code = cc) {x y : Nat} (hdg : decode cc pc = .ok (.iadd, 1)) (k : W p l e R s m args below meth c H locs cells slots Q (F0 m (pc + 1) ls (.int (nI (x + y)) :: rest))) : W p l e R s m args below meth c H locs cells slots Q (F0 m pc ls (.int (nI y) :: .int (nI x) :: rest)) :=
  lv_iadd hexec hb hdg (by rw [nI_add]; exact k)
theorem wn_isub (hexec : p.tables.exec = Jvm.exec) (hb : c.code = cc) {x y : Nat} (h : y ≤ x) (hdg : decode cc pc = .ok (.isub, 1)) (k : W p l e R s m args below meth c H locs cells slots Q (F0 m (pc + 1) ls (.int (nI (x - y)) :: rest))) : W p l e R s m args below meth c H locs cells slots Q (F0 m pc ls (.int (nI y) :: .int (nI x) :: rest)) :=
  lv_isub hexec hb hdg (by rw [pk_sub h]; exact k)
theorem wn_imul (hexec : p.tables.exec = Jvm.exec) (hb : c.code = cc) {x y : Nat} (hdg : decode cc pc = .ok (.imul, 1)) (k : W p l e R s m args below meth c H locs cells slots Q (F0 m (pc + 1) ls (.int (nI (x * y)) :: rest))) : W p l e R s m args below meth c H locs cells slots Q (F0 m pc ls (.int (nI y) :: .int (nI x) :: rest)) :=
  lv_imul hexec hb hdg (by rw [pk_mul]; exact k)
theorem wn_idiv (hexec : p.tables.exec = Jvm.exec) (hb : c.code = cc) {x y : Nat} (hx : x < 2 ^ 31) (h0 : 0 < y) (hy : y < 2 ^ 31) (hdg : decode cc pc = .ok (.idiv, 1)) (k : W p l e R s m args below meth c H locs cells slots Q (F0 m (pc + 1) ls (.int (nI (x / y)) :: rest))) : W p l e R s m args below meth c H locs cells slots Q (F0 m pc ls (.int (nI y) :: .int (nI x) :: rest)) :=
  lv_idiv hexec hb hdg (nI_ne0 h0 hy) (by rw [pk_div hx h0 hy]; exact k)
theorem wn_irem (hexec : p.tables.exec = Jvm.exec) (hb : c.code = cc) {x y : Nat} (hx : x < 2 ^ 31) (h0 : 0 < y) (hy : y < 2 ^ 31) (hdg : decode cc pc = .ok (.irem, 1)) (k : W p l e R s m args below meth c H locs cells slots Q (F0 m (pc + 1) ls (.int (nI (x % y)) :: rest))) : W p l e R s m args below meth c H locs cells slots Q (F0 m pc ls (.int (nI y) :: .int (nI x) :: rest)) :=
  lv_irem hexec hb hdg (nI_ne0 h0 hy) (by rw [pk_rem hx h0 hy]; exact k)
theorem wn_icmp_eq (hexec : p.tables.exec = Jvm.exec) (hb : c.code = cc) {x y : Nat} (hx : x < 2 ^ 31) (hy : y < 2 ^ 31) {off : Int} {tgt : Nat} (hdg : decode cc pc = .ok (.if_icmp .eq off, 3)) (ht : (pc : Int) + off = (tgt : Int)) (kt : x = y → W p l e R s m args below meth c H locs cells slots Q (F0 m tgt ls rest)) (kf : x ≠ y → W p l e R s m args below meth c H locs cells slots Q (F0 m (pc + 3) ls rest)) : W p l e R s m args below meth c H locs cells slots Q (F0 m pc ls (.int (nI y) :: .int (nI x) :: rest)) :=
  lv_icmp_eq hexec hb hdg ht (fun h => kt ((nI_eq hx hy).mp h)) (fun h => kf (fun q => h (by rw [q])))
theorem wn_icmp_ne (hexec : p.tables.exec = Jvm.exec) (hb : c.code = cc) {x y : Nat} (hx : x < 2 ^ 31) (hy : y < 2 ^ 31) {off : Int} {tgt : Nat} (hdg : decode cc pc = .ok (.if_icmp .ne off, 3)) (ht : (pc : Int) + off = (tgt : Int)) (kt : x ≠ y → W p l e R s m args below meth c H locs cells slots Q (F0 m tgt ls rest)) (kf : x = y → W p l e R s m args below meth c H locs cells slots Q (F0 m (pc + 3) ls rest)) : W p l e R s m args below meth c H locs cells slots Q (F0 m pc ls (.int (nI y) :: .int (nI x) :: rest)) :=
  lv_icmp_ne hexec hb hdg ht (fun h => kt (fun q => h (by rw [q]))) (fun h => kf ((nI_eq hx hy).mp h))
theorem wn_icmp_lt (hexec : p.tables.exec = Jvm.exec) (hb : c.code = cc) {x y : Nat} (hx : x < 2 ^ 31) (hy : y < 2 ^ 31) {off : Int} {tgt : Nat} (hdg : decode cc pc = .ok (.if_icmp .lt off, 3)) (ht : (pc : Int) + off = (tgt : Int)) (kt : x < y → W p l e R s m args below meth c H locs cells slots Q (F0 m tgt ls rest)) (kf : y ≤ x → W p l e R s m args below meth c H locs cells slots Q (F0 m (pc + 3) ls rest)) : W p l e R s m args below meth c H locs cells slots Q (F0 m pc ls (.int (nI y) :: .int (nI x) :: rest)) :=
  lv_icmp_lt hexec hb hdg ht (fun h => kt ((nI_ltI hx hy).mp h)) (fun h => kf (by have q := mt (nI_ltI hx hy).mpr h; omega))
theorem wn_icmp_ge (hexec : p.tables.exec = Jvm.exec) (hb : c.code = cc) {x y : Nat} (hx : x < 2 ^ 31) (hy : y < 2 ^ 31) {off : Int} {tgt : Nat} (hdg : decode cc pc = .ok (.if_icmp .ge off, 3)) (ht : (pc : Int) + off = (tgt : Int)) (kt : y ≤ x → W p l e R s m args below meth c H locs cells slots Q (F0 m tgt ls rest)) (kf : x < y → W p l e R s m args below meth c H locs cells slots Q (F0 m (pc + 3) ls rest)) : W p l e R s m args below meth c H locs cells slots Q (F0 m pc ls (.int (nI y) :: .int (nI x) :: rest)) :=
  lv_icmp_ge hexec hb hdg ht (fun h => kt ((nI_leI hy hx).mp h)) (fun h => kf (by have q := mt (nI_leI hy hx).mpr h; omega))
theorem wn_icmp_gt (hexec : p.tables.exec = Jvm.exec) (hb : c.code = cc) {x y : Nat} (hx : x < 2 ^ 31) (hy : y < 2 ^ 31) {off : Int} {tgt : Nat} (hdg : decode cc pc = .ok (.if_icmp .gt off, 3)) (ht : (pc : Int) + off = (tgt : Int)) (kt : y < x → W p l e R s m args below meth c H locs cells slots Q (F0 m tgt ls rest)) (kf : x ≤ y → W p l e R s m args below meth c H locs cells slots Q (F0 m (pc + 3) ls rest)) : W p l e R s m args below meth c H locs cells slots Q (F0 m pc ls (.int (nI y) :: .int (nI x) :: rest)) :=
  lv_icmp_gt hexec hb hdg ht (fun h => kt ((nI_ltI hy hx).mp h)) (fun h => kf (by have q := mt (nI_ltI hy hx).mpr h; omega))
theorem wn_icmp_le (hexec : p.tables.exec = Jvm.exec) (hb : c.code = cc) {x y : Nat} (hx : x < 2 ^ 31) (hy : y < 2 ^ 31) {off : Int} {tgt : Nat} (hdg : decode cc pc = .ok (.if_icmp .le off, 3)) (ht : (pc : Int) + off = (tgt : Int)) (kt : x ≤ y → W p l e R s m args below meth c H locs cells slots Q (F0 m tgt ls rest)) (kf : y < x → W p l e R s m args below meth c H locs cells slots Q (F0 m (pc + 3) ls rest)) : W p l e R s m args below meth c H locs cells slots Q (F0 m pc ls (.int (nI y) :: .int (nI x) :: rest)) :=
  lv_icmp_le hexec hb hdg ht (fun h => kt ((nI_leI hx hy).mp h)) (fun h => kf (by have q := mt (nI_leI hx hy).mpr h; omega))
theorem wn_if_eq (hexec : p.tables.exec = Jvm.exec) (hb : c.code = cc) {x : Nat} (hx : x < 2 ^ 31) {off : Int} {tgt : Nat} (hdg : decode cc pc = .ok (.ifCond .eq off, 3)) (ht : (pc : Int) + off = (tgt : Int)) (kt : x = 0 → W p l e R s m args below meth c H locs cells slots Q (F0 m tgt ls rest)) (kf : x ≠ 0 → W p l e R s m args below meth c H locs cells slots Q (F0 m (pc + 3) ls rest)) : W p l e R s m args below meth c H locs cells slots Q (F0 m pc ls (.int (nI x) :: rest)) :=
  lv_if_eq hexec hb hdg ht (fun h => kt (Nat.eq_zero_of_not_pos (fun q => nI_ne0 q hx h))) (fun h => kf (fun q => h (by rw [q]; exact nI_0)))
theorem wn_if_ne (hexec : p.tables.exec = Jvm.exec) (hb : c.code = cc) {x : Nat} (hx : x < 2 ^ 31) {off : Int} {tgt : Nat} (hdg : decode cc pc = .ok (.ifCond .ne off, 3)) (ht : (pc : Int) + off = (tgt : Int)) (kt : x ≠ 0 → W p l e R s m args below meth c H locs cells slots Q (F0 m tgt ls rest)) (kf : x = 0 → W p l e R s m args below meth c H locs cells slots Q (F0 m (pc + 3) ls rest)) : W p l e R s m args below meth c H locs cells slots Q (F0 m pc ls (.int (nI x) :: rest)) :=
  lv_if_ne hexec hb hdg ht (fun h => kt (fun q => h (by rw [q]; exact nI_0))) (fun h => kf (Nat.eq_zero_of_not_pos (fun q => nI_ne0 q hx h)))
theorem wn_if_lt (hexec : p.tables.exec = Jvm.exec) (hb : c.code = cc) {x : Nat} (hx : x < 2 ^ 31) {off : Int} {tgt : Nat} (hdg : decode cc pc = .ok (.ifCond .lt off, 3)) (ht : (pc : Int) + off = (tgt : Int)) (kt : False → W p l e R s m args below meth c H locs cells slots Q (F0 m tgt ls rest)) (kf : True → W p l e R s m args below meth c H locs cells slots Q (F0 m (pc + 3) ls rest)) : W p l e R s m args below meth c H locs cells slots Q (F0 m pc ls (.int (nI x) :: rest)) :=
  lv_if_lt hexec hb hdg ht (fun h => absurd h (nI_pos hx)) (fun _ => kf trivial)
theorem wn_if_ge (hexec : p.tables.exec = Jvm.exec) (hb : c.code = cc) {x : Nat} (hx : x < 2 ^ 31) {off : Int} {tgt : Nat} (hdg : decode cc pc = .ok (.ifCond .ge off, 3)) (ht : (pc : Int) + off = (tgt : Int)) (kt : True → W p l e R s m args below meth c H locs cells slots Q (F0 m tgt ls rest)) (kf : False → W p l e R s m args below meth c H locs cells slots Q (F0 m (pc + 3) ls rest)) : W p l e R s m args below meth c H locs cells slots Q (F0 m pc ls (.int (nI x) :: rest)) :=
  lv_if_ge hexec hb hdg ht (fun _ => kt trivial) (fun h => absurd (nI_pos' hx) h)
theorem wn_if_gt (hexec : p.tables.exec = Jvm.exec) (hb : c.code = cc) {x : Nat} (hx : x < 2 ^ 31) {off : Int} {tgt : Nat} (hdg : decode cc pc = .ok (.ifCond .gt off, 3)) (ht : (pc : Int) + off = (tgt : Int)) (kt : 0 < x → W p l e R s m args below meth c H locs cells slots Q (F0 m tgt ls rest)) (kf : x = 0 → W p l e R s m args below meth c H locs cells slots Q (F0 m (pc + 3) ls rest)) : W p l e R s m args below meth c H locs cells slots Q (F0 m pc ls (.int (nI x) :: rest)) :=
  lv_if_gt hexec hb hdg ht (fun h => kt (Nat.pos_of_ne_zero (fun q => by rw [q, nI_0] at h; exact absurd h (by decide +kernel)))) (fun h => kf (Nat.eq_zero_of_not_pos (fun q => h (by rw [← nI_0]; exact nI_lt q hx))))
theorem wn_if_le (hexec : p.tables.exec = Jvm.exec) (hb : c.code = cc) {x : Nat} (hx : x < 2 ^ 31) {off : Int} {tgt : Nat} (hdg : decode cc pc = .ok (.ifCond .le off, 3)) (ht : (pc : Int) + off = (tgt : Int)) (kt : x = 0 → W p l e R s m args below meth c H locs cells slots Q (F0 m tgt ls rest)) (kf : 0 < x → W p l e R s m args below meth c H locs cells slots Q (F0 m (pc + 3) ls rest)) : W p l e R s m args below meth c H locs cells slots Q (F0 m pc ls (.int (nI x) :: rest)) :=
  lv_if_le hexec hb hdg ht (fun h => kt (Nat.eq_zero_of_not_pos (fun q => nI_nle q hx h))) (fun h => kf (Nat.pos_of_ne_zero (fun q => h (by rw [q, nI_0]; decide +kernel))))
theorem wb_if_eq (hexec : p.tables.exec = Jvm.exec) (hb : c.code = cc) {x : Bool} {off : Int} {tgt : Nat} (hdg : decode cc pc = .ok (.ifCond .eq off, 3)) (ht : (pc : Int) + off = (tgt : Int)) (kt : x = false → W p l e R s m args below meth c H locs cells slots Q (F0 m tgt ls rest)) (kf : x = true → W p l e R s m args below meth c H locs cells slots Q (F0 m (pc + 3) ls rest)) : W p l e R s m args below meth c H locs cells slots Q (F0 m pc ls (.int (bz x) :: rest)) :=
  lv_if_eq hexec hb hdg ht (fun h => kt (bz_0.mp h)) (fun h => kf (by cases x <;> first | rfl | exact absurd rfl h))
theorem wb_if_ne (hexec : p.tables.exec = Jvm.exec) (hb : c.code = cc) {x : Bool} {off : Int} {tgt : Nat} (hdg : decode cc pc = .ok (.ifCond .ne off, 3)) (ht : (pc : Int) + off = (tgt : Int)) (kt : x = true → W p l e R s m args below meth c H locs cells slots Q (F0 m tgt ls rest)) (kf : x = false → W p l e R s m args below meth c H locs cells slots Q (F0 m (pc + 3) ls rest)) : W p l e R s m args below meth c H locs cells slots Q (F0 m pc ls (.int (bz x) :: rest)) :=
  lv_if_ne hexec hb hdg ht (fun h => kt (by cases x <;> first | rfl | exact absurd rfl h)) (fun h => kf (bz_0.mp h))
variable {D : va_G} {cl : List vw_C} {A : Nat → Prop} {a : Nat} {tys : List (ClassId × FieldType)} {ws ws' : va_W} {H0 : Heap}
theorem wn_iald (hexec : p.tables.exec = Jvm.exec) (hb : c.code = cc) (hK : va_K D cl tys s) (hP : va_P D cl ws H) (q0 t0 : Nat) {cA : ClassId} {n : Nat} {f : Nat → Int32} (ha : ws[q0]? = some (a, .inl (cA, n, .inl f))) (ht : tys[t0]? = some (cA, .int)) {k : Nat} (hk : k < n) (hn : n < 2 ^ 31) {v : Int32} (hv : f k = v) (hdg : decode cc pc = .ok (.iaload, 1))
    (kk : W p l e R s m args below meth c H locs cells slots Q (F0 m (pc + 1) ls (.int v :: rest))) : W p l e R s m args below meth c H locs cells slots Q (F0 m pc ls (.int (nI k) :: .ref a :: rest)) :=
  va_iald hexec hb hK hP q0 t0 ha ht (vp_in_nI hk hn) hdg (by rw [nI_clamp (Nat.lt_trans hk hn), hv]; exact kk)
theorem wn_zald (hexec : p.tables.exec = Jvm.exec) (hb : c.code = cc) (hK : va_K D cl tys s) (hP : va_P D cl ws H) (q0 t0 : Nat) {cA : ClassId} {n : Nat} {f : Nat → Int32} (ha : ws[q0]? = some (a, .inl (cA, n, .inl f))) (ht : tys[t0]? = some (cA, .boolean)) {k : Nat} (hk : k < n) (hn : n < 2 ^ 31) {v : Int32} (hv : f k = v) (hdg : decode cc pc = .ok (.baload, 1))
    (kk : W p l e R s m args below meth c H locs cells slots Q (F0 m (pc + 1) ls (.int v :: rest))) : W p l e R s m args below meth c H locs cells slots Q (F0 m pc ls (.int (nI k) :: .ref a :: rest)) :=
  va_zald hexec hb hK hP q0 t0 ha ht (vp_in_nI hk hn) hdg (by rw [nI_clamp (Nat.lt_trans hk hn), hv]; exact kk)
theorem wn_lald (hexec : p.tables.exec = Jvm.exec) (hb : c.code = cc) (hK : va_K D cl tys s) (hP : va_P D cl ws H) (q0 t0 : Nat) {cA : ClassId} {n : Nat} {f : Nat → Int64} (ha : ws[q0]? = some (a, .inl (cA, n, .inr (.inl f)))) (ht : tys[t0]? = some (cA, .long)) {k : Nat} (hk : k < n) (hn : n < 2 ^ 31) {v : Int64} (hv : f k = v) (hdg : decode cc pc = .ok (.laload, 1))
    (kk : W p l e R s m args below meth c H locs cells slots Q (F0 m (pc + 1) ls (.long v :: rest))) : W p l e R s m args below meth c H locs cells slots Q (F0 m pc ls (.int (nI k) :: .ref a :: rest)) :=
  va_lald hexec hb hK hP q0 t0 ha ht (vp_in_nI hk hn) hdg (by rw [nI_clamp (Nat.lt_trans hk hn), hv]; exact kk)
theorem wn_iast (hexec : p.tables.exec = Jvm.exec) (hb : c.code = cc) (hK : va_K D cl tys s) (hP : va_P D cl ws H) (hD : va_D A ws) (hS : va_S A H0 H locs) (q0 t0 : Nat) {cA : ClassId} {n : Nat} {f f' : Nat → Int32} (ha : ws[q0]? = some (a, .inl (cA, n, .inl f))) (ht : tys[t0]? = some (cA, .int)) {k : Nat} {x : Int32} (hk : k < n) (hn : n < 2 ^ 31) (hf : upd f k x = f') (hw : ws.set q0 (a, .inl (cA, n, .inl f')) = ws') (hdg : decode cc pc = .ok (.iastore, 1))
    (kk : ∀ (H1 : Heap) (locs1 : List Loc), va_P D cl ws' H1 → va_D A ws' → va_S A H0 H1 locs1 → W p l e R s m args below meth c H1 locs1 cells slots Q (F0 m (pc + 1) ls rest)) : W p l e R s m args below meth c H locs cells slots Q (F0 m pc ls (.int x :: .int (nI k) :: .ref a :: rest)) := by
  refine va_iast hexec hb hK hP hD hS q0 t0 ha ht (vp_in_nI hk hn) hdg (fun H1 locs1 h1 h2 h3 => ?_)
  rw [nI_clamp (Nat.lt_trans hk hn), hf, hw] at h1 h2
  exact kk H1 locs1 h1 h2 h3
theorem wn_zast (hexec : p.tables.exec = Jvm.exec) (hb : c.code = cc) (hK : va_K D cl tys s) (hP : va_P D cl ws H) (hD : va_D A ws) (hS : va_S A H0 H locs) (q0 t0 : Nat) {cA : ClassId} {n : Nat} {f f' : Nat → Int32} (ha : ws[q0]? = some (a, .inl (cA, n, .inl f))) (ht : tys[t0]? = some (cA, .boolean)) {k : Nat} {x : Bool} (hk : k < n) (hn : n < 2 ^ 31) (hf : upd f k (bz x) = f') (hw : ws.set q0 (a, .inl (cA, n, .inl f')) = ws') (hdg : decode cc pc = .ok (.bastore, 1))
    (kk : ∀ (H1 : Heap) (locs1 : List Loc), va_P D cl ws' H1 → va_D A ws' → va_S A H0 H1 locs1 → W p l e R s m args below meth c H1 locs1 cells slots Q (F0 m (pc + 1) ls rest)) : W p l e R s m args below meth c H locs cells slots Q (F0 m pc ls (.int (bz x) :: .int (nI k) :: .ref a :: rest)) := by
  refine va_zast hexec hb hK hP hD hS q0 t0 ha ht (vp_in_nI hk hn) hdg (fun H1 locs1 h1 h2 h3 => ?_)
  rw [nI_clamp (Nat.lt_trans hk hn), bz_nar, hf, hw] at h1 h2
  exact kk H1 locs1 h1 h2 h3
theorem wn_last (hexec : p.tables.exec = Jvm.exec) (hb : c.code = cc) (hK : va_K D cl tys s) (hP : va_P D cl ws H) (hD : va_D A ws) (hS : va_S A H0 H locs) (q0 t0 : Nat) {cA : ClassId} {n : Nat} {f f' : Nat → Int64} (ha : ws[q0]? = some (a, .inl (cA, n, .inr (.inl f)))) (ht : tys[t0]? = some (cA, .long)) {k : Nat} {x : Int64} (hk : k < n) (hn : n < 2 ^ 31) (hf : vp_updL f k x = f') (hw : ws.set q0 (a, .inl (cA, n, .inr (.inl f'))) = ws') (hdg : decode cc pc = .ok (.lastore, 1))
    (kk : ∀ (H1 : Heap) (locs1 : List Loc), va_P D cl ws' H1 → va_D A ws' → va_S A H0 H1 locs1 → W p l e R s m args below meth c H1 locs1 cells slots Q (F0 m (pc + 1) ls rest)) : W p l e R s m args below meth c H locs cells slots Q (F0 m pc ls (.long x :: .int (nI k) :: .ref a :: rest)) := by
  refine va_last hexec hb hK hP hD hS q0 t0 ha ht (vp_in_nI hk hn) hdg (fun H1 locs1 h1 h2 h3 => ?_)
  rw [nI_clamp (Nat.lt_trans hk hn), hf, hw] at h1 h2
  exact kk H1 locs1 h1 h2 h3
end WN
/-! the two forms of contract: reading (ro_) and writing (mu_) -/
def ro_B (D : va_G) (ws : va_W) (tys : List (ClassId × FieldType)) (U : State) : Prop := va_P D classes ws U.heap ∧ va_K D classes tys U
abbrev ro_Pc (av : List Value) (D : va_G) (ws : va_W) (tys : List (ClassId × FieldType)) : Array Value → State → Prop := va_Pc av (ro_B D ws tys)
abbrev ro_Qi (post : Int32 → Prop) : Array Value → State → Outcome → State → Prop := va_Qi (S := Unit) (fun r _ => post r) (fun _ _ => True) (fun _ => False)
abbrev ro_Ql (post : Int64 → Prop) : Array Value → State → Outcome → State → Prop := va_Ql (S := Unit) (fun r _ => post r) (fun _ _ => True) (fun _ => False)
def mu_B (D : va_G) (ws : va_W) (tys : List (ClassId × FieldType)) (sz : Nat) (U : State) : Prop := U.heap.size = sz ∧ va_P D classes ws U.heap ∧ va_K D classes tys U ∧ va_D (fun _ => True) ws
abbrev mu_Pc (av : List Value) (D : va_G) (ws : va_W) (tys : List (ClassId × FieldType)) (sz : Nat) : Array Value → State → Prop := va_Pc av (mu_B D ws tys sz)
abbrev wt_nest : Cond := .methodLinkNest R_T 24 y_C_median "WorkTree"
/-- as mu_Pc, for the two methods of the tree that call the chain's own median -/
abbrev mn_Pc (av : List Value) (D : va_G) (ws : va_W) (tys : List (ClassId × FieldType)) (sz : Nat) : Array Value → State → Prop := va_Pc av (fun U => mu_B D ws tys sz U ∧ va_Nw wt_nest U)
def mu_E {S : Type} (D : va_G) (wo : S → va_W) (wc : va_W) (sz : Nat) (u : S) (t : State) : Prop := va_P D classes (wo u) t.heap ∧ va_D (va_A wc sz) (wo u)
abbrev mu_Qi {S : Type} (post : Int32 → S → Prop) (D : va_G) (wo : S → va_W) (wc : va_W) (sz : Nat) : Array Value → State → Outcome → State → Prop := va_Qi post (mu_E D wo wc sz) (va_A wc sz)
abbrev mu_Qv {S : Type} (post : S → Prop) (D : va_G) (wo : S → va_W) (wc : va_W) (sz : Nat) : Array Value → State → Outcome → State → Prop := va_Qv post (mu_E D wo wc sz) (va_A wc sz)
theorem ro_blind {av : List Value} {D : va_G} {ws : va_W} {tys : List (ClassId × FieldType)} : FrameBlind (ro_Pc av D ws tys) := fun a U g mk q => by
  obtain ⟨q0, qP, qK⟩ := q
  exact ⟨q0, qP, va_K.moved (u := U) (U := U.calling g mk a) (Vm.Alike.refl U.vm) qK⟩
theorem mu_blind {av : List Value} {D : va_G} {ws : va_W} {tys : List (ClassId × FieldType)} {sz : Nat} : FrameBlind (mu_Pc av D ws tys sz) := fun a U g mk q => by
  obtain ⟨q0, q1, qP, qK, qD⟩ := q
  exact ⟨q0, q1, qP, va_K.moved (u := U) (U := U.calling g mk a) (Vm.Alike.refl U.vm) qK, qD⟩
theorem mn_blind {av : List Value} {D : va_G} {ws : va_W} {tys : List (ClassId × FieldType)} {sz : Nat} : FrameBlind (mn_Pc av D ws tys sz) := fun a U g mk q => by
  obtain ⟨q0, ⟨q1, qP, qK, qD⟩, qN⟩ := q
  exact ⟨q0, ⟨q1, qP, va_K.moved (u := U) (U := U.calling g mk a) (Vm.Alike.refl U.vm) qK, qD⟩, va_Nw.same rfl (rfl : U.vm = (U.calling g mk a).vm) qN⟩
theorem ro_preV {s : State} {H : Heap} {D : va_G} {ws : va_W} {tys : List (ClassId × FieldType)} {b ci : Nat} {q : vw_C} {fs : List Value} {As : List Value} (hK : va_K D classes tys s) (hP : va_P D classes ws H) (q0 : Nat) (hc : classes[ci]? = some q) (he : ws[q0]? = some (b, .inr (ci, fs))) : PreV s H q.1 b (ro_Pc (.ref b :: As) D ws tys) As :=
  ⟨ro_blind, va_recv hK hP hc he, fun U hU hW => ⟨rfl, by rw [hU]; exact hP, va_K.moved hW.alike hK⟩⟩
theorem ro_preS {s : State} {H : Heap} {D : va_G} {ws : va_W} {tys : List (ClassId × FieldType)} {As : List Value} (hK : va_K D classes tys s) (hP : va_P D classes ws H) : PreS s H (ro_Pc As D ws tys) As :=
  ⟨ro_blind, fun U hU hW => ⟨rfl, by rw [hU]; exact hP, va_K.moved hW.alike hK⟩⟩
theorem mu_preV {s : State} {H : Heap} {D : va_G} {ws : va_W} {tys : List (ClassId × FieldType)} {b ci : Nat} {q : vw_C} {fs : List Value} {As : List Value} {A : Nat → Prop} (hK : va_K D classes tys s) (hP : va_P D classes ws H) (hD : va_D A ws) (q0 : Nat) (hc : classes[ci]? = some q) (he : ws[q0]? = some (b, .inr (ci, fs))) : PreV s H q.1 b (mu_Pc (.ref b :: As) D ws tys H.size) As :=
  ⟨mu_blind, va_recv hK hP hc he, fun U hU hW => ⟨rfl, by rw [hU], by rw [hU]; exact hP, va_K.moved hW.alike hK, hD.weaken (fun _ _ _ _ => trivial)⟩⟩
theorem mn_preV {s : State} {H : Heap} {D : va_G} {ws : va_W} {tys : List (ClassId × FieldType)} {b ci : Nat} {q : vw_C} {fs : List Value} {As : List Value} {A : Nat → Prop} (hK : va_K D classes tys s) (hN : va_Nw wt_nest s) (hP : va_P D classes ws H) (hD : va_D A ws) (q0 : Nat) (hc : classes[ci]? = some q) (he : ws[q0]? = some (b, .inr (ci, fs))) : PreV s H q.1 b (mn_Pc (.ref b :: As) D ws tys H.size) As :=
  ⟨mn_blind, va_recv hK hP hc he, fun U hU hW => ⟨rfl, ⟨by rw [hU], by rw [hU]; exact hP, va_K.moved hW.alike hK, hD.weaken (fun _ _ _ _ => trivial)⟩, va_Nw.warmM hW hN⟩⟩
theorem mu_preS {s : State} {H : Heap} {D : va_G} {ws : va_W} {tys : List (ClassId × FieldType)} {As : List Value} {A : Nat → Prop} (hK : va_K D classes tys s) (hP : va_P D classes ws H) (hD : va_D A ws) : PreS s H (mu_Pc As D ws tys H.size) As :=
  ⟨mu_blind, fun U hU hW => ⟨rfl, by rw [hU], by rw [hU]; exact hP, va_K.moved hW.alike hK, hD.weaken (fun _ _ _ _ => trivial)⟩⟩
section WC
variable {p : Program} {l : Launch} {e : Env} {R : Room} {s : State} {m : MethodId} {args : Array Value} {below : List Frame} {meth : Method} {c : Code} {H : Heap} {locs : List Loc} {cells slots : Nat} {Q : State → Prop}
variable {cc : ByteArray} {pc : Nat} {ls : Array Slot} {rest st0 : List Value} {a : Array Value} {A : Nat → Prop} {H0 : Heap} {mc ms : Nat} {D : va_G} {ws wc wr : va_W}
theorem ro_calli {post : Int32 → Prop} (hr : va_Run p l e R s m args below meth c H locs cells slots 0 0 (F0 m pc ls st0) rest (ro_Qi post a) (fun _ => False)) (hS : va_S A H0 H locs) (hP : va_P D classes ws H)
    (kk : ∀ (r : Int32) (H1 : Heap) (locs1 : List Loc), post r → va_P D classes ws H1 → va_S A H0 H1 locs1 → W p l e R s m args below meth c H1 locs1 cells slots Q (F0 m (pc + 3) ls (.int r :: rest))) : W p l e R s m args below meth c H locs cells slots Q (F0 m pc ls st0) :=
  va_calli hr hS (fun _ _ h => h.elim) (fun _ h => h.elim) (fun r u t H1 locs1 ht hvm hp hB hz hk hS1 => kk r H1 locs1 hp (hP.kept (fun k q hq => hk q.1 (hP k q hq).lt (fun h => h))) hS1)
theorem ro_calll {post : Int64 → Prop} (hr : va_Run p l e R s m args below meth c H locs cells slots 0 0 (F0 m pc ls st0) rest (ro_Ql post a) (fun _ => False)) (hS : va_S A H0 H locs) (hP : va_P D classes ws H)
    (kk : ∀ (r : Int64) (H1 : Heap) (locs1 : List Loc), post r → va_P D classes ws H1 → va_S A H0 H1 locs1 → W p l e R s m args below meth c H1 locs1 cells slots Q (F0 m (pc + 3) ls (.long r :: rest))) : W p l e R s m args below meth c H locs cells slots Q (F0 m pc ls st0) :=
  va_calll hr hS (fun _ _ h => h.elim) (fun _ h => h.elim) (fun r u t H1 locs1 ht hvm hp hB hz hk hS1 => kk r H1 locs1 hp (hP.kept (fun k q hq => hk q.1 (hP k q hq).lt (fun h => h))) hS1)
theorem mu_calli {S : Type} {post : Int32 → S → Prop} {wo : S → va_W} (hr : va_Run p l e R s m args below meth c H locs cells slots mc ms (F0 m pc ls st0) rest (mu_Qi post D wo wc H.size a) (va_A wc H.size)) (hS : va_S A H0 H locs) (hA : ∀ q, H0.size ≤ q → A q) (hP : va_P D classes ws H) (hD : va_D A ws) (isC isR : List Nat) (hC : isC.map (fun i => ws[i]?) = wc.map some) (hR : isR.map (fun i => ws[i]?) = wr.map some) (hn : va_nd isR = true) (hdis : ∀ i ∈ isR, i ∉ isC)
    (kk : ∀ (r : Int32) (u : S) (H1 : Heap) (locs1 : List Loc), post r u → va_P D classes (wr ++ wo u) H1 → va_D A (wr ++ wo u) → va_S A H0 H1 locs1 → W p l e R s m args below meth c H1 locs1 (cells + mc) (slots + ms) Q (F0 m (pc + 3) ls (.int r :: rest))) : W p l e R s m args below meth c H locs cells slots Q (F0 m pc ls st0) := by
  have hF := va_free (wc := wc) hD hS hA isC hC
  refine va_calli hr hS (fun q _ h => hF q h) hF (fun r u t H1 locs1 ht hvm hp hB hz hk hS1 => ?_)
  obtain ⟨hP1, hD1⟩ := hB
  rw [ht] at hP1
  obtain ⟨hP2, hD2⟩ := va_join (wr := wr) (w1 := wo u) hP hD isC isR hC hR hn hdis hk hF hP1 hD1
  exact kk r u H1 locs1 hp hP2 hD2 hS1
theorem mu_callv {S : Type} {post : S → Prop} {wo : S → va_W} (hr : va_Run p l e R s m args below meth c H locs cells slots mc ms (F0 m pc ls st0) rest (mu_Qv post D wo wc H.size a) (va_A wc H.size)) (hS : va_S A H0 H locs) (hA : ∀ q, H0.size ≤ q → A q) (hP : va_P D classes ws H) (hD : va_D A ws) (isC isR : List Nat) (hC : isC.map (fun i => ws[i]?) = wc.map some) (hR : isR.map (fun i => ws[i]?) = wr.map some) (hn : va_nd isR = true) (hdis : ∀ i ∈ isR, i ∉ isC)
    (kk : ∀ (u : S) (H1 : Heap) (locs1 : List Loc), post u → va_P D classes (wr ++ wo u) H1 → va_D A (wr ++ wo u) → va_S A H0 H1 locs1 → W p l e R s m args below meth c H1 locs1 (cells + mc) (slots + ms) Q (F0 m (pc + 3) ls rest)) : W p l e R s m args below meth c H locs cells slots Q (F0 m pc ls st0) := by
  have hF := va_free (wc := wc) hD hS hA isC hC
  refine va_callv hr hS (fun q _ h => hF q h) hF (fun u t H1 locs1 ht hvm hp hB hz hk hS1 => ?_)
  obtain ⟨hP1, hD1⟩ := hB
  rw [ht] at hP1
  obtain ⟨hP2, hD2⟩ := va_join (wr := wr) (w1 := wo u) hP hD isC isR hC hR hn hdis hk hF hP1 hD1
  exact kk u H1 locs1 hp hP2 hD2 hS1
theorem ro_iret {post : Int32 → Prop} {v : Int32} (hexec : p.tables.exec = Jvm.exec) (hb : c.code = cc) (hr : meth.sig.returnType = some .int) (hlocks : meth.locks = false) (hS : va_S (fun _ => False) s.heap H locs) (hp : post v) (hdg : decode cc pc = .ok (.ireturn, 1)) : W p l e R s m args below meth c H locs 0 0 (MQ below (ro_Qi post) args s 0 0 (fun _ => False)) (F0 m pc ls [.int v]) :=
  W.iret hexec hb hr (fun t ht hW => ⟨⟨v, (), rfl, hp, trivial⟩, hS.F ht⟩) hS.2.2 hdg hlocks
theorem ro_zret {post : Int32 → Prop} {v : Bool} (hexec : p.tables.exec = Jvm.exec) (hb : c.code = cc) (hr : meth.sig.returnType = some .boolean) (hlocks : meth.locks = false) (hS : va_S (fun _ => False) s.heap H locs) (hp : post (bz v)) (hdg : decode cc pc = .ok (.ireturn, 1)) : W p l e R s m args below meth c H locs 0 0 (MQ below (ro_Qi post) args s 0 0 (fun _ => False)) (F0 m pc ls [.int (bz v)]) :=
  W.zret hexec hb hr (bz_narrow v) (fun t ht hW => ⟨⟨bz v, (), rfl, hp, trivial⟩, hS.F ht⟩) hS.2.2 hdg hlocks
theorem ro_lret {post : Int64 → Prop} {v : Int64} (hexec : p.tables.exec = Jvm.exec) (hb : c.code = cc) (hr : meth.sig.returnType = some .long) (hlocks : meth.locks = false) (hS : va_S (fun _ => False) s.heap H locs) (hp : post v) (hdg : decode cc pc = .ok (.lreturn, 1)) : W p l e R s m args below meth c H locs 0 0 (MQ below (ro_Ql post) args s 0 0 (fun _ => False)) (F0 m pc ls [.long v]) :=
  W.lret hexec hb hr (fun t ht hW => ⟨⟨v, (), rfl, hp, trivial⟩, hS.F ht⟩) hS.2.2 hdg hlocks
theorem mu_iret {S : Type} {post : Int32 → S → Prop} {wo : S → va_W} {v : Int32} {sz : Nat} (u : S) (hexec : p.tables.exec = Jvm.exec) (hb : c.code = cc) (hr : meth.sig.returnType = some .int) (hlocks : meth.locks = false) (hS : va_S (va_A wc sz) s.heap H locs) (hP : va_P D classes (wo u) H) (hD : va_D (va_A wc sz) (wo u)) (hp : post v u) (hdg : decode cc pc = .ok (.ireturn, 1)) : W p l e R s m args below meth c H locs cells slots (MQ below (mu_Qi post D wo wc sz) args s cells slots (va_A wc sz)) (F0 m pc ls [.int v]) :=
  W.iret hexec hb hr (fun t ht hW => ⟨⟨v, u, rfl, hp, by rw [ht]; exact hP, hD⟩, hS.F ht⟩) hS.2.2 hdg hlocks
theorem mu_vret {S : Type} {post : S → Prop} {wo : S → va_W} {sz : Nat} (u : S) (hexec : p.tables.exec = Jvm.exec) (hb : c.code = cc) (hr : meth.sig.returnType = none) (hlocks : meth.locks = false) (hS : va_S (va_A wc sz) s.heap H locs) (hP : va_P D classes (wo u) H) (hD : va_D (va_A wc sz) (wo u)) (hp : post u) (hdg : decode cc pc = .ok (.return_, 1)) : W p l e R s m args below meth c H locs cells slots (MQ below (mu_Qv post D wo wc sz) args s cells slots (va_A wc sz)) (F0 m pc ls []) :=
  W.vret hexec hb hr (fun t ht hW => ⟨⟨u, rfl, hp, by rw [ht]; exact hP, hD⟩, hS.F ht⟩) hS.2.2 hdg hlocks
end WC
/-! calls by the one word list -/
section WW
variable {R : Room} {s : State} {args : Array Value} {own C : String} {index maxL mc ms : Nat} {y : MethodName} {bytes : ByteArray} {ret : Option FieldType} {rm : Room}
theorem wt_goodC (hc : Cond.code y bytes maxL ret ∈ wt_ws) : GoodIn wt_ws (Cond.code y bytes maxL ret :: wt_ws) := fun w hw => by
  rcases List.mem_cons.mp hw with h | h
  · rw [h]; exact wt_goodIn (fun _ q => q) _ hc
  · exact wt_goodIn (fun _ q => q) w h
theorem wt_cwV (n : Nat) (ht : ∀ w ∈ wt_ws, w.before args s = true) (hc : Cond.code y bytes maxL ret ∈ wt_ws) (hl : Cond.methodLink own index y ∈ wt_ws) (hi : Cond.instanceMethod y ∈ wt_ws) (hs : Cond.selects C y y ∈ wt_ws) (hini : Cond.initialized y.cls ∈ wt_ws) (hrc : rm.cells = mc) (hrs : rm.slots = ms)
    (hd : y.cls ≠ "java/lang/invoke/MethodHandle" ∧ y.cls ≠ "java/lang/invoke/VarHandle" ∧ (parseMethodDescriptor y.desc).map (fun d => d.parameters.length) = some n) (hR : rm.frames + 1 ≤ R.frames ∧ 8 + (maxL + 11) + rm.locals ≤ R.locals) :
    CallW R s args own C index y bytes maxL ret (Cond.code y bytes maxL ret :: wt_ws) rm mc ms n :=
  ⟨callB_of n ht (wt_goodC hc) rfl hrc hrs (ht _ hini) (ht _ hl) hd hR, ht _ hi, ht _ hs⟩
theorem wt_cwS (n : Nat) (ht : ∀ w ∈ wt_ws, w.before args s = true) (hc : Cond.code y bytes maxL ret ∈ wt_ws) (hl : Cond.methodLink own index y ∈ wt_ws) (hi : Cond.static y ∈ wt_ws) (hini : Cond.initialized y.cls ∈ wt_ws) (hrc : rm.cells = mc) (hrs : rm.slots = ms)
    (hd : y.cls ≠ "java/lang/invoke/MethodHandle" ∧ y.cls ≠ "java/lang/invoke/VarHandle" ∧ (parseMethodDescriptor y.desc).map (fun d => d.parameters.length) = some n) (hR : rm.frames + 1 ≤ R.frames ∧ 8 + (maxL + 11) + rm.locals ≤ R.locals) :
    CallB R s args own index y bytes maxL ret (Cond.code y bytes maxL ret :: wt_ws) rm mc ms n ∧ (Cond.static y).before args s = true :=
  ⟨callB_of n ht (wt_goodC hc) rfl hrc hrs (ht _ hini) (ht _ hl) hd hR, ht _ hi⟩
theorem wt_cwI (n : Nat) (ht : ∀ w ∈ wt_ws, w.before args s = true) (hc : Cond.code y bytes maxL none ∈ wt_ws) (hl : Cond.methodLink own index y ∈ wt_ws) (hi : Cond.instanceMethod y ∈ wt_ws) (hini : Cond.initialized y.cls ∈ wt_ws) (hy : y.name = "<init>") (hrc : rm.cells = mc) (hrs : rm.slots = ms)
    (hd : y.cls ≠ "java/lang/invoke/MethodHandle" ∧ y.cls ≠ "java/lang/invoke/VarHandle" ∧ (parseMethodDescriptor y.desc).map (fun d => d.parameters.length) = some n) (hR : rm.frames + 1 ≤ R.frames ∧ 8 + (maxL + 11) + rm.locals ≤ R.locals) :
    CallB R s args own index y bytes maxL none (Cond.code y bytes maxL none :: wt_ws) rm mc ms n ∧ y.name = "<init>" ∧ (Cond.instanceMethod y).before args s = true :=
  ⟨callB_of n ht (wt_goodC hc) rfl hrc hrs (ht _ hini) (ht _ hl) hd hR, hy, ht _ hi⟩
theorem wt_cwN (n : Nat) {host : String} (ht : ∀ w ∈ wt_ws, w.before args s = true) (hc : Cond.code y bytes maxL ret ∈ wt_ws) (hl : va_Nw (.methodLinkNest own index y host) s) (hi : Cond.instanceMethod y ∈ wt_ws) (hs : Cond.selects C y y ∈ wt_ws) (hini : Cond.initialized y.cls ∈ wt_ws) (hrc : rm.cells = mc) (hrs : rm.slots = ms)
    (hd : y.cls ≠ "java/lang/invoke/MethodHandle" ∧ y.cls ≠ "java/lang/invoke/VarHandle" ∧ (parseMethodDescriptor y.desc).map (fun d => d.parameters.length) = some n) (hR : rm.frames + 1 ≤ R.frames ∧ 8 + (maxL + 11) + rm.locals ≤ R.locals) :
    va_CN R s args own index y host bytes maxL ret (Cond.code y bytes maxL ret :: wt_ws) rm mc ms n ∧ (Cond.instanceMethod y).before args s = true ∧ (Cond.selects C y y).before args s = true :=
  ⟨va_cnB n ht (wt_goodC hc) rfl hrc hrs hl (ht _ hini) hd hR, ht _ hi, ht _ hs⟩
end WW
end
section
theorem wt_cmp0 {x y : Int64} : lg_cmp x y = 0 ↔ x = y := by
  unfold lg_cmp
  by_cases h1 : x > y
  · rw [if_pos h1]
    constructor
    · intro h; exact absurd h (by decide +kernel)
    · intro h; subst h; exact absurd h1 (Int64.lt_irrefl)
  · rw [if_neg h1]
    by_cases h2 : x = y
    · rw [if_pos h2]; exact ⟨fun _ => h2, fun _ => rfl⟩
    · rw [if_neg h2]; exact ⟨fun h => absurd h (by decide +kernel), fun h => absurd h h2⟩
theorem wt_cmpgt {x y : Int64} : 0 < lg_cmp x y ↔ y < x := by
  unfold lg_cmp
  by_cases h1 : x > y
  · rw [if_pos h1]; exact ⟨fun _ => h1, fun _ => by decide +kernel⟩
  · rw [if_neg h1]
    by_cases h2 : x = y
    · rw [if_pos h2]; exact ⟨fun h => absurd h (by decide +kernel), fun h => absurd h h1⟩
    · rw [if_neg h2]; exact ⟨fun h => absurd h (by decide +kernel), fun h => absurd h h1⟩
theorem wt_cmple {x y : Int64} : lg_cmp x y ≤ 0 ↔ ¬ y < x := by
  rw [← wt_cmpgt]
  exact Int32.not_lt.symm
theorem wt_bet_t1 {wf : Nat → Int64} {af : Nat → Int32} {j b : Nat} (h : wf b < wf j) : wt_bet wf af j b = true := decide_eq_true (Or.inl h)
theorem wt_bet_t2 {wf : Nat → Int64} {af : Nat → Int32} {j b : Nat} (h : wf j = wf b) (h2 : af j < af b) : wt_bet wf af j b = true := decide_eq_true (Or.inr ⟨h, h2⟩)
theorem wt_bet_f1 {wf : Nat → Int64} {af : Nat → Int32} {j b : Nat} (h : ¬ wf b < wf j) (h2 : ¬ wf j = wf b) : wt_bet wf af j b = false := decide_eq_false (fun q => q.elim h (fun z => h2 z.1))
theorem wt_bet_f2 {wf : Nat → Int64} {af : Nat → Int32} {j b : Nat} (h : ¬ wf b < wf j) (h2 : ¬ af j < af b) : wt_bet wf af j b = false := decide_eq_false (fun q => q.elim h (fun z => h2 z.2))
theorem wt_irr {x y : Int64} (h : x = y) : ¬ y < x := by subst h; exact Int64.lt_irrefl
theorem wt_bt_s (wf : Nat → Int64) (af : Nat → Int32) (xf : Nat → Bool) (c j b : Nat) : wt_bt wf af xf (c + 1) j b = wt_bt wf af xf c (j + 1) (if xf j = false ∧ wt_bet wf af j b = true then j else b) := rfl
theorem wt_bt_n {wf : Nat → Int64} {af : Nat → Int32} {xf : Nat → Bool} {c j b : Nat} (h : xf j = true ∨ wt_bet wf af j b = false) : wt_bt wf af xf (c + 1) j b = wt_bt wf af xf c (j + 1) b := by
  rw [wt_bt_s, if_neg]
  rintro ⟨h1, h2⟩
  rcases h with h | h
  · rw [h] at h1; cases h1
  · rw [h] at h2; cases h2
theorem wt_bt_y {wf : Nat → Int64} {af : Nat → Int32} {xf : Nat → Bool} {c j b : Nat} (h : xf j = false) (h2 : wt_bet wf af j b = true) : wt_bt wf af xf (c + 1) j b = wt_bt wf af xf c (j + 1) j := by
  rw [wt_bt_s, if_pos ⟨h, h2⟩]
theorem wt_bt_lt {wf : Nat → Int64} {af : Nat → Int32} {xf : Nat → Bool} : ∀ c j b n, c + j = n → b < n → wt_bt wf af xf c j b < n := by
  intro c
  induction c with
  | zero => intro j b n _ hb; exact hb
  | succ c ih =>
    intro j b n hc hb
    rw [wt_bt_s]
    refine ih (j + 1) _ n (by omega) ?_
    split
    · omega
    · exact hb
theorem wt_mm (x : Int32) : (if (if nI 20 < x then x else nI 20) < nI 320 then (if nI 20 < x then x else nI 20) else nI 320) = nI (wt_clS x) := by
  have h20 : (nI 20).toInt = 20 := nI_toInt (by decide)
  have h320 : (nI 320).toInt = 320 := nI_toInt (by decide)
  unfold wt_clS
  by_cases h1 : x.toInt < 20
  · have g1 : ¬ nI 20 < x := by rw [Int32.lt_iff_toInt_lt, h20]; omega
    rw [if_neg g1, if_pos h1]
    rw [if_pos (by decide +kernel)]
  · rw [if_neg h1]
    by_cases h2 : 320 < x.toInt
    · have g1 : nI 20 < x := by rw [Int32.lt_iff_toInt_lt, h20]; omega
      have g2 : ¬ x < nI 320 := by rw [Int32.lt_iff_toInt_lt, h320]; omega
      rw [if_pos g1, if_neg g2, if_pos h2]
    · rw [if_neg h2]
      have hx : x = nI x.toInt.toNat := by
        apply Int32.toInt_inj.mp
        rw [nI_toInt (by omega)]
        omega
      by_cases h3 : x.toInt = 20
      · have g1 : ¬ nI 20 < x := by rw [Int32.lt_iff_toInt_lt, h20]; omega
        rw [if_neg g1, if_pos (by decide +kernel), h3]
        rfl
      · have g1 : nI 20 < x := by rw [Int32.lt_iff_toInt_lt, h20]; omega
        rw [if_pos g1]
        by_cases h4 : x < nI 320
        · rw [if_pos h4]; exact hx
        · rw [Int32.lt_iff_toInt_lt, h320] at h4
          rw [if_neg (by rw [Int32.lt_iff_toInt_lt, h320]; exact h4)]
          rw [show x.toInt = 320 by omega]
          rfl
theorem wt_mq {u v : Nat} (hu : u ≤ 65535) (hv : v ≤ 320) : (nI u).toInt64 * (nI v).toInt64 / (80) = lN (u * v / 80) := by
  have h1 : u * v ≤ 65535 * 320 := Nat.mul_le_mul hu hv
  rw [nI_l (by omega), nI_l (by omega), lN_mul]
  show lN (u * v) / lN 80 = _
  exact pk_lDiv (by omega) (by omega) (by omega)
theorem wt_mmL {q : Nat} (hq : q < 2 ^ 31) : (if (if lN q < (2048) then (2048) else lN q) < (65535) then (if lN q < (2048) then (2048) else lN q) else (65535)).toInt32 = nI (wt_clT q) := by
  have e1 : (2048 : Int64) = lN 2048 := rfl
  have e2 : (65535 : Int64) = lN 65535 := rfl
  rw [e1, e2]
  unfold wt_clT
  by_cases h1 : q < 2048
  · rw [if_pos ((lN_lt hq (by omega)).mpr h1), if_pos h1, if_pos ((lN_lt (by omega) (by omega)).mpr (by omega))]
    exact lN_i 2048
  · rw [if_neg (fun z => h1 ((lN_lt hq (by omega)).mp z)), if_neg h1]
    by_cases h2 : 65535 < q
    · rw [if_pos h2, if_neg (fun z => by have := (lN_lt hq (by omega)).mp z; omega)]
      exact lN_i 65535
    · rw [if_neg h2]
      by_cases h3 : lN q < lN 65535
      · rw [if_pos h3]; exact lN_i q
      · rw [if_neg h3]
        have h4 : q = 65535 := by
          have := mt (lN_lt hq (by omega)).mpr h3
          omega
        rw [h4]
        exact lN_i 65535
theorem wt_md_s (pf : Nat → Nat) (tf : Nat → Int32) (f k many : Nat) (ts : Nat → Int32) : wt_md pf tf (f + 1) k many ts = if k = 0 then (wt_ins (tf k) many ts, many + 1) else wt_md pf tf f (pf k) (many + 1) (wt_ins (tf k) many ts) := rfl
theorem wt_ins_s (v : Int32) (i : Nat) (ts : Nat → Int32) : wt_ins v (i + 1) ts = if ts i ≤ v then va_up ts (i + 1) v else wt_ins v i (va_up ts (i + 1) (ts i)) := rfl
theorem wt_rf_s (pf : Nat → Nat) (c j : Nat) (xf : Nat → Bool) : wt_rf pf (c + 1) j xf = wt_rf pf c (j + 1) (if xf (pf j) = true then va_up xf j true else xf) := rfl
theorem wt_rf_y {pf : Nat → Nat} {c j : Nat} {xf : Nat → Bool} (h : xf (pf j) = true) : wt_rf pf (c + 1) j xf = wt_rf pf c (j + 1) (va_up xf j true) := by rw [wt_rf_s, if_pos h]
theorem wt_rf_n {pf : Nat → Nat} {c j : Nat} {xf : Nat → Bool} (h : xf (pf j) = false) : wt_rf pf (c + 1) j xf = wt_rf pf c (j + 1) xf := by
  rw [wt_rf_s, if_neg]
  rw [h]; exact fun z => by cases z
/-- the start -/
theorem wt_par0 (c0 : Int32) : upd (fun _ => 0) 0 c0 = ar_p c0 (fun _ => 0) := by
  funext j
  unfold upd ar_p
  rfl
theorem wt_tar0 : upd (fun _ => 0) 0 (nI 32768) = ar_n (va_up (fun _ => 0) 0 32768) := ar_n_up (ef := fun _ => 0)
section NW
variable {p : Program} {l : Launch} {e : Env} {R : Room} {s : State} {m : MethodId} {args : Array Value} {below : List Frame} {meth : Method} {c : Code} {H : Heap} {locs : List Loc} {cells slots : Nat} {Q : State → Prop}
variable {cc : ByteArray} {pc : Nat} {ls : Array Slot} {rest : List Value} {D : va_G} {cl : List vw_C} {A : Nat → Prop} {a : Nat} {tys : List (ClassId × FieldType)} {ws : va_W} {H0 : Heap}
/-- a new array of a kind whose number is known -/
theorem wt_newa (hexec : p.tables.exec = Jvm.exec) (hb : c.code = cc) {atype : ArrayType} {ty : FieldType} (harr : (Cond.arrayClass ty).before args s = true) (hty : newarray.typeOf atype = ty) (hK : va_K D cl tys s) (hP : va_P D cl ws H) (hD : va_D A ws) (hS : va_S A H0 H locs) (hA : ∀ q, H0.size ≤ q → A q) (t0 : Nat) {c0 : ClassId} (ht : tys[t0]? = some (c0, ty)) (hno : ∀ C, ty ≠ .object C)
    {n : Int32} {N' : Nat} {a0 : vp_A} (ha : ∀ cA : ClassId, vp_cell cA a0 = arrV cA N' (fun _ => defaultValue ty)) (hn : ¬ n < 0) (hN : n.toNatClampNeg = N') (hbytes : N' * componentBytes ty ≤ 536870912) (hcells : cells + 1 ≤ R.cells) (hslots : slots + N' ≤ R.slots) (hdg : decode cc pc = .ok (.newarray atype, 2))
    (kk : ∀ (q : Nat) (H1 : Heap), va_P D cl (ws ++ [(q, .inl (c0, a0))]) H1 → va_D A (ws ++ [(q, .inl (c0, a0))]) → va_S A H0 H1 locs →
      W p l e R s m args below meth c H1 locs (cells + 1) (slots + N') Q (F0 m (pc + 2) ls (.ref q :: rest))) : W p l e R s m args below meth c H locs cells slots Q (F0 m pc ls (.int n :: rest)) := by
  refine va_newa hexec hb (by rw [hty]; exact harr) hty hK hP hD hS hA ha hn hN hbytes hcells hslots hdg (fun q cA H1 hK1 h1 h2 h3 => ?_)
  have g1 := (hK1.2 tys.length (cA, ty) (by simp)).2
  have g2 := (hK.2 t0 (c0, ty) ht).2
  have hcc : cA = c0 := by
    cases ty with
    | object C => exact absurd rfl (hno C)
    | _ => exact Option.some.inj (g1.symm.trans g2)
  subst hcc
  exact kk q H1 h1 h2 h3
end NW
end
section
/-- is the argument a block? -/
def wt_ok (x : Int32) (n : Nat) : Bool := decide (0 ≤ x.toInt ∧ x.toInt < (n : Int))
theorem wt_ok_t {x : Int32} {n : Nat} (hn : n ≤ 512) (h : wt_ok x n = true) : ∃ k, k < n ∧ x = nI k := wt_ix_in hn (of_decide_eq_true h)
theorem wt_ok_f {x : Int32} {n : Nat} (h : wt_ok x n = false) : wt_ix x n = none := wt_ix_none (of_decide_eq_false h)
theorem wt_ok_n {k n : Nat} (hk : k < n) (hn : n ≤ 512) : wt_ok (nI k) n = true := by
  unfold wt_ok
  rw [nI_toInt (by omega)]
  exact decide_eq_true ⟨by omega, by omega⟩
theorem wt_is_t {x : Int32} {n : Nat} (hn : n ≤ 512) (h1 : ¬ x < 0) (h2 : ¬ nI n ≤ x) : wt_ok x n = true := by
  rw [Int32.lt_iff_toInt_lt, Int32.toInt_zero] at h1
  rw [Int32.le_iff_toInt_le, nI_toInt (by omega)] at h2
  exact decide_eq_true ⟨by omega, by omega⟩
theorem wt_is_f1 {x : Int32} {n : Nat} (h1 : x < 0) : wt_ok x n = false := by
  rw [Int32.lt_iff_toInt_lt, Int32.toInt_zero] at h1
  exact decide_eq_false (fun q => by omega)
theorem wt_is_f2 {x : Int32} {n : Nat} (hn : n ≤ 512) (h2 : nI n ≤ x) : wt_ok x n = false := by
  rw [Int32.le_iff_toInt_le, nI_toInt (by omega)] at h2
  exact decide_eq_false (fun q => by omega)
/-- an int between two bounds, as the tree asks -/
theorem wt_in_eq {x : Int32} {u v : Nat} (hu : u < 2 ^ 31) (hv : v < 2 ^ 31) : decide (nI u ≤ x ∧ x ≤ nI v) = decide ((u : Int) ≤ x.toInt ∧ x.toInt ≤ (v : Int)) := by
  apply decide_eq_decide.mpr
  rw [Int32.le_iff_toInt_le, Int32.le_iff_toInt_le, nI_toInt hu, nI_toInt hv]
theorem wt_in_ok {x : Int32} {n : Nat} (h1 : 1 ≤ n) (hn : n ≤ 512) : decide (nI 0 ≤ x ∧ x ≤ nI (n - 1)) = wt_ok x n := by
  rw [wt_in_eq (by omega) (by omega)]
  apply decide_eq_decide.mpr
  omega
/-- is it a block, and not the first? -/
def wt_ok1 (x : Int32) (n : Nat) : Bool := decide (1 ≤ x.toInt ∧ x.toInt < (n : Int))
theorem wt_in_ok1 {x : Int32} {n : Nat} (h1 : 1 ≤ n) (hn : n ≤ 512) : decide (nI 1 ≤ x ∧ x ≤ nI (n - 1)) = wt_ok1 x n := by
  rw [wt_in_eq (by omega) (by omega)]
  apply decide_eq_decide.mpr
  omega
theorem wt_ok1_t {x : Int32} {n : Nat} (hn : n ≤ 512) (h : wt_ok1 x n = true) : ∃ k, 1 ≤ k ∧ k < n ∧ x = nI k := by
  have h2 := of_decide_eq_true h
  obtain ⟨k, hk, rfl⟩ := wt_ix_in hn (show 0 ≤ x.toInt ∧ x.toInt < n by omega)
  rw [nI_toInt (by omega)] at h2
  exact ⟨k, by omega, hk, rfl⟩
theorem wt_ok1_f {x : Int32} {n : Nat} (hn : n ≤ 512) (h : wt_ok1 x n = false) : wt_ix x n = none ∨ wt_ix x n = some 0 := by
  have h2 := of_decide_eq_false h
  by_cases h3 : 0 ≤ x.toInt ∧ x.toInt < n
  · right
    obtain ⟨k, hk, rfl⟩ := wt_ix_in hn h3
    rw [nI_toInt (by omega)] at h2
    rw [wt_ix_some hk hn]
    congr 1
    omega
  · left; exact wt_ix_none h3
/-- a height below a bound -/
def wt_ok2 (y : Int32) (v : Nat) : Bool := decide (0 ≤ y.toInt ∧ y.toInt ≤ (v : Int))
theorem wt_in_ok2 {y : Int32} {v : Nat} (hv : v ≤ 512) : decide (nI 0 ≤ y ∧ y ≤ nI v) = wt_ok2 y v := by
  rw [wt_in_eq (by omega) (by omega)]
  rfl
theorem wt_ok2_t {y : Int32} {v : Nat} (hv : v ≤ 511) (h : wt_ok2 y v = true) : ∃ t, t ≤ v ∧ y = nI t := by
  have h2 := of_decide_eq_true h
  obtain ⟨k, hk, rfl⟩ := wt_ix_in (n := v + 1) (x := y) (by omega) ⟨h2.1, by omega⟩
  exact ⟨k, by omega, rfl⟩
theorem wt_ok2_n {t v : Nat} (ht : t ≤ v) (hv : v ≤ 512) : wt_ok2 (nI t) v = true := by
  unfold wt_ok2
  rw [nI_toInt (by omega)]
  exact decide_eq_true ⟨by omega, by omega⟩
theorem wt_ok2_i {y : Int32} {v : Nat} (hv : v ≤ 512) (h1 : ¬ y < 0) (h2 : y ≤ nI v) : wt_ok2 y v = true := by
  rw [Int32.lt_iff_toInt_lt, Int32.toInt_zero] at h1
  rw [Int32.le_iff_toInt_le, nI_toInt (by omega)] at h2
  exact decide_eq_true ⟨by omega, h2⟩
theorem wt_ok2_f1 {y : Int32} {v : Nat} (h1 : y < 0) : wt_ok2 y v = false := by
  rw [Int32.lt_iff_toInt_lt, Int32.toInt_zero] at h1
  exact decide_eq_false (fun q => by omega)
theorem wt_ok2_f2 {y : Int32} {v : Nat} (hv : v ≤ 512) (h2 : ¬ y ≤ nI v) : wt_ok2 y v = false := by
  rw [Int32.le_iff_toInt_le, nI_toInt (by omega)] at h2
  exact decide_eq_false (fun q => by omega)
/-- the answers of the reading calls -/
def wt_ancR (n : Nat) (pf ef : Nat → Nat) (x y : Int32) : Int32 :=
  match wt_ix x n with
  | none => -2
  | some k => if wt_ok2 y (ef k) = true then nI (wt_anc pf ef y.toInt.toNat 512 k) else -2
theorem wt_ancR_n {n : Nat} {pf ef : Nat → Nat} (hn : n ≤ 512) {k t : Nat} (hk : k < n) (he : ef k ≤ 512) (ht : t ≤ ef k) : wt_ancR n pf ef (nI k) (nI t) = nI (wt_anc pf ef t 512 k) := by
  unfold wt_ancR
  rw [wt_ix_some hk hn]
  show (if wt_ok2 (nI t) (ef k) = true then _ else _) = _
  rw [if_pos (wt_ok2_n ht he), nI_toInt (by omega)]
  rfl
theorem wt_ancR_f {n : Nat} {pf ef : Nat → Nat} (hn : n ≤ 512) {k : Nat} {y : Int32} (hk : k < n) (h : wt_ok2 y (ef k) = false) : wt_ancR n pf ef (nI k) y = -2 := by
  unfold wt_ancR
  rw [wt_ix_some hk hn]
  show (if wt_ok2 y (ef k) = true then _ else _) = _
  rw [h]
  rfl
theorem wt_ancR_0 {n : Nat} {pf ef : Nat → Nat} {x y : Int32} (h : wt_ix x n = none) : wt_ancR n pf ef x y = -2 := by
  unfold wt_ancR
  rw [h]
def wt_dueR (n : Nat) (pf ef gf : Nat → Nat) (tf : Nat → Int32) (x : Int32) : Int32 :=
  match wt_ix x n with
  | none => -2
  | some k => nI (wt_due pf ef gf tf k)
theorem wt_dueR_n {n : Nat} {pf ef gf : Nat → Nat} {tf : Nat → Int32} (hn : n ≤ 512) {k : Nat} (hk : k < n) : wt_dueR n pf ef gf tf (nI k) = nI (wt_due pf ef gf tf k) := by
  unfold wt_dueR
  rw [wt_ix_some hk hn]
theorem wt_dueR_0 {n : Nat} {pf ef gf : Nat → Nat} {tf : Nat → Int32} {x : Int32} (h : wt_ix x n = none) : wt_dueR n pf ef gf tf x = -2 := by
  unfold wt_dueR
  rw [h]
def wt_forkR (n : Nat) (pf : Nat → Nat) (x y : Int32) : Int32 :=
  match wt_ix x n with
  | none => -2
  | some i => match wt_ix y n with
    | none => -2
    | some j => nI (wt_lc pf i j)
theorem wt_forkR_n {n : Nat} {pf : Nat → Nat} (hn : n ≤ 512) {i j : Nat} (hi : i < n) (hj : j < n) : wt_forkR n pf (nI i) (nI j) = nI (wt_lc pf i j) := by
  unfold wt_forkR
  rw [wt_ix_some hi hn, wt_ix_some hj hn]
theorem wt_forkR_1 {n : Nat} {pf : Nat → Nat} {x y : Int32} (h : wt_ix x n = none) : wt_forkR n pf x y = -2 := by
  unfold wt_forkR
  rw [h]
theorem wt_forkR_2 {n : Nat} {pf : Nat → Nat} {x y : Int32} (h : wt_ix y n = none) : wt_forkR n pf x y = -2 := by
  unfold wt_forkR
  rw [h]
  cases wt_ix x n <;> rfl
def wt_medF (n : Nat) (pf : Nat → Nat) (tf ts : Nat → Int32) (x : Int32) : Int32 × (Nat → Int32) :=
  match wt_ix x n with
  | none => (-2, ts)
  | some k => (wt_medR pf tf k ts, wt_medT pf tf k ts)
theorem wt_medF_n {n : Nat} {pf : Nat → Nat} {tf ts : Nat → Int32} (hn : n ≤ 512) {k : Nat} (hk : k < n) : wt_medF n pf tf ts (nI k) = (wt_medR pf tf k ts, wt_medT pf tf k ts) := by
  unfold wt_medF
  rw [wt_ix_some hk hn]
theorem wt_medF_0 {n : Nat} {pf : Nat → Nat} {tf ts : Nat → Int32} {x : Int32} (h : wt_ix x n = none) : wt_medF n pf tf ts x = (-2, ts) := by
  unfold wt_medF
  rw [h]
def wt_lk (pf ef gf : Nat → Nat) (tf : Nat → Int32) (wf : Nat → Int64) (xf : Nat → Bool) (k j : Nat) : Int64 :=
  match j with
  | 0 => (nI (ef k)).toInt64
  | 1 => if k = 0 then -2 else (nI (pf k)).toInt64
  | 2 => (tf k).toInt64
  | 3 => (nI (gf k)).toInt64
  | 4 => wf k
  | _ => if xf k = true then 1 else 0
def wt_lookR (n : Nat) (pf ef gf : Nat → Nat) (tf : Nat → Int32) (wf : Nat → Int64) (xf : Nat → Bool) (x y : Int32) : Int64 :=
  if wt_ok2 y 5 = true then (match wt_ix x n with
    | none => -2
    | some k => wt_lk pf ef gf tf wf xf k y.toInt.toNat) else -1
theorem wt_lookR_q {n : Nat} {pf ef gf : Nat → Nat} {tf : Nat → Int32} {wf : Nat → Int64} {xf : Nat → Bool} {x y : Int32} (h : wt_ok2 y 5 = false) : wt_lookR n pf ef gf tf wf xf x y = -1 := by
  unfold wt_lookR
  rw [h]
  rfl
theorem wt_lookR_0 {n : Nat} {pf ef gf : Nat → Nat} {tf : Nat → Int32} {wf : Nat → Int64} {xf : Nat → Bool} {x y : Int32} (h : wt_ok2 y 5 = true) (h2 : wt_ix x n = none) : wt_lookR n pf ef gf tf wf xf x y = -2 := by
  unfold wt_lookR
  rw [if_pos h, h2]
theorem wt_lookR_n {n : Nat} {pf ef gf : Nat → Nat} {tf : Nat → Int32} {wf : Nat → Int64} {xf : Nat → Bool} (hn : n ≤ 512) {k j : Nat} (hk : k < n) (hj : j ≤ 5) : wt_lookR n pf ef gf tf wf xf (nI k) (nI j) = wt_lk pf ef gf tf wf xf k j := by
  unfold wt_lookR
  rw [if_pos (wt_ok2_n hj (by omega)), wt_ix_some hk hn, nI_toInt (by omega)]
  rfl
theorem wt_rfR_n {n : Nat} {pf : Nat → Nat} {af : Nat → Int32} {wf : Nat → Int64} {xf : Nat → Bool} (hn : n ≤ 512) {k : Nat} (h1 : 1 ≤ k) (hk : k < n) : wt_rfR n pf af wf xf (nI k) = nI (wt_bt wf af (wt_rf pf (n - (k + 1)) (k + 1) (va_up xf k true)) (n - 1) 1 0) := by
  unfold wt_rfR
  rw [wt_ix_some hk hn]
  exact if_neg (by omega)
theorem wt_rfC_n {n : Nat} {pf : Nat → Nat} {xf : Nat → Bool} (hn : n ≤ 512) {k : Nat} (h1 : 1 ≤ k) (hk : k < n) : wt_rfC n pf xf (nI k) = wt_rf pf (n - (k + 1)) (k + 1) (va_up xf k true) := by
  unfold wt_rfC
  rw [wt_ix_some hk hn]
  exact if_neg (by omega)
theorem wt_rfM_n {n : Nat} {rf : Nat → Bool} (hn : n ≤ 512) {k : Nat} (h1 : 1 ≤ k) (hk : k < n) : wt_rfM n rf (nI k) = va_up rf k true := by
  unfold wt_rfM
  rw [wt_ix_some hk hn]
  exact if_neg (by omega)
theorem wt_rfR_0 {n : Nat} {pf : Nat → Nat} {af : Nat → Int32} {wf : Nat → Int64} {xf : Nat → Bool} {x : Int32} (h : wt_ix x n = none ∨ wt_ix x n = some 0) : wt_rfR n pf af wf xf x = -1 := by
  unfold wt_rfR
  rcases h with h | h <;> rw [h] <;> rfl
theorem wt_rfC_0 {n : Nat} {pf : Nat → Nat} {xf : Nat → Bool} {x : Int32} (h : wt_ix x n = none ∨ wt_ix x n = some 0) : wt_rfC n pf xf x = xf := by
  unfold wt_rfC
  rcases h with h | h <;> rw [h] <;> rfl
theorem wt_rfM_0 {n : Nat} {rf : Nat → Bool} {x : Int32} (h : wt_ix x n = none ∨ wt_ix x n = some 0) : wt_rfM n rf x = rf := by
  unfold wt_rfM
  rcases h with h | h <;> rw [h] <;> rfl
theorem wt_add_0 {fw : (Nat → Bool) → Nat → Nat → (Nat → Bool)} {n : Nat} {pf ef gf : Nat → Nat} {tf af : Nat → Int32} {wf : Nat → Int64} {xf : Nat → Bool} {ts : Nat → Int32} {x ti ar : Int32} (h : wt_ix x n = none) : wt_add fw n pf ef gf tf af wf xf ts x ti ar = (-1, (n, pf, ef, gf, tf, af, wf, xf, ts)) := by
  unfold wt_add
  rw [h]
theorem wt_add_1 {fw : (Nat → Bool) → Nat → Nat → (Nat → Bool)} {n : Nat} {pf ef gf : Nat → Nat} {tf af : Nat → Int32} {wf : Nat → Int64} {xf : Nat → Bool} {ts : Nat → Int32} {k : Nat} {ti ar : Int32} (hn : n ≤ 512) (hk : k < n) (h : ti ≤ wt_medR pf tf k ts ∨ ar < 0) : wt_add fw n pf ef gf tf af wf xf ts (nI k) ti ar = (-1, (n, pf, ef, gf, tf, af, wf, xf, wt_medT pf tf k ts)) := by
  unfold wt_add
  rw [wt_ix_some hk hn]
  exact if_pos h
theorem wt_add_2 {fw : (Nat → Bool) → Nat → Nat → (Nat → Bool)} {n : Nat} {pf ef gf : Nat → Nat} {tf af : Nat → Int32} {wf : Nat → Int64} {xf : Nat → Bool} {ts : Nat → Int32} {k : Nat} {ti ar : Int32} (hn : n ≤ 512) (hk : k < n) (h : ¬ ti ≤ wt_medR pf tf k ts) (h2 : ¬ ar < 0) (h3 : n = 512) : wt_add fw n pf ef gf tf af wf xf ts (nI k) ti ar = (-3, (n, pf, ef, gf, tf, af, wf, xf, wt_medT pf tf k ts)) := by
  unfold wt_add
  rw [wt_ix_some hk hn]
  exact (if_neg (fun q => q.elim h h2)).trans (if_pos h3)
theorem wt_add_3 {fw : (Nat → Bool) → Nat → Nat → (Nat → Bool)} {n : Nat} {pf ef gf : Nat → Nat} {tf af : Nat → Int32} {wf : Nat → Int64} {xf : Nat → Bool} {ts : Nat → Int32} {k : Nat} {ti ar : Int32} (hn : n ≤ 512) (hk : k < n) (h : ¬ ti ≤ wt_medR pf tf k ts) (h2 : ¬ ar < 0) (h3 : ¬ n = 512) : wt_add fw n pf ef gf tf af wf xf ts (nI k) ti ar = (nI n, wt_grown n pf ef gf tf af wf (fw xf n k) (wt_medT pf tf k ts) k ti ar) := by
  unfold wt_add
  rw [wt_ix_some hk hn]
  exact (if_neg (fun q => q.elim h h2)).trans (if_neg h3)
theorem va_P_nil {D : va_G} {cl : List vw_C} {H : Heap} : va_P D cl [] H := fun k q h => by simp at h
theorem wt_clS_a {x : Int32} (h : ¬ nI 20 ≤ x) : wt_clS x = 20 := by
  rw [Int32.le_iff_toInt_le, nI_toInt (by omega)] at h
  exact if_pos (by omega)
theorem wt_clS_b {x : Int32} (h : nI 20 ≤ x) (h2 : ¬ x ≤ nI 320) : wt_clS x = 320 := by
  rw [Int32.le_iff_toInt_le, nI_toInt (by omega)] at h h2
  exact (if_neg (by omega)).trans (if_pos (by omega))
theorem wt_clS_c {x : Int32} (h : nI 20 ≤ x) (h2 : x ≤ nI 320) : x = nI (wt_clS x) := by
  rw [Int32.le_iff_toInt_le, nI_toInt (by omega)] at h h2
  have e : wt_clS x = x.toInt.toNat := (if_neg (by omega)).trans (if_neg (by omega))
  rw [e]
  apply Int32.toInt_inj.mp
  rw [nI_toInt (by omega)]
  omega
end
section
set_option maxHeartbeats 4000000 in
set_option maxRecDepth 100000 in
theorem c_T_in (l : Launch) (D : va_G) (cI cJ cZ : ClassId) (x lo hi : Int32) : Met l y_T_in (Cond.code y_T_in b_T_in 3 (some .boolean) :: wt_ws) ({ frames := 0, cells := 0, slots := 0, locals := 0 } : Room) (ro_Pc [.int x, .int lo, .int hi] D [] (wt_ty cI cJ cZ)) (ro_Qi (fun r => r = bz (decide (lo ≤ x ∧ x ≤ hi)))) 0 0 (fun _ => False) := by
  refine Met.ofW (cc := b_T_in) (maxL := 3) (ret := (some .boolean)) (by decide) rfl ?_
  intro pp ev s m args below meth c s₁ B hml hv
  obtain ⟨rfl, hP, hK⟩ := hv
  have hx := B.exec
  have hb := B.bytes
  have hr := B.returns
  have hts : ∀ w ∈ wt_ws, w.before ([.int x, .int lo, .int hi] : List Value).toArray s = true := fun w hw => atoms_spec (ws := Cond.code y_T_in b_T_in 3 (some .boolean) :: wt_ws) B.pre w (List.mem_cons_of_mem _ hw)
  have hown : s.vm.findClass R_T = some m.cls := findClass_of_methodNamed B.named
  have hlocks := B.notSynchronized
  have hS : va_S (fun _ => False) s.heap s.heap [] := va_S.rf
  have hl := lv_entry ([.int x, .int lo, .int hi]) (n := 3) (Nat.le_of_ble_eq_true rfl)
  rw [lg_entry_eq]
  generalize (lg_sl ([.int x, .int lo, .int hi]) ++ List.replicate (3 - (lg_sl ([.int x, .int lo, .int hi])).length) Slot.unset).toArray = ls at hl ⊢
  have hl : lv_has ls 3 [(0, .int x), (1, .int lo), (2, .int hi)] := hl
  refine lv_iload_n hx hb d_T_in_0 rfl (lv_at hl 0 rfl) ?_
  refine lv_iload_n hx hb d_T_in_1 rfl (lv_at hl 1 rfl) ?_
  refine lv_icmp_lt (tgt := 14) hx hb d_T_in_2 (by decide) (fun hc2 => ?_) (fun hc2 => ?_)
  · refine lv_iconst (v := bz false) hx hb d_T_in_14 (by decide +kernel) ?_
    exact ro_zret hx hb hr hlocks hS (by rw [decide_eq_false (fun q => absurd hc2 (Int32.not_lt.mpr q.1))]) d_T_in_15
  · refine lv_iload_n hx hb d_T_in_5 rfl (lv_at hl 0 rfl) ?_
    refine lv_iload_n hx hb d_T_in_6 rfl (lv_at hl 2 rfl) ?_
    refine lv_icmp_gt (tgt := 14) hx hb d_T_in_7 (by decide) (fun hc7 => ?_) (fun hc7 => ?_)
    · refine lv_iconst (v := bz false) hx hb d_T_in_14 (by decide +kernel) ?_
      exact ro_zret hx hb hr hlocks hS (by rw [decide_eq_false (fun q => absurd hc7 (Int32.not_lt.mpr q.2))]) d_T_in_15
    · refine lv_iconst (v := bz true) hx hb d_T_in_10 (by decide +kernel) ?_
      refine lv_goto (tgt := 15) hx hb d_T_in_11 (by decide) ?_
      exact ro_zret hx hb hr hlocks hS (by rw [decide_eq_true ⟨Int32.not_lt.mp hc2, Int32.not_lt.mp hc7⟩]) d_T_in_15
set_option maxHeartbeats 4000000 in
set_option maxRecDepth 100000 in
theorem c_C_ancestor (l : Launch) (D : va_G) (cI cJ cZ : ClassId) (a : Nat → Nat) (n : Nat) (pf ef gf : Nat → Nat) (tf af : Nat → Int32) (wf : Nat → Int64) (xf : Nat → Bool) (ts : Nat → Int32) (k t : Nat) (hT : Tr n pf ef) (hn : n ≤ 512) (hk : k < n) (ht : t ≤ 512) : Met l y_C_ancestor (Cond.code y_C_ancestor b_C_ancestor 4 (some .int) :: wt_ws) ({ frames := 0, cells := 0, slots := 0, locals := 0 } : Room) (ro_Pc [.ref (a 0), .int (nI k), .int (nI t)] D (ch_ws a cI cJ cZ n pf ef gf tf af wf xf ts) (wt_ty cI cJ cZ)) (ro_Qi (fun r => r = nI (wt_anc pf ef t 512 k))) 0 0 (fun _ => False) := by
  refine Met.ofW (cc := b_C_ancestor) (maxL := 4) (ret := (some .int)) (by decide) rfl ?_
  intro pp ev s m args below meth c s₁ B hml hv
  obtain ⟨rfl, hP, hK⟩ := hv
  have hx := B.exec
  have hb := B.bytes
  have hr := B.returns
  have hts : ∀ w ∈ wt_ws, w.before ([.ref (a 0), .int (nI k), .int (nI t)] : List Value).toArray s = true := fun w hw => atoms_spec (ws := Cond.code y_C_ancestor b_C_ancestor 4 (some .int) :: wt_ws) B.pre w (List.mem_cons_of_mem _ hw)
  have hown : s.vm.findClass R_C = some m.cls := findClass_of_methodNamed B.named
  have hlocks := B.notSynchronized
  have hS : va_S (fun _ => False) s.heap s.heap [] := va_S.rf
  have hl := lv_entry ([.ref (a 0), .int (nI k), .int (nI t)]) (n := 4) (Nat.le_of_ble_eq_true rfl)
  rw [lg_entry_eq]
  generalize (lg_sl ([.ref (a 0), .int (nI k), .int (nI t)]) ++ List.replicate (4 - (lg_sl ([.ref (a 0), .int (nI k), .int (nI t)])).length) Slot.unset).toArray = ls at hl ⊢
  have hl : lv_has ls 4 [(0, .ref (a 0)), (1, .int (nI k)), (2, .int (nI t))] := hl
  have loop : ∀ (j : Nat) (ls : Array Slot), j < n → wt_anc pf ef t 512 j = wt_anc pf ef t 512 k → lv_has ls 4 [(3, .int (nI j)), (0, .ref (a 0)), (1, .int (nI k)), (2, .int (nI t))] → W pp l ev (headSpec (Cond.code y_C_ancestor b_C_ancestor 4 (some .int) :: wt_ws) ({ frames := 0, cells := 0, slots := 0, locals := 0 } : Room)).room s m ([.ref (a 0), .int (nI k), .int (nI t)] : List Value).toArray below meth c s.heap [] 0 0 (MQ below (ro_Qi (fun r => r = nI (wt_anc pf ef t 512 k))) ([.ref (a 0), .int (nI k), .int (nI t)] : List Value).toArray s 0 0 (fun _ => False)) (F0 m 2 ls []) := by
    intro j
    induction j using Nat.strongRecOn with
    | ind j ih =>
      intro ls hj hw hl
      have hej := hT.le j hj
      refine lv_aload_n hx hb d_C_ancestor_2 rfl (lv_at hl 1 rfl) ?_
      refine va_get (D := D) (ci := 1) (v := .ref (a 2)) (C := R_C) (T := F_C) (N := 9) hx hb hts u_in_C hown hK hP 0 rfl rfl 2 (by decide) (hts _ k_24) (fun _ h9 => h9) rfl d_C_ancestor_3 ?_
      refine lv_iload_n hx hb d_C_ancestor_6 rfl (lv_at hl 0 rfl) ?_
      refine wn_iald (k := j) (v := (nI (ef j))) hx hb hK hP 2 0 rfl rfl (by omega) (by decide) rfl d_C_ancestor_7 ?_
      refine lv_iload_n hx hb d_C_ancestor_8 rfl (lv_at hl 3 rfl) ?_
      refine wn_icmp_le (tgt := 22) hx hb (by omega) (by omega) d_C_ancestor_9 (by decide) (fun hc9 => ?_) (fun hc9 => ?_)
      · refine lv_iload_n hx hb d_C_ancestor_22 rfl (lv_at hl 0 rfl) ?_
        exact ro_iret hx hb hr hlocks hS (by rw [← hw, wt_anc_pos hc9]) d_C_ancestor_23
      · have hj1 := hT.pos hj (show 0 < ef j by omega)
        obtain ⟨hp1, -⟩ := hT.2 j hj1 hj
        refine lv_aload_n hx hb d_C_ancestor_12 rfl (lv_at hl 1 rfl) ?_
        refine va_get (D := D) (ci := 1) (v := .ref (a 1)) (C := R_C) (T := F_C) (N := 9) hx hb hts u_in_C hown hK hP 0 rfl rfl 1 (by decide) (hts _ k_22) (fun _ h9 => h9) rfl d_C_ancestor_13 ?_
        refine lv_iload_n hx hb d_C_ancestor_16 rfl (lv_at hl 0 rfl) ?_
        refine wn_iald (k := j) (v := (nI (pf j))) hx hb hK hP 1 0 rfl rfl (by omega) (by decide) (ar_p_at (by omega)) d_C_ancestor_17 ?_
        refine lv_istore_n (lv' := [(3, .int (nI (pf j))), (0, .ref (a 0)), (1, .int (nI k)), (2, .int (nI t))]) hx hb d_C_ancestor_18 rfl hl (by decide) rfl (fun ls hl => ?_)
        refine lv_goto (tgt := 2) hx hb d_C_ancestor_19 (by decide) ?_
        have hl : lv_has ls 4 [(3, .int (nI (pf j))), (0, .ref (a 0)), (1, .int (nI k)), (2, .int (nI t))] := lv_sub hl [0, 1, 2, 3] rfl
        exact ih (pf j) hp1 ls (by omega) ((wt_anc_neg hT hn hj hc9).symm.trans hw) hl
  refine lv_iload_n hx hb d_C_ancestor_0 rfl (lv_at hl 1 rfl) ?_
  refine lv_istore_n (lv' := [(3, .int (nI k)), (0, .ref (a 0)), (1, .int (nI k)), (2, .int (nI t))]) hx hb d_C_ancestor_1 rfl hl (by decide) rfl (fun ls hl => ?_)
  have hl : lv_has ls 4 [(3, .int (nI k)), (0, .ref (a 0)), (1, .int (nI k)), (2, .int (nI t))] := lv_sub hl [0, 1, 2, 3] rfl
  exact loop k ls hk rfl hl
set_option maxHeartbeats 4000000 in
set_option maxRecDepth 100000 in
theorem c_C_isBetter (l : Launch) (D : va_G) (cI cJ cZ : ClassId) (a : Nat → Nat) (n : Nat) (pf ef gf : Nat → Nat) (tf af : Nat → Int32) (wf : Nat → Int64) (xf : Nat → Bool) (ts : Nat → Int32) (j b : Nat) (hj : j < 512) (hbb : b < 512) : Met l y_C_isBetter (Cond.code y_C_isBetter b_C_isBetter 3 (some .boolean) :: wt_ws) ({ frames := 0, cells := 0, slots := 0, locals := 0 } : Room) (ro_Pc [.ref (a 0), .int (nI j), .int (nI b)] D (ch_ws a cI cJ cZ n pf ef gf tf af wf xf ts) (wt_ty cI cJ cZ)) (ro_Qi (fun r => r = bz (wt_bet wf af j b))) 0 0 (fun _ => False) := by
  refine Met.ofW (cc := b_C_isBetter) (maxL := 3) (ret := (some .boolean)) (by decide) rfl ?_
  intro pp ev s m args below meth c s₁ B hml hv
  obtain ⟨rfl, hP, hK⟩ := hv
  have hx := B.exec
  have hb := B.bytes
  have hr := B.returns
  have hts : ∀ w ∈ wt_ws, w.before ([.ref (a 0), .int (nI j), .int (nI b)] : List Value).toArray s = true := fun w hw => atoms_spec (ws := Cond.code y_C_isBetter b_C_isBetter 3 (some .boolean) :: wt_ws) B.pre w (List.mem_cons_of_mem _ hw)
  have hown : s.vm.findClass R_C = some m.cls := findClass_of_methodNamed B.named
  have hlocks := B.notSynchronized
  have hS : va_S (fun _ => False) s.heap s.heap [] := va_S.rf
  have hl := lv_entry ([.ref (a 0), .int (nI j), .int (nI b)]) (n := 3) (Nat.le_of_ble_eq_true rfl)
  rw [lg_entry_eq]
  generalize (lg_sl ([.ref (a 0), .int (nI j), .int (nI b)]) ++ List.replicate (3 - (lg_sl ([.ref (a 0), .int (nI j), .int (nI b)])).length) Slot.unset).toArray = ls at hl ⊢
  have hl : lv_has ls 3 [(0, .ref (a 0)), (1, .int (nI j)), (2, .int (nI b))] := hl
  refine lv_aload_n hx hb d_C_isBetter_0 rfl (lv_at hl 0 rfl) ?_
  refine va_get (D := D) (ci := 1) (v := .ref (a 6)) (C := R_C) (T := F_C) (N := 9) hx hb hts u_in_C hown hK hP 0 rfl rfl 6 (by decide) (hts _ k_31) (fun _ h9 => h9) rfl d_C_isBetter_1 ?_
  refine lv_iload_n hx hb d_C_isBetter_4 rfl (lv_at hl 1 rfl) ?_
  refine wn_lald (k := j) (v := wf j) hx hb hK hP 6 1 rfl rfl (by omega) (by decide) rfl d_C_isBetter_5 ?_
  refine lv_aload_n hx hb d_C_isBetter_6 rfl (lv_at hl 0 rfl) ?_
  refine va_get (D := D) (ci := 1) (v := .ref (a 6)) (C := R_C) (T := F_C) (N := 9) hx hb hts u_in_C hown hK hP 0 rfl rfl 6 (by decide) (hts _ k_31) (fun _ h9 => h9) rfl d_C_isBetter_7 ?_
  refine lv_iload_n hx hb d_C_isBetter_10 rfl (lv_at hl 2 rfl) ?_
  refine wn_lald (k := b) (v := wf b) hx hb hK hP 6 1 rfl rfl (by omega) (by decide) rfl d_C_isBetter_11 ?_
  refine W.lcmp hx hb d_C_isBetter_12 ?_
  refine lv_if_eq (tgt := 40) hx hb d_C_isBetter_13 (by decide) (fun hc13 => ?_) (fun hc13 => ?_)
  · refine lv_aload_n hx hb d_C_isBetter_40 rfl (lv_at hl 0 rfl) ?_
    refine va_get (D := D) (ci := 1) (v := .ref (a 5)) (C := R_C) (T := F_C) (N := 9) hx hb hts u_in_C hown hK hP 0 rfl rfl 5 (by decide) (hts _ k_30) (fun _ h9 => h9) rfl d_C_isBetter_41 ?_
    refine lv_iload_n hx hb d_C_isBetter_44 rfl (lv_at hl 1 rfl) ?_
    refine wn_iald (k := j) (v := (af j)) hx hb hK hP 5 0 rfl rfl (by omega) (by decide) rfl d_C_isBetter_45 ?_
    refine lv_aload_n hx hb d_C_isBetter_46 rfl (lv_at hl 0 rfl) ?_
    refine va_get (D := D) (ci := 1) (v := .ref (a 5)) (C := R_C) (T := F_C) (N := 9) hx hb hts u_in_C hown hK hP 0 rfl rfl 5 (by decide) (hts _ k_30) (fun _ h9 => h9) rfl d_C_isBetter_47 ?_
    refine lv_iload_n hx hb d_C_isBetter_50 rfl (lv_at hl 2 rfl) ?_
    refine wn_iald (k := b) (v := (af b)) hx hb hK hP 5 0 rfl rfl (by omega) (by decide) rfl d_C_isBetter_51 ?_
    refine lv_icmp_ge (tgt := 59) hx hb d_C_isBetter_52 (by decide) (fun hc52 => ?_) (fun hc52 => ?_)
    · refine lv_iconst (v := (nI 0)) hx hb d_C_isBetter_59 (by decide +kernel) ?_
      refine wt_top (v := bz false) (by decide +kernel) ?_
      exact ro_zret hx hb hr hlocks hS (by rw [(wt_bet_f2 (wt_irr (wt_cmp0.mp hc13)) (Int32.not_lt.mpr hc52))]) d_C_isBetter_60
    · refine lv_iconst (v := (nI 1)) hx hb d_C_isBetter_55 (by decide +kernel) ?_
      refine lv_goto (tgt := 60) hx hb d_C_isBetter_56 (by decide) ?_
      refine wt_top (v := bz true) (by decide +kernel) ?_
      exact ro_zret hx hb hr hlocks hS (by rw [(wt_bet_t2 (wt_cmp0.mp hc13) (Int32.not_le.mp hc52))]) d_C_isBetter_60
  · refine lv_aload_n hx hb d_C_isBetter_16 rfl (lv_at hl 0 rfl) ?_
    refine va_get (D := D) (ci := 1) (v := .ref (a 6)) (C := R_C) (T := F_C) (N := 9) hx hb hts u_in_C hown hK hP 0 rfl rfl 6 (by decide) (hts _ k_31) (fun _ h9 => h9) rfl d_C_isBetter_17 ?_
    refine lv_iload_n hx hb d_C_isBetter_20 rfl (lv_at hl 1 rfl) ?_
    refine wn_lald (k := j) (v := wf j) hx hb hK hP 6 1 rfl rfl (by omega) (by decide) rfl d_C_isBetter_21 ?_
    refine lv_aload_n hx hb d_C_isBetter_22 rfl (lv_at hl 0 rfl) ?_
    refine va_get (D := D) (ci := 1) (v := .ref (a 6)) (C := R_C) (T := F_C) (N := 9) hx hb hts u_in_C hown hK hP 0 rfl rfl 6 (by decide) (hts _ k_31) (fun _ h9 => h9) rfl d_C_isBetter_23 ?_
    refine lv_iload_n hx hb d_C_isBetter_26 rfl (lv_at hl 2 rfl) ?_
    refine wn_lald (k := b) (v := wf b) hx hb hK hP 6 1 rfl rfl (by omega) (by decide) rfl d_C_isBetter_27 ?_
    refine W.lcmp hx hb d_C_isBetter_28 ?_
    refine lv_if_le (tgt := 36) hx hb d_C_isBetter_29 (by decide) (fun hc29 => ?_) (fun hc29 => ?_)
    · refine lv_iconst (v := (nI 0)) hx hb d_C_isBetter_36 (by decide +kernel) ?_
      refine lv_goto (tgt := 60) hx hb d_C_isBetter_37 (by decide) ?_
      refine wt_top (v := bz false) (by decide +kernel) ?_
      exact ro_zret hx hb hr hlocks hS (by rw [(wt_bet_f1 (wt_cmple.mp hc29) (fun z => hc13 (wt_cmp0.mpr z)))]) d_C_isBetter_60
    · refine lv_iconst (v := (nI 1)) hx hb d_C_isBetter_32 (by decide +kernel) ?_
      refine lv_goto (tgt := 60) hx hb d_C_isBetter_33 (by decide) ?_
      refine wt_top (v := bz true) (by decide +kernel) ?_
      exact ro_zret hx hb hr hlocks hS (by rw [(wt_bet_t1 (Classical.byContradiction (fun z => hc29 (wt_cmple.mpr z))))]) d_C_isBetter_60
set_option maxHeartbeats 4000000 in
set_option maxRecDepth 100000 in
theorem c_C_best (l : Launch) (D : va_G) (cI cJ cZ : ClassId) (a : Nat → Nat) (n : Nat) (pf ef gf : Nat → Nat) (tf af : Nat → Int32) (wf : Nat → Int64) (xf : Nat → Bool) (ts : Nat → Int32) (h1 : 1 ≤ n) (hn : n ≤ 512) : Met l y_C_best (Cond.code y_C_best b_C_best 3 (some .int) :: wt_ws) ({ frames := 1, cells := 0, slots := 0, locals := 22 } : Room) (ro_Pc [.ref (a 0)] D (ch_ws a cI cJ cZ n pf ef gf tf af wf xf ts) (wt_ty cI cJ cZ)) (ro_Qi (fun r => r = nI (wt_bt wf af xf (n - 1) 1 0))) 0 0 (fun _ => False) := by
  refine Met.ofW (cc := b_C_best) (maxL := 3) (ret := (some .int)) (by decide) rfl ?_
  intro pp ev s m args below meth c s₁ B hml hv
  obtain ⟨rfl, hP, hK⟩ := hv
  have hx := B.exec
  have hb := B.bytes
  have hr := B.returns
  have hts : ∀ w ∈ wt_ws, w.before ([.ref (a 0)] : List Value).toArray s = true := fun w hw => atoms_spec (ws := Cond.code y_C_best b_C_best 3 (some .int) :: wt_ws) B.pre w (List.mem_cons_of_mem _ hw)
  have hown : s.vm.findClass R_C = some m.cls := findClass_of_methodNamed B.named
  have hlocks := B.notSynchronized
  have hS : va_S (fun _ => False) s.heap s.heap [] := va_S.rf
  have hl := lv_entry ([.ref (a 0)]) (n := 3) (Nat.le_of_ble_eq_true rfl)
  rw [lg_entry_eq]
  generalize (lg_sl ([.ref (a 0)]) ++ List.replicate (3 - (lg_sl ([.ref (a 0)])).length) Slot.unset).toArray = ls at hl ⊢
  have hl : lv_has ls 3 [(0, .ref (a 0))] := hl
  have loop : ∀ (q j b : Nat) (ls : Array Slot) (H : Heap) (locs : List Loc), q + j = n → b < n → wt_bt wf af xf q j b = wt_bt wf af xf (n - 1) 1 0 → lv_has ls 3 [(2, .int (nI j)), (1, .int (nI b)), (0, .ref (a 0))] → va_P D classes (ch_ws a cI cJ cZ n pf ef gf tf af wf xf ts) H → va_S (fun _ => False) s.heap H locs → W pp l ev (headSpec (Cond.code y_C_best b_C_best 3 (some .int) :: wt_ws) ({ frames := 1, cells := 0, slots := 0, locals := 22 } : Room)).room s m ([.ref (a 0)] : List Value).toArray below meth c H locs 0 0 (MQ below (ro_Qi (fun r => r = nI (wt_bt wf af xf (n - 1) 1 0))) ([.ref (a 0)] : List Value).toArray s 0 0 (fun _ => False)) (F0 m 4 ls []) := by
    intro q
    induction q with
    | zero =>
      intro j b ls H locs hq hbn hw hl hP hS
      refine lv_iload_n hx hb d_C_best_4 rfl (lv_at hl 0 rfl) ?_
      refine lv_aload_n hx hb d_C_best_5 rfl (lv_at hl 2 rfl) ?_
      refine va_get (D := D) (ci := 1) (v := .int (nI n)) (C := R_C) (T := F_C) (N := 9) hx hb hts u_in_C hown hK hP 0 rfl rfl 0 (by decide) (hts _ k_20) (fun _ h9 => h9) rfl d_C_best_6 ?_
      refine wn_icmp_ge (tgt := 38) hx hb (by omega) (by omega) d_C_best_9 (by decide) (fun hc9 => ?_) (fun hc9 => ?_)
      · refine lv_iload_n hx hb d_C_best_38 rfl (lv_at hl 1 rfl) ?_
        exact ro_iret hx hb hr hlocks hS (by rw [← hw]; rfl) d_C_best_39
      · omega
    | succ q ih =>
      intro j b ls H locs hq hbn hw hl hP hS
      refine lv_iload_n hx hb d_C_best_4 rfl (lv_at hl 0 rfl) ?_
      refine lv_aload_n hx hb d_C_best_5 rfl (lv_at hl 2 rfl) ?_
      refine va_get (D := D) (ci := 1) (v := .int (nI n)) (C := R_C) (T := F_C) (N := 9) hx hb hts u_in_C hown hK hP 0 rfl rfl 0 (by decide) (hts _ k_20) (fun _ h9 => h9) rfl d_C_best_6 ?_
      refine wn_icmp_ge (tgt := 38) hx hb (by omega) (by omega) d_C_best_9 (by decide) (fun hc9 => ?_) (fun hc9 => ?_)
      · omega
      · refine lv_aload_n hx hb d_C_best_12 rfl (lv_at hl 2 rfl) ?_
        refine va_get (D := D) (ci := 1) (v := .ref (a 7)) (C := R_C) (T := F_C) (N := 9) hx hb hts u_in_C hown hK hP 0 rfl rfl 7 (by decide) (hts _ k_33) (fun _ h9 => h9) rfl d_C_best_13 ?_
        refine lv_iload_n hx hb d_C_best_16 rfl (lv_at hl 0 rfl) ?_
        refine wn_zald (k := j) (v := (bz (xf j))) hx hb hK hP 7 2 rfl rfl (by omega) (by decide) rfl d_C_best_17 ?_
        refine wb_if_ne (tgt := 32) hx hb d_C_best_18 (by decide) (fun hc18 => ?_) (fun hc18 => ?_)
        · have hw := hw
          rw [wt_bt_n (Or.inl hc18)] at hw
          refine lv_iinc (k := 0) (v := (nI (j + 1))) (lv' := [(2, .int (nI (j + 1))), (1, .int (nI b)), (0, .ref (a 0))]) hx hb d_C_best_32 hl rfl (wt_inc1 _) (by decide) rfl (fun ls hl => ?_)
          refine lv_goto (tgt := 4) hx hb d_C_best_35 (by decide) ?_
          have hl : lv_has ls 3 [(2, .int (nI (j + 1))), (1, .int (nI b)), (0, .ref (a 0))] := lv_sub hl [0, 1, 2] rfl
          exact ih (j + 1) b ls H locs (by omega) (by omega) hw hl hP hS
        · refine lv_aload_n hx hb d_C_best_21 rfl (lv_at hl 2 rfl) ?_
          refine lv_iload_n hx hb d_C_best_22 rfl (lv_at hl 0 rfl) ?_
          refine lv_iload_n hx hb d_C_best_23 rfl (lv_at hl 1 rfl) ?_
          refine ro_calli (ws := ch_ws a cI cJ cZ n pf ef gf tf af wf xf ts) (va_runV (As := [.int (nI j), .int (nI b)]) (rest := []) ⟨hx, hb, hml, hown, hts⟩ (c_C_isBetter l D cI cJ cZ a n pf ef gf tf af wf xf ts j b (by omega) (by omega)) (wt_cwV 2 hts k_116 k_113 k_114 k_115 k_2 rfl rfl (by decide +kernel) ⟨Nat.le_of_ble_eq_true rfl, Nat.le_of_ble_eq_true rfl⟩) (ro_preV (q := (R_C, F_C, 9)) (ci := 1) hK hP 0 rfl rfl) rfl rfl hl.1 rfl (lv_room (Nat.le_of_ble_eq_true rfl)) d_C_best_24 ⟨Nat.zero_le _, Nat.zero_le _⟩) hS hP (fun r H locs hr24 hP hS => ?_)
          subst hr24
          refine wb_if_eq (tgt := 32) hx hb d_C_best_27 (by decide) (fun hc27 => ?_) (fun hc27 => ?_)
          · have hw := hw
            rw [wt_bt_n (Or.inr hc27)] at hw
            refine lv_iinc (k := 0) (v := (nI (j + 1))) (lv' := [(2, .int (nI (j + 1))), (1, .int (nI b)), (0, .ref (a 0))]) hx hb d_C_best_32 hl rfl (wt_inc1 _) (by decide) rfl (fun ls hl => ?_)
            refine lv_goto (tgt := 4) hx hb d_C_best_35 (by decide) ?_
            have hl : lv_has ls 3 [(2, .int (nI (j + 1))), (1, .int (nI b)), (0, .ref (a 0))] := lv_sub hl [0, 1, 2] rfl
            exact ih (j + 1) b ls H locs (by omega) (by omega) hw hl hP hS
          · have hw := hw
            rw [wt_bt_y hc18 hc27] at hw
            refine lv_iload_n hx hb d_C_best_30 rfl (lv_at hl 0 rfl) ?_
            refine lv_istore_n (lv' := [(1, .int (nI j)), (2, .int (nI j)), (0, .ref (a 0))]) hx hb d_C_best_31 rfl hl (by decide) rfl (fun ls hl => ?_)
            refine lv_iinc (k := 1) (v := (nI (j + 1))) (lv' := [(2, .int (nI (j + 1))), (1, .int (nI j)), (0, .ref (a 0))]) hx hb d_C_best_32 hl rfl (wt_inc1 _) (by decide) rfl (fun ls hl => ?_)
            refine lv_goto (tgt := 4) hx hb d_C_best_35 (by decide) ?_
            have hl : lv_has ls 3 [(2, .int (nI (j + 1))), (1, .int (nI j)), (0, .ref (a 0))] := lv_sub hl [0, 1, 2] rfl
            exact ih (j + 1) j ls H locs (by omega) (by omega) hw hl hP hS
  refine lv_iconst (v := (nI 0)) hx hb d_C_best_0 (by decide +kernel) ?_
  refine lv_istore_n (lv' := [(1, .int (nI 0)), (0, .ref (a 0))]) hx hb d_C_best_1 rfl hl (by decide) rfl (fun ls hl => ?_)
  refine lv_iconst (v := (nI 1)) hx hb d_C_best_2 (by decide +kernel) ?_
  refine lv_istore_n (lv' := [(2, .int (nI 1)), (1, .int (nI 0)), (0, .ref (a 0))]) hx hb d_C_best_3 rfl hl (by decide) rfl (fun ls hl => ?_)
  have hl : lv_has ls 3 [(2, .int (nI 1)), (1, .int (nI 0)), (0, .ref (a 0))] := lv_sub hl [0, 1, 2] rfl
  exact loop (n - 1) 1 0 ls s.heap [] (by omega) (by omega) rfl hl hP hS
set_option maxHeartbeats 4000000 in
set_option maxRecDepth 100000 in
theorem c_C_fork (l : Launch) (D : va_G) (cI cJ cZ : ClassId) (a : Nat → Nat) (n : Nat) (pf ef gf : Nat → Nat) (tf af : Nat → Int32) (wf : Nat → Int64) (xf : Nat → Bool) (ts : Nat → Int32) (x y : Nat) (hT : Tr n pf ef) (hn : n ≤ 512) (hxn : x < n) (hyn : y < n) : Met l y_C_fork (Cond.code y_C_fork b_C_fork 5 (some .int) :: wt_ws) ({ frames := 0, cells := 0, slots := 0, locals := 0 } : Room) (ro_Pc [.ref (a 0), .int (nI x), .int (nI y)] D (ch_ws a cI cJ cZ n pf ef gf tf af wf xf ts) (wt_ty cI cJ cZ)) (ro_Qi (fun r => r = nI (wt_lc pf x y))) 0 0 (fun _ => False) := by
  refine Met.ofW (cc := b_C_fork) (maxL := 5) (ret := (some .int)) (by decide) rfl ?_
  intro pp ev s m args below meth c s₁ B hml hv
  obtain ⟨rfl, hP, hK⟩ := hv
  have hx := B.exec
  have hb := B.bytes
  have hr := B.returns
  have hts : ∀ w ∈ wt_ws, w.before ([.ref (a 0), .int (nI x), .int (nI y)] : List Value).toArray s = true := fun w hw => atoms_spec (ws := Cond.code y_C_fork b_C_fork 5 (some .int) :: wt_ws) B.pre w (List.mem_cons_of_mem _ hw)
  have hown : s.vm.findClass R_C = some m.cls := findClass_of_methodNamed B.named
  have hlocks := B.notSynchronized
  have hS : va_S (fun _ => False) s.heap s.heap [] := va_S.rf
  have hl := lv_entry ([.ref (a 0), .int (nI x), .int (nI y)]) (n := 5) (Nat.le_of_ble_eq_true rfl)
  rw [lg_entry_eq]
  generalize (lg_sl ([.ref (a 0), .int (nI x), .int (nI y)]) ++ List.replicate (5 - (lg_sl ([.ref (a 0), .int (nI x), .int (nI y)])).length) Slot.unset).toArray = ls at hl ⊢
  have hl : lv_has ls 5 [(0, .ref (a 0)), (1, .int (nI x)), (2, .int (nI y))] := hl
  have loop : ∀ (q i j : Nat) (ls : Array Slot), i + j = q → i < n → j < n → wt_lc pf i j = wt_lc pf x y → lv_has ls 5 [(4, .int (nI j)), (3, .int (nI i)), (0, .ref (a 0))] → W pp l ev (headSpec (Cond.code y_C_fork b_C_fork 5 (some .int) :: wt_ws) ({ frames := 0, cells := 0, slots := 0, locals := 0 } : Room)).room s m ([.ref (a 0), .int (nI x), .int (nI y)] : List Value).toArray below meth c s.heap [] 0 0 (MQ below (ro_Qi (fun r => r = nI (wt_lc pf x y))) ([.ref (a 0), .int (nI x), .int (nI y)] : List Value).toArray s 0 0 (fun _ => False)) (F0 m 5 ls []) := by
    intro q
    induction q using Nat.strongRecOn with
    | ind q ih =>
      intro i j ls hq hi hj hw hl
      refine lv_iload_n hx hb d_C_fork_5 rfl (lv_at hl 1 rfl) ?_
      refine lv_iload hx hb d_C_fork_6 (lv_at hl 0 rfl) ?_
      refine wn_icmp_eq (tgt := 39) hx hb (by omega) (by omega) d_C_fork_8 (by decide) (fun hc8 => ?_) (fun hc8 => ?_)
      · refine lv_iload_n hx hb d_C_fork_39 rfl (lv_at hl 1 rfl) ?_
        exact ro_iret hx hb hr hlocks hS (by rw [← hw, hc8, wt_lc_self]) d_C_fork_40
      · refine lv_iload_n hx hb d_C_fork_11 rfl (lv_at hl 1 rfl) ?_
        refine lv_iload hx hb d_C_fork_12 (lv_at hl 0 rfl) ?_
        refine wn_icmp_le (tgt := 27) hx hb (by omega) (by omega) d_C_fork_14 (by decide) (fun hc14 => ?_) (fun hc14 => ?_)
        · have hlt : i < j := by omega
          obtain ⟨hp1, -⟩ := hT.2 j (by omega) hj
          have hw := hw
          rw [wt_lc_lt hT hn hi hj hlt] at hw
          refine lv_aload_n hx hb d_C_fork_27 rfl (lv_at hl 2 rfl) ?_
          refine va_get (D := D) (ci := 1) (v := .ref (a 1)) (C := R_C) (T := F_C) (N := 9) hx hb hts u_in_C hown hK hP 0 rfl rfl 1 (by decide) (hts _ k_22) (fun _ h9 => h9) rfl d_C_fork_28 ?_
          refine lv_iload hx hb d_C_fork_31 (lv_at hl 0 rfl) ?_
          refine wn_iald (k := j) (v := (nI (pf j))) hx hb hK hP 1 0 rfl rfl (by omega) (by decide) (ar_p_at (by omega)) d_C_fork_33 ?_
          refine lv_istore (lv' := [(4, .int (nI (pf j))), (3, .int (nI i)), (0, .ref (a 0))]) hx hb d_C_fork_34 hl (by decide) rfl (fun ls hl => ?_)
          refine lv_goto (tgt := 5) hx hb d_C_fork_36 (by decide) ?_
          have hl : lv_has ls 5 [(4, .int (nI (pf j))), (3, .int (nI i)), (0, .ref (a 0))] := lv_sub hl [0, 1, 2] rfl
          exact ih (i + (pf j)) (by omega) i (pf j) ls rfl (by omega) (by omega) hw hl
        · have hlt : j < i := by omega
          obtain ⟨hp1, -⟩ := hT.2 i (by omega) hi
          have hw := hw
          rw [wt_lc_gt hT hn hi hj hlt] at hw
          refine lv_aload_n hx hb d_C_fork_17 rfl (lv_at hl 2 rfl) ?_
          refine va_get (D := D) (ci := 1) (v := .ref (a 1)) (C := R_C) (T := F_C) (N := 9) hx hb hts u_in_C hown hK hP 0 rfl rfl 1 (by decide) (hts _ k_22) (fun _ h9 => h9) rfl d_C_fork_18 ?_
          refine lv_iload_n hx hb d_C_fork_21 rfl (lv_at hl 1 rfl) ?_
          refine wn_iald (k := i) (v := (nI (pf i))) hx hb hK hP 1 0 rfl rfl (by omega) (by decide) (ar_p_at (by omega)) d_C_fork_22 ?_
          refine lv_istore_n (lv' := [(3, .int (nI (pf i))), (4, .int (nI j)), (0, .ref (a 0))]) hx hb d_C_fork_23 rfl hl (by decide) rfl (fun ls hl => ?_)
          refine lv_goto (tgt := 5) hx hb d_C_fork_24 (by decide) ?_
          have hl : lv_has ls 5 [(4, .int (nI j)), (3, .int (nI (pf i))), (0, .ref (a 0))] := lv_sub hl [1, 0, 2] rfl
          exact ih ((pf i) + j) (by omega) (pf i) j ls rfl (by omega) (by omega) hw hl
  refine lv_iload_n hx hb d_C_fork_0 rfl (lv_at hl 1 rfl) ?_
  refine lv_istore_n (lv' := [(3, .int (nI x)), (0, .ref (a 0)), (1, .int (nI x)), (2, .int (nI y))]) hx hb d_C_fork_1 rfl hl (by decide) rfl (fun ls hl => ?_)
  refine lv_iload_n hx hb d_C_fork_2 rfl (lv_at hl 3 rfl) ?_
  refine lv_istore (lv' := [(4, .int (nI y)), (3, .int (nI x)), (0, .ref (a 0)), (1, .int (nI x)), (2, .int (nI y))]) hx hb d_C_fork_3 hl (by decide) rfl (fun ls hl => ?_)
  have hl : lv_has ls 5 [(4, .int (nI y)), (3, .int (nI x)), (0, .ref (a 0))] := lv_sub hl [0, 1, 2] rfl
  exact loop (x + y) x y ls rfl hxn hyn rfl hl
set_option maxHeartbeats 4000000 in
set_option maxRecDepth 100000 in
theorem c_C_due (l : Launch) (D : va_G) (cI cJ cZ : ClassId) (a : Nat → Nat) (n : Nat) (pf ef gf : Nat → Nat) (tf af : Nat → Int32) (wf : Nat → Int64) (xf : Nat → Bool) (ts : Nat → Int32) (k : Nat) (hT : Tr n pf ef) (hn : n ≤ 512) (hk : k < n) (hg : gf k ≤ 65535) : Met l y_C_due (Cond.code y_C_due b_C_due 6 (some .int) :: wt_ws) ({ frames := 1, cells := 0, slots := 0, locals := 23 } : Room) (ro_Pc [.ref (a 0), .int (nI k)] D (ch_ws a cI cJ cZ n pf ef gf tf af wf xf ts) (wt_ty cI cJ cZ)) (ro_Qi (fun r => r = nI (wt_due pf ef gf tf k))) 0 0 (fun _ => False) := by
  refine Met.ofW (cc := b_C_due) (maxL := 6) (ret := (some .int)) (by decide) rfl ?_
  intro pp ev s m args below meth c s₁ B hml hv
  obtain ⟨rfl, hP, hK⟩ := hv
  have hx := B.exec
  have hb := B.bytes
  have hr := B.returns
  have hts : ∀ w ∈ wt_ws, w.before ([.ref (a 0), .int (nI k)] : List Value).toArray s = true := fun w hw => atoms_spec (ws := Cond.code y_C_due b_C_due 6 (some .int) :: wt_ws) B.pre w (List.mem_cons_of_mem _ hw)
  have hown : s.vm.findClass R_C = some m.cls := findClass_of_methodNamed B.named
  have hlocks := B.notSynchronized
  have hS : va_S (fun _ => False) s.heap s.heap [] := va_S.rf
  have hl := lv_entry ([.ref (a 0), .int (nI k)]) (n := 6) (Nat.le_of_ble_eq_true rfl)
  rw [lg_entry_eq]
  generalize (lg_sl ([.ref (a 0), .int (nI k)]) ++ List.replicate (6 - (lg_sl ([.ref (a 0), .int (nI k)])).length) Slot.unset).toArray = ls at hl ⊢
  have hl : lv_has ls 6 [(0, .ref (a 0)), (1, .int (nI k))] := hl
  have hek := hT.le k hk
  have hak := wt_anc_le hT (ef k + 1 - 8) 512 k hk
  refine lv_aload_n hx hb d_C_due_0 rfl (lv_at hl 0 rfl) ?_
  refine va_get (D := D) (ci := 1) (v := .ref (a 2)) (C := R_C) (T := F_C) (N := 9) hx hb hts u_in_C hown hK hP 0 rfl rfl 2 (by decide) (hts _ k_24) (fun _ h9 => h9) rfl d_C_due_1 ?_
  refine lv_iload_n hx hb d_C_due_4 rfl (lv_at hl 1 rfl) ?_
  refine wn_iald (k := k) (v := (nI (ef k))) hx hb hK hP 2 0 rfl rfl (by omega) (by decide) rfl d_C_due_5 ?_
  refine lv_iconst (v := (nI 1)) hx hb d_C_due_6 (by decide +kernel) ?_
  refine wn_iadd hx hb d_C_due_7 ?_
  refine lv_istore_n (lv' := [(2, .int (nI ((ef k) + 1))), (0, .ref (a 0)), (1, .int (nI k))]) hx hb d_C_due_8 rfl hl (by decide) rfl (fun ls hl => ?_)
  refine lv_iload_n hx hb d_C_due_9 rfl (lv_at hl 0 rfl) ?_
  refine lv_bipush (v := (nI 8)) hx hb d_C_due_10 (by decide +kernel) ?_
  refine wn_irem hx hb (by omega) (by omega) (by omega) d_C_due_12 ?_
  refine wn_if_eq (tgt := 23) hx hb (by omega) d_C_due_13 (by decide) (fun hc13 => ?_) (fun hc13 => ?_)
  · refine lv_aload_n hx hb d_C_due_23 rfl (lv_at hl 1 rfl) ?_
    refine va_get (D := D) (ci := 1) (v := .ref (a 3)) (C := R_C) (T := F_C) (N := 9) hx hb hts u_in_C hown hK hP 0 rfl rfl 3 (by decide) (hts _ k_26) (fun _ h9 => h9) rfl d_C_due_24 ?_
    refine lv_iload_n hx hb d_C_due_27 rfl (lv_at hl 2 rfl) ?_
    refine wn_iald (k := k) (v := (tf k)) hx hb hK hP 3 0 rfl rfl (by omega) (by decide) rfl d_C_due_28 ?_
    refine lv_aload_n hx hb d_C_due_29 rfl (lv_at hl 1 rfl) ?_
    refine va_get (D := D) (ci := 1) (v := .ref (a 3)) (C := R_C) (T := F_C) (N := 9) hx hb hts u_in_C hown hK hP 0 rfl rfl 3 (by decide) (hts _ k_26) (fun _ h9 => h9) rfl d_C_due_30 ?_
    refine lv_aload_n hx hb d_C_due_33 rfl (lv_at hl 1 rfl) ?_
    refine lv_iload_n hx hb d_C_due_34 rfl (lv_at hl 2 rfl) ?_
    refine lv_iload_n hx hb d_C_due_35 rfl (lv_at hl 0 rfl) ?_
    refine lv_bipush (v := (nI 8)) hx hb d_C_due_36 (by decide +kernel) ?_
    refine wn_isub hx hb (by omega) d_C_due_38 ?_
    refine ro_calli (ws := ch_ws a cI cJ cZ n pf ef gf tf af wf xf ts) (va_runV (As := [.int (nI k), .int (nI (((ef k) + 1) - 8))]) (rest := [.ref (a 3), .int (tf k)]) ⟨hx, hb, hml, hown, hts⟩ (c_C_ancestor l D cI cJ cZ a n pf ef gf tf af wf xf ts k (ef k + 1 - 8) hT hn hk (by omega)) (wt_cwV 2 hts k_84 k_81 k_82 k_83 k_2 rfl rfl (by decide +kernel) ⟨Nat.le_of_ble_eq_true rfl, Nat.le_of_ble_eq_true rfl⟩) (ro_preV (q := (R_C, F_C, 9)) (ci := 1) hK hP 0 rfl rfl) rfl rfl hl.1 rfl (lv_room (Nat.le_of_ble_eq_true rfl)) d_C_due_39 ⟨Nat.zero_le _, Nat.zero_le _⟩) hS hP (fun r H locs hr39 hP hS => ?_)
    subst hr39
    refine wn_iald (k := wt_anc pf ef (ef k + 1 - 8) 512 k) (v := (tf (wt_anc pf ef (ef k + 1 - 8) 512 k))) hx hb hK hP 3 0 rfl rfl (by omega) (by decide) rfl d_C_due_42 ?_
    refine lv_isub hx hb d_C_due_43 ?_
    refine lv_topi (fun sp hsp => ?_)
    have hcs := wt_clS_in sp
    refine lv_istore_n (lv' := [(3, .int sp), (2, .int (nI ((ef k) + 1))), (0, .ref (a 0)), (1, .int (nI k))]) hx hb d_C_due_44 rfl hl (by decide) rfl (fun ls hl => ?_)
    refine lv_aload_n hx hb d_C_due_45 rfl (lv_at hl 2 rfl) ?_
    refine va_get (D := D) (ci := 1) (v := .ref (a 4)) (C := R_C) (T := F_C) (N := 9) hx hb hts u_in_C hown hK hP 0 rfl rfl 4 (by decide) (hts _ k_28) (fun _ h9 => h9) rfl d_C_due_46 ?_
    refine lv_iload_n hx hb d_C_due_49 rfl (lv_at hl 3 rfl) ?_
    refine wn_iald (k := k) (v := (nI (gf k))) hx hb hK hP 4 0 rfl rfl (by omega) (by decide) rfl d_C_due_50 ?_
    refine lv_i2l (v := (nI (gf k)).toInt64) hx hb d_C_due_51 rfl ?_
    refine lv_sipush (v := (nI 320)) hx hb d_C_due_52 (by decide +kernel) ?_
    refine lv_bipush (v := (nI 20)) hx hb d_C_due_55 (by decide +kernel) ?_
    refine lv_iload_n hx hb d_C_due_57 rfl (lv_at hl 0 rfl) ?_
    refine va_mmax hx hb (hml.trans hl.1.symm) hown (hts _ k_85) (hts _ k_86) (hts _ k_4) (hts _ k_87) (Nat.le_of_ble_eq_true rfl) (Nat.le_of_ble_eq_true rfl) (Nat.zero_le _) (Nat.zero_le _) d_C_due_58 ?_
    refine va_mmin hx hb (hml.trans hl.1.symm) hown (hts _ k_88) (hts _ k_89) (hts _ k_4) (hts _ k_90) (Nat.le_of_ble_eq_true rfl) (Nat.le_of_ble_eq_true rfl) (Nat.zero_le _) (Nat.zero_le _) d_C_due_61 ?_
    refine wt_top (v := nI (wt_clS sp)) (wt_mm sp) ?_
    refine lv_i2l (v := (nI (wt_clS sp)).toInt64) hx hb d_C_due_64 rfl ?_
    refine lv_lmul hx hb d_C_due_65 ?_
    refine lv_ldc2 (v := (80)) hx hb hown (hts _ k_91) d_C_due_66 ?_
    refine lv_ldiv hx hb d_C_due_69 (by decide +kernel) ?_
    have hmul : gf k * wt_clS sp ≤ 65535 * 320 := Nat.mul_le_mul hg hcs.2
    refine wt_topL (v := lN (gf k * wt_clS sp / 80)) (wt_mq hg hcs.2) ?_
    refine lv_lstore (lv' := [(4, .long (lN (gf k * wt_clS sp / 80))), (3, .int sp), (2, .int (nI ((ef k) + 1))), (0, .ref (a 0)), (1, .int (nI k))]) hx hb d_C_due_70 hl (by decide) rfl (fun ls hl => ?_)
    refine lv_ldc2 (v := (65535)) hx hb hown (hts _ k_92) d_C_due_72 ?_
    refine lv_ldc2 (v := (2048)) hx hb hown (hts _ k_93) d_C_due_75 ?_
    refine lv_lload hx hb d_C_due_78 (lv_at hl 0 rfl) ?_
    refine va_mmax_long hx hb (hml.trans hl.1.symm) hown (hts _ k_94) (hts _ k_95) (hts _ k_4) (hts _ k_96) (Nat.le_of_ble_eq_true rfl) (Nat.le_of_ble_eq_true rfl) (Nat.zero_le _) (Nat.zero_le _) d_C_due_80 ?_
    refine va_mmin_long hx hb (hml.trans hl.1.symm) hown (hts _ k_97) (hts _ k_98) (hts _ k_4) (hts _ k_99) (Nat.le_of_ble_eq_true rfl) (Nat.le_of_ble_eq_true rfl) (Nat.zero_le _) (Nat.zero_le _) d_C_due_83 ?_
    refine lv_l2i (v := (if (if (lN (gf k * wt_clS sp / 80)) < ((2048)) then ((2048)) else (lN (gf k * wt_clS sp / 80))) < ((65535)) then (if (lN (gf k * wt_clS sp / 80)) < ((2048)) then ((2048)) else (lN (gf k * wt_clS sp / 80))) else ((65535))).toInt32) hx hb d_C_due_86 rfl ?_
    refine wt_top (v := nI (wt_clT (gf k * wt_clS sp / 80))) (wt_mmL (by omega)) ?_
    exact ro_iret hx hb hr hlocks hS (by unfold wt_due; rw [if_pos hc13, ← hsp]) d_C_due_87
  · refine lv_aload_n hx hb d_C_due_16 rfl (lv_at hl 1 rfl) ?_
    refine va_get (D := D) (ci := 1) (v := .ref (a 4)) (C := R_C) (T := F_C) (N := 9) hx hb hts u_in_C hown hK hP 0 rfl rfl 4 (by decide) (hts _ k_28) (fun _ h9 => h9) rfl d_C_due_17 ?_
    refine lv_iload_n hx hb d_C_due_20 rfl (lv_at hl 2 rfl) ?_
    refine wn_iald (k := k) (v := (nI (gf k))) hx hb hK hP 4 0 rfl rfl (by omega) (by decide) rfl d_C_due_21 ?_
    exact ro_iret hx hb hr hlocks hS (by unfold wt_due; rw [if_neg hc13]) d_C_due_22
end
section
set_option maxHeartbeats 4000000 in
set_option maxRecDepth 100000 in
theorem c_C_median (l : Launch) (D : va_G) (cI cJ cZ : ClassId) (a : Nat → Nat) (n : Nat) (pf ef gf : Nat → Nat) (tf af : Nat → Int32) (wf : Nat → Int64) (xf : Nat → Bool) (ts : Nat → Int32) (sz k : Nat) (hT : Tr n pf ef) (hn : n ≤ 512) (hk : k < n) : Met l y_C_median (Cond.code y_C_median b_C_median 5 (some .int) :: wt_ws) ({ frames := 0, cells := 0, slots := 0, locals := 0 } : Room) (mu_Pc [.ref (a 0), .int (nI k)] D (ch_ws a cI cJ cZ n pf ef gf tf af wf xf ts) (wt_ty cI cJ cZ) sz) (mu_Qi (S := Unit) (fun r _ => r = wt_medR pf tf k ts) D (fun _ => ch_ws a cI cJ cZ n pf ef gf tf af wf xf (wt_medT pf tf k ts)) (ch_ws a cI cJ cZ n pf ef gf tf af wf xf ts) sz) 0 0 (va_A (ch_ws a cI cJ cZ n pf ef gf tf af wf xf ts) sz) := by
  refine Met.ofW (cc := b_C_median) (maxL := 5) (ret := (some .int)) (by decide) rfl ?_
  intro pp ev s m args below meth c s₁ B hml hv
  obtain ⟨rfl, hsz, hP, hK, hD0⟩ := hv
  have hx := B.exec
  have hb := B.bytes
  have hr := B.returns
  have hts : ∀ w ∈ wt_ws, w.before ([.ref (a 0), .int (nI k)] : List Value).toArray s = true := fun w hw => atoms_spec (ws := Cond.code y_C_median b_C_median 5 (some .int) :: wt_ws) B.pre w (List.mem_cons_of_mem _ hw)
  have hown : s.vm.findClass R_C = some m.cls := findClass_of_methodNamed B.named
  have hlocks := B.notSynchronized
  subst hsz
  have hD := hD0.self (sz := s.heap.size)
  have hA : ∀ q, s.heap.size ≤ q → va_A (ch_ws a cI cJ cZ n pf ef gf tf af wf xf ts) s.heap.size q := fun q h => Or.inr h
  have hS : va_S (va_A (ch_ws a cI cJ cZ n pf ef gf tf af wf xf ts) s.heap.size) s.heap s.heap [] := va_S.rf
  have hl := lv_entry ([.ref (a 0), .int (nI k)]) (n := 5) (Nat.le_of_ble_eq_true rfl)
  rw [lg_entry_eq]
  generalize (lg_sl ([.ref (a 0), .int (nI k)]) ++ List.replicate (5 - (lg_sl ([.ref (a 0), .int (nI k)])).length) Slot.unset).toArray = ls at hl ⊢
  have hl : lv_has ls 5 [(0, .ref (a 0)), (1, .int (nI k))] := hl
  have hexit : ∀ (q : Nat) (tz : Nat → Int32) (ls : Array Slot) (H : Heap) (locs : List Loc), 1 ≤ q → q ≤ 7 → (tz, q) = wt_md pf tf 7 k 0 ts → lv_has ls 5 [(2, .int (nI q)), (0, .ref (a 0))] → va_P D classes (ch_ws a cI cJ cZ n pf ef gf tf af wf xf tz) H → va_D (va_A (ch_ws a cI cJ cZ n pf ef gf tf af wf xf ts) s.heap.size) (ch_ws a cI cJ cZ n pf ef gf tf af wf xf tz) → va_S (va_A (ch_ws a cI cJ cZ n pf ef gf tf af wf xf ts) s.heap.size) s.heap H locs → W pp l ev (headSpec (Cond.code y_C_median b_C_median 5 (some .int) :: wt_ws) ({ frames := 0, cells := 0, slots := 0, locals := 0 } : Room)).room s m ([.ref (a 0), .int (nI k)] : List Value).toArray below meth c H locs 0 0 (MQ below (mu_Qi (S := Unit) (fun r _ => r = wt_medR pf tf k ts) D (fun _ => ch_ws a cI cJ cZ n pf ef gf tf af wf xf (wt_medT pf tf k ts)) (ch_ws a cI cJ cZ n pf ef gf tf af wf xf ts) s.heap.size) ([.ref (a 0), .int (nI k)] : List Value).toArray s 0 0 (va_A (ch_ws a cI cJ cZ n pf ef gf tf af wf xf ts) s.heap.size)) (F0 m 88 ls []) := by
    intro q tz ls H locs hq1 hq7 hw hl hP hD hS
    refine lv_aload_n hx hb d_C_median_88 rfl (lv_at hl 1 rfl) ?_
    refine va_get (D := D) (ci := 1) (v := .ref (a 8)) (C := R_C) (T := F_C) (N := 9) hx hb hts u_in_C hown hK hP 0 rfl rfl 8 (by decide) (hts _ k_35) (fun _ h9 => h9) rfl d_C_median_89 ?_
    refine lv_iload_n hx hb d_C_median_92 rfl (lv_at hl 0 rfl) ?_
    refine lv_iconst (v := (nI 2)) hx hb d_C_median_93 (by decide +kernel) ?_
    refine wn_idiv hx hb (by omega) (by omega) (by omega) d_C_median_94 ?_
    refine wn_iald (k := q / 2) (v := (tz (q / 2))) hx hb hK hP 8 0 rfl rfl (by omega) (by decide) rfl d_C_median_95 ?_
    have g1 : tz = wt_medT pf tf k ts := congrArg Prod.fst hw
    have g2 : tz (q / 2) = wt_medR pf tf k ts := by unfold wt_medR; rw [← hw]
    rw [g1] at hP hD
    exact mu_iret () hx hb hr hlocks hS hP hD g2 d_C_median_96
  have loop : ∀ (f q j : Nat) (tz : Nat → Int32) (ls : Array Slot) (H : Heap) (locs : List Loc), q + f = 7 → j < n → wt_md pf tf f j q tz = wt_md pf tf 7 k 0 ts → lv_has ls 5 [(3, .int (nI j)), (2, .int (nI q)), (0, .ref (a 0))] → va_P D classes (ch_ws a cI cJ cZ n pf ef gf tf af wf xf tz) H → va_D (va_A (ch_ws a cI cJ cZ n pf ef gf tf af wf xf ts) s.heap.size) (ch_ws a cI cJ cZ n pf ef gf tf af wf xf tz) → va_S (va_A (ch_ws a cI cJ cZ n pf ef gf tf af wf xf ts) s.heap.size) s.heap H locs → W pp l ev (headSpec (Cond.code y_C_median b_C_median 5 (some .int) :: wt_ws) ({ frames := 0, cells := 0, slots := 0, locals := 0 } : Room)).room s m ([.ref (a 0), .int (nI k)] : List Value).toArray below meth c H locs 0 0 (MQ below (mu_Qi (S := Unit) (fun r _ => r = wt_medR pf tf k ts) D (fun _ => ch_ws a cI cJ cZ n pf ef gf tf af wf xf (wt_medT pf tf k ts)) (ch_ws a cI cJ cZ n pf ef gf tf af wf xf ts) s.heap.size) ([.ref (a 0), .int (nI k)] : List Value).toArray s 0 0 (va_A (ch_ws a cI cJ cZ n pf ef gf tf af wf xf ts) s.heap.size)) (F0 m 4 ls []) := by
    intro f
    induction f with
    | zero =>
      intro q j tz ls H locs hq hj hw hl hP hD hS
      obtain rfl : q = 7 := by omega
      refine lv_iload_n hx hb d_C_median_4 rfl (lv_at hl 0 rfl) ?_
      refine wn_if_lt (tgt := 88) hx hb (by omega) d_C_median_5 (by decide) (fun hc5 => ?_) (fun hc5 => ?_)
      · exact hc5.elim
      · refine lv_iload_n hx hb d_C_median_8 rfl (lv_at hl 1 rfl) ?_
        refine lv_bipush (v := (nI 7)) hx hb d_C_median_9 (by decide +kernel) ?_
        refine wn_icmp_ge (tgt := 88) hx hb (by omega) (by omega) d_C_median_11 (by decide) (fun hc11 => ?_) (fun hc11 => ?_)
        · have hl : lv_has ls 5 [(2, .int (nI 7)), (0, .ref (a 0))] := lv_sub hl [1, 2] rfl
          exact hexit 7 tz ls H locs (by decide) (by decide) hw hl hP hD hS
        · omega
    | succ f ih =>
      intro q j tz ls H locs hq hj hw hl hP hD hS
      refine lv_iload_n hx hb d_C_median_4 rfl (lv_at hl 0 rfl) ?_
      refine wn_if_lt (tgt := 88) hx hb (by omega) d_C_median_5 (by decide) (fun hc5 => ?_) (fun hc5 => ?_)
      · exact hc5.elim
      · refine lv_iload_n hx hb d_C_median_8 rfl (lv_at hl 1 rfl) ?_
        refine lv_bipush (v := (nI 7)) hx hb d_C_median_9 (by decide +kernel) ?_
        refine wn_icmp_ge (tgt := 88) hx hb (by omega) (by omega) d_C_median_11 (by decide) (fun hc11 => ?_) (fun hc11 => ?_)
        · omega
        · refine lv_iload_n hx hb d_C_median_14 rfl (lv_at hl 1 rfl) ?_
          refine lv_istore (lv' := [(4, .int (nI q)), (3, .int (nI j)), (2, .int (nI q)), (0, .ref (a 0))]) hx hb d_C_median_15 hl (by decide) rfl (fun ls hl => ?_)
          have hst : ∀ (i : Nat) (ty : Nat → Int32) (ls : Array Slot) (H : Heap) (locs : List Loc), i ≤ q → va_up ty i (tf j) = wt_ins (tf j) q tz → lv_has ls 5 [(4, .int (nI i)), (3, .int (nI j)), (2, .int (nI q)), (0, .ref (a 0))] → va_P D classes (ch_ws a cI cJ cZ n pf ef gf tf af wf xf ty) H → va_D (va_A (ch_ws a cI cJ cZ n pf ef gf tf af wf xf ts) s.heap.size) (ch_ws a cI cJ cZ n pf ef gf tf af wf xf ty) → va_S (va_A (ch_ws a cI cJ cZ n pf ef gf tf af wf xf ts) s.heap.size) s.heap H locs → W pp l ev (headSpec (Cond.code y_C_median b_C_median 5 (some .int) :: wt_ws) ({ frames := 0, cells := 0, slots := 0, locals := 0 } : Room)).room s m ([.ref (a 0), .int (nI k)] : List Value).toArray below meth c H locs 0 0 (MQ below (mu_Qi (S := Unit) (fun r _ => r = wt_medR pf tf k ts) D (fun _ => ch_ws a cI cJ cZ n pf ef gf tf af wf xf (wt_medT pf tf k ts)) (ch_ws a cI cJ cZ n pf ef gf tf af wf xf ts) s.heap.size) ([.ref (a 0), .int (nI k)] : List Value).toArray s 0 0 (va_A (ch_ws a cI cJ cZ n pf ef gf tf af wf xf ts) s.heap.size)) (F0 m 62 ls []) := by
            intro i ty ls H locs hi hu hl hP hD hS
            refine lv_aload_n hx hb d_C_median_62 rfl (lv_at hl 3 rfl) ?_
            refine va_get (D := D) (ci := 1) (v := .ref (a 8)) (C := R_C) (T := F_C) (N := 9) hx hb hts u_in_C hown hK hP 0 rfl rfl 8 (by decide) (hts _ k_35) (fun _ h9 => h9) rfl d_C_median_63 ?_
            refine lv_iload hx hb d_C_median_66 (lv_at hl 0 rfl) ?_
            refine lv_aload_n hx hb d_C_median_68 rfl (lv_at hl 3 rfl) ?_
            refine va_get (D := D) (ci := 1) (v := .ref (a 3)) (C := R_C) (T := F_C) (N := 9) hx hb hts u_in_C hown hK hP 0 rfl rfl 3 (by decide) (hts _ k_26) (fun _ h9 => h9) rfl d_C_median_69 ?_
            refine lv_iload_n hx hb d_C_median_72 rfl (lv_at hl 1 rfl) ?_
            refine wn_iald (k := j) (v := (tf j)) hx hb hK hP 3 0 rfl rfl (by omega) (by decide) rfl d_C_median_73 ?_
            refine wn_iast (ws' := ch_ws a cI cJ cZ n pf ef gf tf af wf xf (va_up ty i (tf j))) (k := i) hx hb hK hP hD hS 8 0 rfl rfl (by omega) (by decide) rfl rfl d_C_median_74 (fun H locs hP hD hS => ?_)
            refine lv_iinc (k := 2) (v := (nI (q + 1))) (lv' := [(2, .int (nI (q + 1))), (4, .int (nI i)), (3, .int (nI j)), (0, .ref (a 0))]) hx hb d_C_median_75 hl rfl (wt_inc1 _) (by decide) rfl (fun ls hl => ?_)
            refine lv_aload_n hx hb d_C_median_78 rfl (lv_at hl 3 rfl) ?_
            refine va_get (D := D) (ci := 1) (v := .ref (a 1)) (C := R_C) (T := F_C) (N := 9) hx hb hts u_in_C hown hK hP 0 rfl rfl 1 (by decide) (hts _ k_22) (fun _ h9 => h9) rfl d_C_median_79 ?_
            refine lv_iload_n hx hb d_C_median_82 rfl (lv_at hl 2 rfl) ?_
            rw [hu] at hP hD
            by_cases hj0 : j = 0
            · subst hj0
              rw [wt_md_s, if_pos rfl] at hw
              refine wn_iald (k := 0) (v := ((-1))) hx hb hK hP 1 0 rfl rfl (by omega) (by decide) ar_p_0 d_C_median_83 ?_
              refine lv_istore_n (lv' := [(3, .int ((-1))), (2, .int (nI (q + 1))), (4, .int (nI i)), (0, .ref (a 0))]) hx hb d_C_median_84 rfl hl (by decide) rfl (fun ls hl => ?_)
              refine lv_goto (tgt := 4) hx hb d_C_median_85 (by decide) ?_
              refine lv_iload_n hx hb d_C_median_4 rfl (lv_at hl 0 rfl) ?_
              refine lv_if_lt (tgt := 88) hx hb d_C_median_5 (by decide) (fun _ => ?_) (fun z => absurd (by decide +kernel) z)
              have hl : lv_has ls 5 [(2, .int (nI (q + 1))), (0, .ref (a 0))] := lv_sub hl [1, 3] rfl
              exact hexit (q + 1) _ ls H locs (by omega) (by omega) hw hl hP hD hS
            · rw [wt_md_s, if_neg hj0] at hw
              obtain ⟨hp1, -⟩ := hT.2 j (by omega) hj
              refine wn_iald (k := j) (v := (nI (pf j))) hx hb hK hP 1 0 rfl rfl (by omega) (by decide) (ar_p_at (by omega)) d_C_median_83 ?_
              refine lv_istore_n (lv' := [(3, .int (nI (pf j))), (2, .int (nI (q + 1))), (4, .int (nI i)), (0, .ref (a 0))]) hx hb d_C_median_84 rfl hl (by decide) rfl (fun ls hl => ?_)
              refine lv_goto (tgt := 4) hx hb d_C_median_85 (by decide) ?_
              have hl : lv_has ls 5 [(3, .int (nI (pf j))), (2, .int (nI (q + 1))), (0, .ref (a 0))] := lv_sub hl [0, 1, 3] rfl
              exact ih (q + 1) (pf j) _ ls H locs (by omega) (by omega) hw hl hP hD hS
          have inner : ∀ (i : Nat) (ty : Nat → Int32) (ls : Array Slot) (H : Heap) (locs : List Loc), i ≤ q → wt_ins (tf j) i ty = wt_ins (tf j) q tz → lv_has ls 5 [(4, .int (nI i)), (3, .int (nI j)), (2, .int (nI q)), (0, .ref (a 0))] → va_P D classes (ch_ws a cI cJ cZ n pf ef gf tf af wf xf ty) H → va_D (va_A (ch_ws a cI cJ cZ n pf ef gf tf af wf xf ts) s.heap.size) (ch_ws a cI cJ cZ n pf ef gf tf af wf xf ty) → va_S (va_A (ch_ws a cI cJ cZ n pf ef gf tf af wf xf ts) s.heap.size) s.heap H locs → W pp l ev (headSpec (Cond.code y_C_median b_C_median 5 (some .int) :: wt_ws) ({ frames := 0, cells := 0, slots := 0, locals := 0 } : Room)).room s m ([.ref (a 0), .int (nI k)] : List Value).toArray below meth c H locs 0 0 (MQ below (mu_Qi (S := Unit) (fun r _ => r = wt_medR pf tf k ts) D (fun _ => ch_ws a cI cJ cZ n pf ef gf tf af wf xf (wt_medT pf tf k ts)) (ch_ws a cI cJ cZ n pf ef gf tf af wf xf ts) s.heap.size) ([.ref (a 0), .int (nI k)] : List Value).toArray s 0 0 (va_A (ch_ws a cI cJ cZ n pf ef gf tf af wf xf ts) s.heap.size)) (F0 m 17 ls []) := by
            intro i
            induction i with
            | zero =>
              intro ty ls H locs hi hu hl hP hD hS
              refine lv_iload hx hb d_C_median_17 (lv_at hl 0 rfl) ?_
              refine wn_if_le (tgt := 62) hx hb (by omega) d_C_median_19 (by decide) (fun hc19 => ?_) (fun hc19 => ?_)
              · exact hst 0 ty ls H locs hi hu hl hP hD hS
              · omega
            | succ i ih2 =>
              intro ty ls H locs hi hu hl hP hD hS
              rw [wt_ins_s] at hu
              refine lv_iload hx hb d_C_median_17 (lv_at hl 0 rfl) ?_
              refine wn_if_le (tgt := 62) hx hb (by omega) d_C_median_19 (by decide) (fun hc19 => ?_) (fun hc19 => ?_)
              · omega
              · refine lv_aload_n hx hb d_C_median_22 rfl (lv_at hl 3 rfl) ?_
                refine va_get (D := D) (ci := 1) (v := .ref (a 8)) (C := R_C) (T := F_C) (N := 9) hx hb hts u_in_C hown hK hP 0 rfl rfl 8 (by decide) (hts _ k_35) (fun _ h9 => h9) rfl d_C_median_23 ?_
                refine lv_iload hx hb d_C_median_26 (lv_at hl 0 rfl) ?_
                refine lv_iconst (v := (nI 1)) hx hb d_C_median_28 (by decide +kernel) ?_
                refine wn_isub hx hb (by omega) d_C_median_29 ?_
                refine wt_top (v := nI i) (by rw [Nat.add_sub_cancel]) ?_
                refine wn_iald (k := i) (v := (ty i)) hx hb hK hP 8 0 rfl rfl (by omega) (by decide) rfl d_C_median_30 ?_
                refine lv_aload_n hx hb d_C_median_31 rfl (lv_at hl 3 rfl) ?_
                refine va_get (D := D) (ci := 1) (v := .ref (a 3)) (C := R_C) (T := F_C) (N := 9) hx hb hts u_in_C hown hK hP 0 rfl rfl 3 (by decide) (hts _ k_26) (fun _ h9 => h9) rfl d_C_median_32 ?_
                refine lv_iload_n hx hb d_C_median_35 rfl (lv_at hl 1 rfl) ?_
                refine wn_iald (k := j) (v := (tf j)) hx hb hK hP 3 0 rfl rfl (by omega) (by decide) rfl d_C_median_36 ?_
                refine lv_icmp_le (tgt := 62) hx hb d_C_median_37 (by decide) (fun hc37 => ?_) (fun hc37 => ?_)
                · rw [if_pos hc37] at hu
                  exact hst (i + 1) ty ls H locs hi hu hl hP hD hS
                · rw [if_neg hc37] at hu
                  refine lv_aload_n hx hb d_C_median_40 rfl (lv_at hl 3 rfl) ?_
                  refine va_get (D := D) (ci := 1) (v := .ref (a 8)) (C := R_C) (T := F_C) (N := 9) hx hb hts u_in_C hown hK hP 0 rfl rfl 8 (by decide) (hts _ k_35) (fun _ h9 => h9) rfl d_C_median_41 ?_
                  refine lv_iload hx hb d_C_median_44 (lv_at hl 0 rfl) ?_
                  refine lv_aload_n hx hb d_C_median_46 rfl (lv_at hl 3 rfl) ?_
                  refine va_get (D := D) (ci := 1) (v := .ref (a 8)) (C := R_C) (T := F_C) (N := 9) hx hb hts u_in_C hown hK hP 0 rfl rfl 8 (by decide) (hts _ k_35) (fun _ h9 => h9) rfl d_C_median_47 ?_
                  refine lv_iload hx hb d_C_median_50 (lv_at hl 0 rfl) ?_
                  refine lv_iconst (v := (nI 1)) hx hb d_C_median_52 (by decide +kernel) ?_
                  refine wn_isub hx hb (by omega) d_C_median_53 ?_
                  refine wt_top (v := nI i) (by rw [Nat.add_sub_cancel]) ?_
                  refine wn_iald (k := i) (v := (ty i)) hx hb hK hP 8 0 rfl rfl (by omega) (by decide) rfl d_C_median_54 ?_
                  refine wn_iast (ws' := ch_ws a cI cJ cZ n pf ef gf tf af wf xf (va_up ty (i + 1) (ty i))) (k := i + 1) hx hb hK hP hD hS 8 0 rfl rfl (by omega) (by decide) rfl rfl d_C_median_55 (fun H locs hP hD hS => ?_)
                  refine lv_iinc (k := 0) (v := (nI i)) (lv' := [(4, .int (nI i)), (3, .int (nI j)), (2, .int (nI q)), (0, .ref (a 0))]) hx hb d_C_median_56 hl rfl (wt_dec1 _) (by decide) rfl (fun ls hl => ?_)
                  refine lv_goto (tgt := 17) hx hb d_C_median_59 (by decide) ?_
                  have hl : lv_has ls 5 [(4, .int (nI i)), (3, .int (nI j)), (2, .int (nI q)), (0, .ref (a 0))] := lv_sub hl [0, 1, 2, 3] rfl
                  exact ih2 _ ls H locs (by omega) hu hl hP hD hS
          have hl : lv_has ls 5 [(4, .int (nI q)), (3, .int (nI j)), (2, .int (nI q)), (0, .ref (a 0))] := lv_sub hl [0, 1, 2, 3] rfl
          exact inner q tz ls H locs (Nat.le_refl _) rfl hl hP hD hS
  refine lv_iconst (v := (nI 0)) hx hb d_C_median_0 (by decide +kernel) ?_
  refine lv_istore_n (lv' := [(2, .int (nI 0)), (0, .ref (a 0)), (1, .int (nI k))]) hx hb d_C_median_1 rfl hl (by decide) rfl (fun ls hl => ?_)
  refine lv_iload_n hx hb d_C_median_2 rfl (lv_at hl 2 rfl) ?_
  refine lv_istore_n (lv' := [(3, .int (nI k)), (2, .int (nI 0)), (0, .ref (a 0)), (1, .int (nI k))]) hx hb d_C_median_3 rfl hl (by decide) rfl (fun ls hl => ?_)
  have hl : lv_has ls 5 [(3, .int (nI k)), (2, .int (nI 0)), (0, .ref (a 0))] := lv_sub hl [0, 1, 2] rfl
  exact loop 7 0 k ts ls _ _ (by decide) hk rfl hl hP hD hS
set_option maxHeartbeats 4000000 in
set_option maxRecDepth 100000 in
theorem c_C_refuse (l : Launch) (D : va_G) (cI cJ cZ : ClassId) (a : Nat → Nat) (n : Nat) (pf ef gf : Nat → Nat) (tf af : Nat → Int32) (wf : Nat → Int64) (xf : Nat → Bool) (ts : Nat → Int32) (sz k : Nat) (hT : Tr n pf ef) (hn : n ≤ 512) (hk : k < n) : Met l y_C_refuse (Cond.code y_C_refuse b_C_refuse 3 none :: wt_ws) ({ frames := 0, cells := 0, slots := 0, locals := 0 } : Room) (mu_Pc [.ref (a 0), .int (nI k)] D (ch_ws a cI cJ cZ n pf ef gf tf af wf xf ts) (wt_ty cI cJ cZ) sz) (mu_Qv (S := Unit) (fun _ => True) D (fun _ => ch_ws a cI cJ cZ n pf ef gf tf af wf (wt_rf pf (n - (k + 1)) (k + 1) (va_up xf k true)) ts) (ch_ws a cI cJ cZ n pf ef gf tf af wf xf ts) sz) 0 0 (va_A (ch_ws a cI cJ cZ n pf ef gf tf af wf xf ts) sz) := by
  refine Met.ofW (cc := b_C_refuse) (maxL := 3) (ret := none) (by decide) rfl ?_
  intro pp ev s m args below meth c s₁ B hml hv
  obtain ⟨rfl, hsz, hP, hK, hD0⟩ := hv
  have hx := B.exec
  have hb := B.bytes
  have hr := B.returns
  have hts : ∀ w ∈ wt_ws, w.before ([.ref (a 0), .int (nI k)] : List Value).toArray s = true := fun w hw => atoms_spec (ws := Cond.code y_C_refuse b_C_refuse 3 none :: wt_ws) B.pre w (List.mem_cons_of_mem _ hw)
  have hown : s.vm.findClass R_C = some m.cls := findClass_of_methodNamed B.named
  have hlocks := B.notSynchronized
  subst hsz
  have hD := hD0.self (sz := s.heap.size)
  have hA : ∀ q, s.heap.size ≤ q → va_A (ch_ws a cI cJ cZ n pf ef gf tf af wf xf ts) s.heap.size q := fun q h => Or.inr h
  have hS : va_S (va_A (ch_ws a cI cJ cZ n pf ef gf tf af wf xf ts) s.heap.size) s.heap s.heap [] := va_S.rf
  have hl := lv_entry ([.ref (a 0), .int (nI k)]) (n := 3) (Nat.le_of_ble_eq_true rfl)
  rw [lg_entry_eq]
  generalize (lg_sl ([.ref (a 0), .int (nI k)]) ++ List.replicate (3 - (lg_sl ([.ref (a 0), .int (nI k)])).length) Slot.unset).toArray = ls at hl ⊢
  have hl : lv_has ls 3 [(0, .ref (a 0)), (1, .int (nI k))] := hl
  have loop : ∀ (q j : Nat) (yf : Nat → Bool) (ls : Array Slot) (H : Heap) (locs : List Loc), q + j = n → k < j → wt_rf pf q j yf = wt_rf pf (n - (k + 1)) (k + 1) (va_up xf k true) → lv_has ls 3 [(2, .int (nI j)), (0, .ref (a 0)), (1, .int (nI k))] → va_P D classes (ch_ws a cI cJ cZ n pf ef gf tf af wf yf ts) H → va_D (va_A (ch_ws a cI cJ cZ n pf ef gf tf af wf xf ts) s.heap.size) (ch_ws a cI cJ cZ n pf ef gf tf af wf yf ts) → va_S (va_A (ch_ws a cI cJ cZ n pf ef gf tf af wf xf ts) s.heap.size) s.heap H locs → W pp l ev (headSpec (Cond.code y_C_refuse b_C_refuse 3 none :: wt_ws) ({ frames := 0, cells := 0, slots := 0, locals := 0 } : Room)).room s m ([.ref (a 0), .int (nI k)] : List Value).toArray below meth c H locs 0 0 (MQ below (mu_Qv (S := Unit) (fun _ => True) D (fun _ => ch_ws a cI cJ cZ n pf ef gf tf af wf (wt_rf pf (n - (k + 1)) (k + 1) (va_up xf k true)) ts) (ch_ws a cI cJ cZ n pf ef gf tf af wf xf ts) s.heap.size) ([.ref (a 0), .int (nI k)] : List Value).toArray s 0 0 (va_A (ch_ws a cI cJ cZ n pf ef gf tf af wf xf ts) s.heap.size)) (F0 m 11 ls []) := by
    intro q
    induction q with
    | zero =>
      intro j yf ls H locs hq hkj hw hl hP hD hS
      refine lv_iload_n hx hb d_C_refuse_11 rfl (lv_at hl 0 rfl) ?_
      refine lv_aload_n hx hb d_C_refuse_12 rfl (lv_at hl 1 rfl) ?_
      refine va_get (D := D) (ci := 1) (v := .int (nI n)) (C := R_C) (T := F_C) (N := 9) hx hb hts u_in_C hown hK hP 0 rfl rfl 0 (by decide) (hts _ k_20) (fun _ h9 => h9) rfl d_C_refuse_13 ?_
      refine wn_icmp_ge (tgt := 46) hx hb (by omega) (by omega) d_C_refuse_16 (by decide) (fun hc16 => ?_) (fun hc16 => ?_)
      · have hz : yf = wt_rf pf (n - (k + 1)) (k + 1) (va_up xf k true) := hw
        rw [hz] at hP hD
        exact mu_vret () hx hb hr hlocks hS hP hD trivial d_C_refuse_46
      · omega
    | succ q ih =>
      intro j yf ls H locs hq hkj hw hl hP hD hS
      refine lv_iload_n hx hb d_C_refuse_11 rfl (lv_at hl 0 rfl) ?_
      refine lv_aload_n hx hb d_C_refuse_12 rfl (lv_at hl 1 rfl) ?_
      refine va_get (D := D) (ci := 1) (v := .int (nI n)) (C := R_C) (T := F_C) (N := 9) hx hb hts u_in_C hown hK hP 0 rfl rfl 0 (by decide) (hts _ k_20) (fun _ h9 => h9) rfl d_C_refuse_13 ?_
      refine wn_icmp_ge (tgt := 46) hx hb (by omega) (by omega) d_C_refuse_16 (by decide) (fun hc16 => ?_) (fun hc16 => ?_)
      · omega
      · obtain ⟨hp1, -⟩ := hT.2 j (by omega) (by omega)
        refine lv_aload_n hx hb d_C_refuse_19 rfl (lv_at hl 1 rfl) ?_
        refine va_get (D := D) (ci := 1) (v := .ref (a 7)) (C := R_C) (T := F_C) (N := 9) hx hb hts u_in_C hown hK hP 0 rfl rfl 7 (by decide) (hts _ k_33) (fun _ h9 => h9) rfl d_C_refuse_20 ?_
        refine lv_aload_n hx hb d_C_refuse_23 rfl (lv_at hl 1 rfl) ?_
        refine va_get (D := D) (ci := 1) (v := .ref (a 1)) (C := R_C) (T := F_C) (N := 9) hx hb hts u_in_C hown hK hP 0 rfl rfl 1 (by decide) (hts _ k_22) (fun _ h9 => h9) rfl d_C_refuse_24 ?_
        refine lv_iload_n hx hb d_C_refuse_27 rfl (lv_at hl 0 rfl) ?_
        refine wn_iald (k := j) (v := (nI (pf j))) hx hb hK hP 1 0 rfl rfl (by omega) (by decide) (ar_p_at (by omega)) d_C_refuse_28 ?_
        refine wn_zald (k := pf j) (v := (bz (yf (pf j)))) hx hb hK hP 7 2 rfl rfl (by omega) (by decide) rfl d_C_refuse_29 ?_
        refine wb_if_eq (tgt := 40) hx hb d_C_refuse_30 (by decide) (fun hc30 => ?_) (fun hc30 => ?_)
        · rw [wt_rf_n hc30] at hw
          refine lv_iinc (k := 0) (v := (nI (j + 1))) (lv' := [(2, .int (nI (j + 1))), (0, .ref (a 0)), (1, .int (nI k))]) hx hb d_C_refuse_40 hl rfl (wt_inc1 _) (by decide) rfl (fun ls hl => ?_)
          refine lv_goto (tgt := 11) hx hb d_C_refuse_43 (by decide) ?_
          have hl : lv_has ls 3 [(2, .int (nI (j + 1))), (0, .ref (a 0)), (1, .int (nI k))] := lv_sub hl [0, 1, 2] rfl
          exact ih (j + 1) _ ls H locs (by omega) (by omega) hw hl hP hD hS
        · rw [wt_rf_y hc30] at hw
          refine lv_aload_n hx hb d_C_refuse_33 rfl (lv_at hl 1 rfl) ?_
          refine va_get (D := D) (ci := 1) (v := .ref (a 7)) (C := R_C) (T := F_C) (N := 9) hx hb hts u_in_C hown hK hP 0 rfl rfl 7 (by decide) (hts _ k_33) (fun _ h9 => h9) rfl d_C_refuse_34 ?_
          refine lv_iload_n hx hb d_C_refuse_37 rfl (lv_at hl 0 rfl) ?_
          refine lv_iconst (v := (nI 1)) hx hb d_C_refuse_38 (by decide +kernel) ?_
          refine wt_top (v := bz true) (by decide +kernel) ?_
          refine wn_zast (ws' := ch_ws a cI cJ cZ n pf ef gf tf af wf (va_up yf j true) ts) (k := j) hx hb hK hP hD hS 7 2 rfl rfl (by omega) (by decide) ar_b_up rfl d_C_refuse_39 (fun H locs hP hD hS => ?_)
          refine lv_iinc (k := 0) (v := (nI (j + 1))) (lv' := [(2, .int (nI (j + 1))), (0, .ref (a 0)), (1, .int (nI k))]) hx hb d_C_refuse_40 hl rfl (wt_inc1 _) (by decide) rfl (fun ls hl => ?_)
          refine lv_goto (tgt := 11) hx hb d_C_refuse_43 (by decide) ?_
          have hl : lv_has ls 3 [(2, .int (nI (j + 1))), (0, .ref (a 0)), (1, .int (nI k))] := lv_sub hl [0, 1, 2] rfl
          exact ih (j + 1) _ ls H locs (by omega) (by omega) hw hl hP hD hS
  refine lv_aload_n hx hb d_C_refuse_0 rfl (lv_at hl 0 rfl) ?_
  refine va_get (D := D) (ci := 1) (v := .ref (a 7)) (C := R_C) (T := F_C) (N := 9) hx hb hts u_in_C hown hK hP 0 rfl rfl 7 (by decide) (hts _ k_33) (fun _ h9 => h9) rfl d_C_refuse_1 ?_
  refine lv_iload_n hx hb d_C_refuse_4 rfl (lv_at hl 1 rfl) ?_
  refine lv_iconst (v := (nI 1)) hx hb d_C_refuse_5 (by decide +kernel) ?_
  refine wt_top (v := bz true) (by decide +kernel) ?_
  refine wn_zast (ws' := ch_ws a cI cJ cZ n pf ef gf tf af wf (va_up xf k true) ts) (k := k) hx hb hK hP hD hS 7 2 rfl rfl (by omega) (by decide) ar_b_up rfl d_C_refuse_6 (fun H locs hP hD hS => ?_)
  refine lv_iload_n hx hb d_C_refuse_7 rfl (lv_at hl 1 rfl) ?_
  refine lv_iconst (v := (nI 1)) hx hb d_C_refuse_8 (by decide +kernel) ?_
  refine wn_iadd hx hb d_C_refuse_9 ?_
  refine lv_istore_n (lv' := [(2, .int (nI (k + 1))), (0, .ref (a 0)), (1, .int (nI k))]) hx hb d_C_refuse_10 rfl hl (by decide) rfl (fun ls hl => ?_)
  have hl : lv_has ls 3 [(2, .int (nI (k + 1))), (0, .ref (a 0)), (1, .int (nI k))] := lv_sub hl [0, 1, 2] rfl
  exact loop (n - (k + 1)) (k + 1) _ ls H locs (by omega) (by omega) rfl hl hP hD hS
set_option maxHeartbeats 4000000 in
set_option maxRecDepth 100000 in
theorem c_C_add (l : Launch) (D : va_G) (cI cJ cZ : ClassId) (a : Nat → Nat) (n : Nat) (pf ef gf : Nat → Nat) (tf af : Nat → Int32) (wf : Nat → Int64) (xf : Nat → Bool) (ts : Nat → Int32) (sz k : Nat) (ti ar : Int32) (hT : Tr n pf ef) (hg : Tg n gf) (hn : n < 512) (hk : k < n) : Met l y_C_add (Cond.code y_C_add b_C_add 5 (some .int) :: wt_ws) ({ frames := 2, cells := 0, slots := 0, locals := 48 } : Room) (mu_Pc [.ref (a 0), .int (nI k), .int ti, .int ar] D (ch_ws a cI cJ cZ n pf ef gf tf af wf xf ts) (wt_ty cI cJ cZ) sz) (mu_Qi (S := Unit) (fun r _ => r = nI n) D (fun _ => ch_ws a cI cJ cZ (n + 1) (va_up pf n k) (va_up ef n (ef k + 1)) (va_up gf n (wt_due pf ef gf tf k)) (va_up tf n ti) (va_up af n ar) (va_up wf n (wt_newW pf ef gf tf wf k)) (va_up xf n (xf k)) ts) (ch_ws a cI cJ cZ n pf ef gf tf af wf xf ts) sz) 0 0 (va_A (ch_ws a cI cJ cZ n pf ef gf tf af wf xf ts) sz) := by
  refine Met.ofW (cc := b_C_add) (maxL := 5) (ret := (some .int)) (by decide) rfl ?_
  intro pp ev s m args below meth c s₁ B hml hv
  obtain ⟨rfl, hsz, hP, hK, hD0⟩ := hv
  have hx := B.exec
  have hb := B.bytes
  have hr := B.returns
  have hts : ∀ w ∈ wt_ws, w.before ([.ref (a 0), .int (nI k), .int ti, .int ar] : List Value).toArray s = true := fun w hw => atoms_spec (ws := Cond.code y_C_add b_C_add 5 (some .int) :: wt_ws) B.pre w (List.mem_cons_of_mem _ hw)
  have hown : s.vm.findClass R_C = some m.cls := findClass_of_methodNamed B.named
  have hlocks := B.notSynchronized
  subst hsz
  have hD := hD0.self (sz := s.heap.size)
  have hA : ∀ q, s.heap.size ≤ q → va_A (ch_ws a cI cJ cZ n pf ef gf tf af wf xf ts) s.heap.size q := fun q h => Or.inr h
  have hS : va_S (va_A (ch_ws a cI cJ cZ n pf ef gf tf af wf xf ts) s.heap.size) s.heap s.heap [] := va_S.rf
  have hl := lv_entry ([.ref (a 0), .int (nI k), .int ti, .int ar]) (n := 5) (Nat.le_of_ble_eq_true rfl)
  rw [lg_entry_eq]
  generalize (lg_sl ([.ref (a 0), .int (nI k), .int ti, .int ar]) ++ List.replicate (5 - (lg_sl ([.ref (a 0), .int (nI k), .int ti, .int ar])).length) Slot.unset).toArray = ls at hl ⊢
  have hl : lv_has ls 5 [(0, .ref (a 0)), (1, .int (nI k)), (2, .int ti), (3, .int ar)] := hl
  have hT2 := hT.up hk
  have hgk := hg k hk
  have hdu : wt_due (va_up pf n k) (va_up ef n (ef k + 1)) gf (va_up tf n ti) k = wt_due pf ef gf tf k := wt_due_eq hT (fun j h => up_ne (by omega)) (fun j h => up_ne (by omega)) (fun j h => rfl) (fun j h => up_ne (by omega)) hk
  have hdb := wt_due_in (pf := pf) (ef := ef) (tf := tf) hg hk
  refine lv_aload_n hx hb d_C_add_0 rfl (lv_at hl 0 rfl) ?_
  refine va_get (D := D) (ci := 1) (v := .int (nI n)) (C := R_C) (T := F_C) (N := 9) hx hb hts u_in_C hown hK hP 0 rfl rfl 0 (by decide) (hts _ k_20) (fun _ h9 => h9) rfl d_C_add_1 ?_
  refine lv_istore (lv' := [(4, .int (nI n)), (0, .ref (a 0)), (1, .int (nI k)), (2, .int ti), (3, .int ar)]) hx hb d_C_add_4 hl (by decide) rfl (fun ls hl => ?_)
  refine lv_aload_n hx hb d_C_add_6 rfl (lv_at hl 1 rfl) ?_
  refine lv_dup hx hb d_C_add_7 rfl ?_
  refine va_get (D := D) (ci := 1) (v := .int (nI n)) (C := R_C) (T := F_C) (N := 9) hx hb hts u_in_C hown hK hP 0 rfl rfl 0 (by decide) (hts _ k_20) (fun _ h9 => h9) rfl d_C_add_8 ?_
  refine lv_iconst (v := (nI 1)) hx hb d_C_add_11 (by decide +kernel) ?_
  refine wn_iadd hx hb d_C_add_12 ?_
  refine va_put (D := D) (ci := 1) (v := .int (nI (n + 1))) (ty := .int) (C := R_C) (T := F_C) (N := 9) hx hb hts u_in_C ft_C ft_C_ok n_C hown hK hP hD hS 0 rfl rfl 0 (by decide) (hts _ k_20) (fun _ h9 => h9) rfl (by decide +kernel) rfl rfl (Nat.le_of_ble_eq_true rfl) d_C_add_13 (fun H locs hP hD hS => ?_)
  have hP : va_P D classes (ch_ws a cI cJ cZ (n + 1) pf ef gf tf af wf xf ts) H := hP
  have hD : va_D _ (ch_ws a cI cJ cZ (n + 1) pf ef gf tf af wf xf ts) := hD
  refine lv_aload_n hx hb d_C_add_16 rfl (lv_at hl 1 rfl) ?_
  refine va_get (D := D) (ci := 1) (v := .ref (a 1)) (C := R_C) (T := F_C) (N := 9) hx hb hts u_in_C hown hK hP 0 rfl rfl 1 (by decide) (hts _ k_22) (fun _ h9 => h9) rfl d_C_add_17 ?_
  refine lv_iload hx hb d_C_add_20 (lv_at hl 0 rfl) ?_
  refine lv_iload_n hx hb d_C_add_22 rfl (lv_at hl 2 rfl) ?_
  refine wn_iast (ws' := ch_ws a cI cJ cZ (n + 1) (va_up pf n k) ef gf tf af wf xf ts) (k := n) hx hb hK hP hD hS 1 0 rfl rfl (by omega) (by decide) (ar_p_up (by omega)) rfl d_C_add_23 (fun H locs hP hD hS => ?_)
  refine lv_aload_n hx hb d_C_add_24 rfl (lv_at hl 1 rfl) ?_
  refine va_get (D := D) (ci := 1) (v := .ref (a 2)) (C := R_C) (T := F_C) (N := 9) hx hb hts u_in_C hown hK hP 0 rfl rfl 2 (by decide) (hts _ k_24) (fun _ h9 => h9) rfl d_C_add_25 ?_
  refine lv_iload hx hb d_C_add_28 (lv_at hl 0 rfl) ?_
  refine lv_aload_n hx hb d_C_add_30 rfl (lv_at hl 1 rfl) ?_
  refine va_get (D := D) (ci := 1) (v := .ref (a 2)) (C := R_C) (T := F_C) (N := 9) hx hb hts u_in_C hown hK hP 0 rfl rfl 2 (by decide) (hts _ k_24) (fun _ h9 => h9) rfl d_C_add_31 ?_
  refine lv_iload_n hx hb d_C_add_34 rfl (lv_at hl 2 rfl) ?_
  refine wn_iald (k := k) (v := (nI (ef k))) hx hb hK hP 2 0 rfl rfl (by omega) (by decide) rfl d_C_add_35 ?_
  refine lv_iconst (v := (nI 1)) hx hb d_C_add_36 (by decide +kernel) ?_
  refine wn_iadd hx hb d_C_add_37 ?_
  refine wn_iast (ws' := ch_ws a cI cJ cZ (n + 1) (va_up pf n k) (va_up ef n ((ef k) + 1)) gf tf af wf xf ts) (k := n) hx hb hK hP hD hS 2 0 rfl rfl (by omega) (by decide) ar_n_up rfl d_C_add_38 (fun H locs hP hD hS => ?_)
  refine lv_aload_n hx hb d_C_add_39 rfl (lv_at hl 1 rfl) ?_
  refine va_get (D := D) (ci := 1) (v := .ref (a 3)) (C := R_C) (T := F_C) (N := 9) hx hb hts u_in_C hown hK hP 0 rfl rfl 3 (by decide) (hts _ k_26) (fun _ h9 => h9) rfl d_C_add_40 ?_
  refine lv_iload hx hb d_C_add_43 (lv_at hl 0 rfl) ?_
  refine lv_iload_n hx hb d_C_add_45 rfl (lv_at hl 3 rfl) ?_
  refine wn_iast (ws' := ch_ws a cI cJ cZ (n + 1) (va_up pf n k) (va_up ef n ((ef k) + 1)) gf (va_up tf n ti) af wf xf ts) (k := n) hx hb hK hP hD hS 3 0 rfl rfl (by omega) (by decide) rfl rfl d_C_add_46 (fun H locs hP hD hS => ?_)
  refine lv_aload_n hx hb d_C_add_47 rfl (lv_at hl 1 rfl) ?_
  refine va_get (D := D) (ci := 1) (v := .ref (a 4)) (C := R_C) (T := F_C) (N := 9) hx hb hts u_in_C hown hK hP 0 rfl rfl 4 (by decide) (hts _ k_28) (fun _ h9 => h9) rfl d_C_add_48 ?_
  refine lv_iload hx hb d_C_add_51 (lv_at hl 0 rfl) ?_
  refine lv_aload_n hx hb d_C_add_53 rfl (lv_at hl 1 rfl) ?_
  refine lv_iload_n hx hb d_C_add_54 rfl (lv_at hl 2 rfl) ?_
  refine ro_calli (ws := ch_ws a cI cJ cZ (n + 1) (va_up pf n k) (va_up ef n ((ef k) + 1)) gf (va_up tf n ti) af wf xf ts) (va_runV (As := [.int (nI k)]) (rest := [.int (nI n), .ref (a 4)]) ⟨hx, hb, hml, hown, hts⟩ (c_C_due l D cI cJ cZ a (n + 1) (va_up pf n k) (va_up ef n ((ef k) + 1)) gf (va_up tf n ti) af wf xf ts k hT2 (by omega) (by omega) (by omega)) (wt_cwV 1 hts k_80 k_77 k_78 k_79 k_2 rfl rfl (by decide +kernel) ⟨Nat.le_of_ble_eq_true rfl, Nat.le_of_ble_eq_true rfl⟩) (ro_preV (q := (R_C, F_C, 9)) (ci := 1) hK hP 0 rfl rfl) rfl rfl hl.1 rfl (lv_room (Nat.le_of_ble_eq_true rfl)) d_C_add_55 ⟨Nat.zero_le _, Nat.zero_le _⟩) hS hP (fun r H locs hr55 hP hS => ?_)
  subst hr55
  rw [hdu]
  refine wn_iast (ws' := ch_ws a cI cJ cZ (n + 1) (va_up pf n k) (va_up ef n ((ef k) + 1)) (va_up gf n (wt_due pf ef gf tf k)) (va_up tf n ti) af wf xf ts) (k := n) hx hb hK hP hD hS 4 0 rfl rfl (by omega) (by decide) ar_n_up rfl d_C_add_58 (fun H locs hP hD hS => ?_)
  refine lv_aload_n hx hb d_C_add_59 rfl (lv_at hl 1 rfl) ?_
  refine va_get (D := D) (ci := 1) (v := .ref (a 6)) (C := R_C) (T := F_C) (N := 9) hx hb hts u_in_C hown hK hP 0 rfl rfl 6 (by decide) (hts _ k_31) (fun _ h9 => h9) rfl d_C_add_60 ?_
  refine lv_iload hx hb d_C_add_63 (lv_at hl 0 rfl) ?_
  refine lv_aload_n hx hb d_C_add_65 rfl (lv_at hl 1 rfl) ?_
  refine va_get (D := D) (ci := 1) (v := .ref (a 6)) (C := R_C) (T := F_C) (N := 9) hx hb hts u_in_C hown hK hP 0 rfl rfl 6 (by decide) (hts _ k_31) (fun _ h9 => h9) rfl d_C_add_66 ?_
  refine lv_iload_n hx hb d_C_add_69 rfl (lv_at hl 2 rfl) ?_
  refine wn_lald (k := k) (v := wf k) hx hb hK hP 6 1 rfl rfl (by omega) (by decide) rfl d_C_add_70 ?_
  refine lv_ldc (v := 16777216) hx hb hown (hts _ k_100) d_C_add_71 ?_
  refine wt_top (v := nI 16777216) (by decide +kernel) ?_
  refine lv_aload_n hx hb d_C_add_73 rfl (lv_at hl 1 rfl) ?_
  refine va_get (D := D) (ci := 1) (v := .ref (a 4)) (C := R_C) (T := F_C) (N := 9) hx hb hts u_in_C hown hK hP 0 rfl rfl 4 (by decide) (hts _ k_28) (fun _ h9 => h9) rfl d_C_add_74 ?_
  refine lv_iload hx hb d_C_add_77 (lv_at hl 0 rfl) ?_
  refine wn_iald (k := n) (v := (nI ((va_up gf n (wt_due pf ef gf tf k)) n))) hx hb hK hP 4 0 rfl rfl (by omega) (by decide) rfl d_C_add_79 ?_
  refine wt_top (v := nI (wt_due pf ef gf tf k)) (congrArg nI up_at) ?_
  refine wn_idiv hx hb (by omega) (by omega) (by omega) d_C_add_80 ?_
  refine lv_i2l (v := (nI (16777216 / (wt_due pf ef gf tf k))).toInt64) hx hb d_C_add_81 rfl ?_
  refine lv_ladd hx hb d_C_add_82 ?_
  refine wn_last (ws' := ch_ws a cI cJ cZ (n + 1) (va_up pf n k) (va_up ef n ((ef k) + 1)) (va_up gf n (wt_due pf ef gf tf k)) (va_up tf n ti) af (va_up wf n ((wf k) + ((nI (16777216 / (wt_due pf ef gf tf k))).toInt64))) xf ts) (k := n) hx hb hK hP hD hS 6 1 rfl rfl (by omega) (by decide) rfl rfl d_C_add_83 (fun H locs hP hD hS => ?_)
  refine lv_aload_n hx hb d_C_add_84 rfl (lv_at hl 1 rfl) ?_
  refine va_get (D := D) (ci := 1) (v := .ref (a 5)) (C := R_C) (T := F_C) (N := 9) hx hb hts u_in_C hown hK hP 0 rfl rfl 5 (by decide) (hts _ k_30) (fun _ h9 => h9) rfl d_C_add_85 ?_
  refine lv_iload hx hb d_C_add_88 (lv_at hl 0 rfl) ?_
  refine lv_iload_n hx hb d_C_add_90 rfl (lv_at hl 4 rfl) ?_
  refine wn_iast (ws' := ch_ws a cI cJ cZ (n + 1) (va_up pf n k) (va_up ef n ((ef k) + 1)) (va_up gf n (wt_due pf ef gf tf k)) (va_up tf n ti) (va_up af n ar) (va_up wf n ((wf k) + ((nI (16777216 / (wt_due pf ef gf tf k))).toInt64))) xf ts) (k := n) hx hb hK hP hD hS 5 0 rfl rfl (by omega) (by decide) rfl rfl d_C_add_91 (fun H locs hP hD hS => ?_)
  refine lv_aload_n hx hb d_C_add_92 rfl (lv_at hl 1 rfl) ?_
  refine va_get (D := D) (ci := 1) (v := .ref (a 7)) (C := R_C) (T := F_C) (N := 9) hx hb hts u_in_C hown hK hP 0 rfl rfl 7 (by decide) (hts _ k_33) (fun _ h9 => h9) rfl d_C_add_93 ?_
  refine lv_iload hx hb d_C_add_96 (lv_at hl 0 rfl) ?_
  refine lv_aload_n hx hb d_C_add_98 rfl (lv_at hl 1 rfl) ?_
  refine va_get (D := D) (ci := 1) (v := .ref (a 7)) (C := R_C) (T := F_C) (N := 9) hx hb hts u_in_C hown hK hP 0 rfl rfl 7 (by decide) (hts _ k_33) (fun _ h9 => h9) rfl d_C_add_99 ?_
  refine lv_iload_n hx hb d_C_add_102 rfl (lv_at hl 2 rfl) ?_
  refine wn_zald (k := k) (v := (bz (xf k))) hx hb hK hP 7 2 rfl rfl (by omega) (by decide) rfl d_C_add_103 ?_
  refine wn_zast (ws' := ch_ws a cI cJ cZ (n + 1) (va_up pf n k) (va_up ef n ((ef k) + 1)) (va_up gf n (wt_due pf ef gf tf k)) (va_up tf n ti) (va_up af n ar) (va_up wf n ((wf k) + ((nI (16777216 / (wt_due pf ef gf tf k))).toInt64))) (va_up xf n (xf k)) ts) (k := n) hx hb hK hP hD hS 7 2 rfl rfl (by omega) (by decide) ar_b_up rfl d_C_add_104 (fun H locs hP hD hS => ?_)
  refine lv_iload hx hb d_C_add_105 (lv_at hl 0 rfl) ?_
  exact mu_iret () hx hb hr hlocks hS hP hD rfl d_C_add_107
end
section
theorem Tr.mono {n : Nat} {pf ef : Nat → Nat} (h : Tr (n + 1) pf ef) : Tr n pf ef := ⟨h.1, fun k h1 h2 => h.2 k h1 (by omega)⟩
set_option maxHeartbeats 4000000 in
set_option maxRecDepth 100000 in
theorem c_M_is (l : Launch) (D : va_G) (cI cJ cZ : ClassId) (a : Nat → Nat) (n : Nat) (pf ef gf : Nat → Nat) (tf af : Nat → Int32) (wf : Nat → Int64) (xf : Nat → Bool) (ts : Nat → Int32) (x : Int32) (hn : n ≤ 512) : Met l y_M_is (Cond.code y_M_is b_M_is 2 (some .boolean) :: wt_ws) ({ frames := 0, cells := 0, slots := 0, locals := 0 } : Room) (ro_Pc [.ref (a 0), .int x] D (mo_ws a cI cJ cZ n pf ef gf tf af wf xf ts) (wt_ty cI cJ cZ)) (ro_Qi (fun r => r = bz (wt_ok x n))) 0 0 (fun _ => False) := by
  refine Met.ofW (cc := b_M_is) (maxL := 2) (ret := (some .boolean)) (by decide) rfl ?_
  intro pp ev s m args below meth c s₁ B hml hv
  obtain ⟨rfl, hP, hK⟩ := hv
  have hx := B.exec
  have hb := B.bytes
  have hr := B.returns
  have hts : ∀ w ∈ wt_ws, w.before ([.ref (a 0), .int x] : List Value).toArray s = true := fun w hw => atoms_spec (ws := Cond.code y_M_is b_M_is 2 (some .boolean) :: wt_ws) B.pre w (List.mem_cons_of_mem _ hw)
  have hown : s.vm.findClass R_M = some m.cls := findClass_of_methodNamed B.named
  have hlocks := B.notSynchronized
  have hS : va_S (fun _ => False) s.heap s.heap [] := va_S.rf
  have hl := lv_entry ([.ref (a 0), .int x]) (n := 2) (Nat.le_of_ble_eq_true rfl)
  rw [lg_entry_eq]
  generalize (lg_sl ([.ref (a 0), .int x]) ++ List.replicate (2 - (lg_sl ([.ref (a 0), .int x])).length) Slot.unset).toArray = ls at hl ⊢
  have hl : lv_has ls 2 [(0, .ref (a 0)), (1, .int x)] := hl
  refine lv_iload_n hx hb d_M_is_0 rfl (lv_at hl 1 rfl) ?_
  refine lv_if_lt (tgt := 16) hx hb d_M_is_1 (by decide) (fun hc1 => ?_) (fun hc1 => ?_)
  · refine lv_iconst (v := (nI 0)) hx hb d_M_is_16 (by decide +kernel) ?_
    refine wt_top (v := bz false) (by decide +kernel) ?_
    exact ro_zret hx hb hr hlocks hS (by rw [wt_is_f1 hc1]) d_M_is_17
  · refine lv_iload_n hx hb d_M_is_4 rfl (lv_at hl 1 rfl) ?_
    refine lv_aload_n hx hb d_M_is_5 rfl (lv_at hl 0 rfl) ?_
    refine va_get (D := D) (ci := 2) (v := .int (nI n)) (C := R_M) (T := F_M) (N := 9) hx hb hts u_in_M hown hK hP 0 rfl rfl 8 (by decide) (hts _ k_168) (fun _ h9 => h9) rfl d_M_is_6 ?_
    refine lv_icmp_ge (tgt := 16) hx hb d_M_is_9 (by decide) (fun hc9 => ?_) (fun hc9 => ?_)
    · refine lv_iconst (v := (nI 0)) hx hb d_M_is_16 (by decide +kernel) ?_
      refine wt_top (v := bz false) (by decide +kernel) ?_
      exact ro_zret hx hb hr hlocks hS (by rw [wt_is_f2 hn hc9]) d_M_is_17
    · refine lv_iconst (v := (nI 1)) hx hb d_M_is_12 (by decide +kernel) ?_
      refine lv_goto (tgt := 17) hx hb d_M_is_13 (by decide) ?_
      refine wt_top (v := bz true) (by decide +kernel) ?_
      exact ro_zret hx hb hr hlocks hS (by rw [wt_is_t hn hc1 hc9]) d_M_is_17
set_option maxHeartbeats 4000000 in
set_option maxRecDepth 100000 in
theorem c_M_ancestor (l : Launch) (D : va_G) (cI cJ cZ : ClassId) (a : Nat → Nat) (n : Nat) (pf ef gf : Nat → Nat) (tf af : Nat → Int32) (wf : Nat → Int64) (xf : Nat → Bool) (ts : Nat → Int32) (x y : Int32) (hT : Tr n pf ef) (hn : n ≤ 512) : Met l y_M_ancestor (Cond.code y_M_ancestor b_M_ancestor 4 (some .int) :: wt_ws) ({ frames := 1, cells := 0, slots := 0, locals := 21 } : Room) (ro_Pc [.ref (a 0), .int x, .int y] D (mo_ws a cI cJ cZ n pf ef gf tf af wf xf ts) (wt_ty cI cJ cZ)) (ro_Qi (fun r => r = wt_ancR n pf ef x y)) 0 0 (fun _ => False) := by
  refine Met.ofW (cc := b_M_ancestor) (maxL := 4) (ret := (some .int)) (by decide) rfl ?_
  intro pp ev s m args below meth c s₁ B hml hv
  obtain ⟨rfl, hP, hK⟩ := hv
  have hx := B.exec
  have hb := B.bytes
  have hr := B.returns
  have hts : ∀ w ∈ wt_ws, w.before ([.ref (a 0), .int x, .int y] : List Value).toArray s = true := fun w hw => atoms_spec (ws := Cond.code y_M_ancestor b_M_ancestor 4 (some .int) :: wt_ws) B.pre w (List.mem_cons_of_mem _ hw)
  have hown : s.vm.findClass R_M = some m.cls := findClass_of_methodNamed B.named
  have hlocks := B.notSynchronized
  have hS : va_S (fun _ => False) s.heap s.heap [] := va_S.rf
  have hl := lv_entry ([.ref (a 0), .int x, .int y]) (n := 4) (Nat.le_of_ble_eq_true rfl)
  rw [lg_entry_eq]
  generalize (lg_sl ([.ref (a 0), .int x, .int y]) ++ List.replicate (4 - (lg_sl ([.ref (a 0), .int x, .int y])).length) Slot.unset).toArray = ls at hl ⊢
  have hl : lv_has ls 4 [(0, .ref (a 0)), (1, .int x), (2, .int y)] := hl
  refine lv_aload_n hx hb d_M_ancestor_0 rfl (lv_at hl 0 rfl) ?_
  refine lv_iload_n hx hb d_M_ancestor_1 rfl (lv_at hl 1 rfl) ?_
  refine ro_calli (ws := mo_ws a cI cJ cZ n pf ef gf tf af wf xf ts) (va_runV (As := [.int x]) (rest := []) ⟨hx, hb, hml, hown, hts⟩ (c_M_is l D cI cJ cZ a n pf ef gf tf af wf xf ts x hn) (wt_cwV 1 hts k_195 k_192 k_194 ks_1 k_3 rfl rfl (by decide +kernel) ⟨Nat.le_of_ble_eq_true rfl, Nat.le_of_ble_eq_true rfl⟩) (ro_preV (q := (R_M, F_M, 9)) (ci := 2) hK hP 0 rfl rfl) rfl rfl hl.1 rfl (lv_room (Nat.le_of_ble_eq_true rfl)) d_M_ancestor_2 ⟨Nat.zero_le _, Nat.zero_le _⟩) hS hP (fun r H locs hr2 hP hS => ?_)
  subst hr2
  refine wb_if_eq (tgt := 22) hx hb d_M_ancestor_5 (by decide) (fun hc5 => ?_) (fun hc5 => ?_)
  · refine lv_bipush (v := ((-2))) hx hb d_M_ancestor_22 (by decide +kernel) ?_
    exact ro_iret hx hb hr hlocks hS (by rw [wt_ancR_0 (wt_ok_f hc5)]) d_M_ancestor_24
  · obtain ⟨k, hk, hxk⟩ := wt_ok_t hn hc5
    rw [hxk] at hl
    have hek := hT.le k hk
    refine lv_iload_n hx hb d_M_ancestor_8 rfl (lv_at hl 2 rfl) ?_
    refine lv_if_lt (tgt := 22) hx hb d_M_ancestor_9 (by decide) (fun hc9 => ?_) (fun hc9 => ?_)
    · refine lv_bipush (v := ((-2))) hx hb d_M_ancestor_22 (by decide +kernel) ?_
      exact ro_iret hx hb hr hlocks hS (by rw [hxk, wt_ancR_f hn hk (wt_ok2_f1 hc9)]) d_M_ancestor_24
    · refine lv_iload_n hx hb d_M_ancestor_12 rfl (lv_at hl 2 rfl) ?_
      refine lv_aload_n hx hb d_M_ancestor_13 rfl (lv_at hl 0 rfl) ?_
      refine va_get (D := D) (ci := 2) (v := .ref (a 2)) (C := R_M) (T := F_M) (N := 9) hx hb hts u_in_M hown hK hP 0 rfl rfl 1 (by decide) (hts _ k_161) (fun _ h9 => h9) rfl d_M_ancestor_14 ?_
      refine lv_iload_n hx hb d_M_ancestor_17 rfl (lv_at hl 1 rfl) ?_
      refine wn_iald (k := k) (v := (nI (ef k))) hx hb hK hP 2 0 rfl rfl (by omega) (by decide) rfl d_M_ancestor_18 ?_
      refine lv_icmp_le (tgt := 25) hx hb d_M_ancestor_19 (by decide) (fun hc19 => ?_) (fun hc19 => ?_)
      · obtain ⟨t, ht, hyt⟩ := wt_ok2_t (by omega) (wt_ok2_i (by omega) hc9 hc19)
        rw [hyt] at hl
        have loop : ∀ (j : Nat) (ls : Array Slot), j < n → wt_anc pf ef t 512 j = wt_anc pf ef t 512 k → lv_has ls 4 [(3, .int (nI j)), (0, .ref (a 0)), (1, .int (nI k)), (2, .int (nI t))] → W pp l ev (headSpec (Cond.code y_M_ancestor b_M_ancestor 4 (some .int) :: wt_ws) ({ frames := 1, cells := 0, slots := 0, locals := 21 } : Room)).room s m ([.ref (a 0), .int x, .int y] : List Value).toArray below meth c H locs 0 0 (MQ below (ro_Qi (fun r => r = wt_ancR n pf ef x y)) ([.ref (a 0), .int x, .int y] : List Value).toArray s 0 0 (fun _ => False)) (F0 m 27 ls []) := by
          intro j
          induction j using Nat.strongRecOn with
          | ind j ih =>
            intro ls hj hw hl
            have hej := hT.le j hj
            refine lv_aload_n hx hb d_M_ancestor_27 rfl (lv_at hl 1 rfl) ?_
            refine va_get (D := D) (ci := 2) (v := .ref (a 2)) (C := R_M) (T := F_M) (N := 9) hx hb hts u_in_M hown hK hP 0 rfl rfl 1 (by decide) (hts _ k_161) (fun _ h9 => h9) rfl d_M_ancestor_28 ?_
            refine lv_iload_n hx hb d_M_ancestor_31 rfl (lv_at hl 0 rfl) ?_
            refine wn_iald (k := j) (v := (nI (ef j))) hx hb hK hP 2 0 rfl rfl (by omega) (by decide) rfl d_M_ancestor_32 ?_
            refine lv_iload_n hx hb d_M_ancestor_33 rfl (lv_at hl 3 rfl) ?_
            refine wn_icmp_le (tgt := 47) hx hb (by omega) (by omega) d_M_ancestor_34 (by decide) (fun hc34 => ?_) (fun hc34 => ?_)
            · refine lv_iload_n hx hb d_M_ancestor_47 rfl (lv_at hl 0 rfl) ?_
              exact ro_iret hx hb hr hlocks hS (by rw [hxk, hyt, wt_ancR_n hn hk (by omega) ht, ← hw, wt_anc_pos hc34]) d_M_ancestor_48
            · have hj1 := hT.pos hj (show 0 < ef j by omega)
              obtain ⟨hp1, -⟩ := hT.2 j hj1 hj
              refine lv_aload_n hx hb d_M_ancestor_37 rfl (lv_at hl 1 rfl) ?_
              refine va_get (D := D) (ci := 2) (v := .ref (a 1)) (C := R_M) (T := F_M) (N := 9) hx hb hts u_in_M hown hK hP 0 rfl rfl 0 (by decide) (hts _ k_160) (fun _ h9 => h9) rfl d_M_ancestor_38 ?_
              refine lv_iload_n hx hb d_M_ancestor_41 rfl (lv_at hl 0 rfl) ?_
              refine wn_iald (k := j) (v := (nI (pf j))) hx hb hK hP 1 0 rfl rfl (by omega) (by decide) (ar_p_at (by omega)) d_M_ancestor_42 ?_
              refine lv_istore_n (lv' := [(3, .int (nI (pf j))), (0, .ref (a 0)), (1, .int (nI k)), (2, .int (nI t))]) hx hb d_M_ancestor_43 rfl hl (by decide) rfl (fun ls hl => ?_)
              refine lv_goto (tgt := 27) hx hb d_M_ancestor_44 (by decide) ?_
              have hl : lv_has ls 4 [(3, .int (nI (pf j))), (0, .ref (a 0)), (1, .int (nI k)), (2, .int (nI t))] := lv_sub hl [0, 1, 2, 3] rfl
              exact ih (pf j) hp1 ls (by omega) ((wt_anc_neg hT hn hj hc34).symm.trans hw) hl
        refine lv_iload_n hx hb d_M_ancestor_25 rfl (lv_at hl 1 rfl) ?_
        refine lv_istore_n (lv' := [(3, .int (nI k)), (0, .ref (a 0)), (1, .int (nI k)), (2, .int (nI t))]) hx hb d_M_ancestor_26 rfl hl (by decide) rfl (fun ls hl => ?_)
        have hl : lv_has ls 4 [(3, .int (nI k)), (0, .ref (a 0)), (1, .int (nI k)), (2, .int (nI t))] := lv_sub hl [0, 1, 2, 3] rfl
        exact loop k ls hk rfl hl
      · refine lv_bipush (v := ((-2))) hx hb d_M_ancestor_22 (by decide +kernel) ?_
        exact ro_iret hx hb hr hlocks hS (by rw [hxk, wt_ancR_f hn hk (wt_ok2_f2 (by omega) hc19)]) d_M_ancestor_24
set_option maxHeartbeats 4000000 in
set_option maxRecDepth 100000 in
theorem c_M_wrong (l : Launch) (D : va_G) (cI cJ cZ : ClassId) (a : Nat → Nat) (n : Nat) (pf ef gf : Nat → Nat) (tf af : Nat → Int32) (wf : Nat → Int64) (xf : Nat → Bool) (ts : Nat → Int32) (yf : Nat → Bool) (k : Nat) (hT : Tr n pf ef) (hn : n ≤ 512) (hk : k < n) (hWr : Wr n pf xf yf) : Met l y_M_wrong (Cond.code y_M_wrong b_M_wrong 4 (some .boolean) :: wt_ws) ({ frames := 0, cells := 0, slots := 0, locals := 0 } : Room) (ro_Pc [.ref (a 0), .int (nI k)] D (mo_ws a cI cJ cZ n pf ef gf tf af wf xf ts) (wt_ty cI cJ cZ)) (ro_Qi (fun r => r = bz (yf k))) 0 0 (fun _ => False) := by
  refine Met.ofW (cc := b_M_wrong) (maxL := 4) (ret := (some .boolean)) (by decide) rfl ?_
  intro pp ev s m args below meth c s₁ B hml hv
  obtain ⟨rfl, hP, hK⟩ := hv
  have hx := B.exec
  have hb := B.bytes
  have hr := B.returns
  have hts : ∀ w ∈ wt_ws, w.before ([.ref (a 0), .int (nI k)] : List Value).toArray s = true := fun w hw => atoms_spec (ws := Cond.code y_M_wrong b_M_wrong 4 (some .boolean) :: wt_ws) B.pre w (List.mem_cons_of_mem _ hw)
  have hown : s.vm.findClass R_M = some m.cls := findClass_of_methodNamed B.named
  have hlocks := B.notSynchronized
  have hS : va_S (fun _ => False) s.heap s.heap [] := va_S.rf
  have hl := lv_entry ([.ref (a 0), .int (nI k)]) (n := 4) (Nat.le_of_ble_eq_true rfl)
  rw [lg_entry_eq]
  generalize (lg_sl ([.ref (a 0), .int (nI k)]) ++ List.replicate (4 - (lg_sl ([.ref (a 0), .int (nI k)])).length) Slot.unset).toArray = ls at hl ⊢
  have hl : lv_has ls 4 [(0, .ref (a 0)), (1, .int (nI k))] := hl
  have loop : ∀ (j : Nat) (bd : Bool) (ls : Array Slot), j < n → (bd || yf j) = yf k → lv_has ls 4 [(3, .int (nI j)), (2, .int (bz bd)), (0, .ref (a 0))] → W pp l ev (headSpec (Cond.code y_M_wrong b_M_wrong 4 (some .boolean) :: wt_ws) ({ frames := 0, cells := 0, slots := 0, locals := 0 } : Room)).room s m ([.ref (a 0), .int (nI k)] : List Value).toArray below meth c s.heap [] 0 0 (MQ below (ro_Qi (fun r => r = bz (yf k))) ([.ref (a 0), .int (nI k)] : List Value).toArray s 0 0 (fun _ => False)) (F0 m 4 ls []) := by
    intro j
    induction j using Nat.strongRecOn with
    | ind j ih =>
      intro bd ls hj hw hl
      refine lv_iload_n hx hb d_M_wrong_4 rfl (lv_at hl 0 rfl) ?_
      refine wn_if_le (tgt := 37) hx hb (by omega) d_M_wrong_5 (by decide) (fun hc5 => ?_) (fun hc5 => ?_)
      · refine lv_iload_n hx hb d_M_wrong_37 rfl (lv_at hl 1 rfl) ?_
        exact ro_zret hx hb hr hlocks hS (by rw [hc5, hWr.1, Bool.or_false] at hw; rw [hw]) d_M_wrong_38
      · obtain ⟨hp1, -⟩ := hT.2 j (by omega) hj
        have hwj := hWr.2 j (by omega) hj
        refine lv_iload_n hx hb d_M_wrong_8 rfl (lv_at hl 1 rfl) ?_
        refine wb_if_ne (tgt := 21) hx hb d_M_wrong_9 (by decide) (fun hc9 => ?_) (fun hc9 => ?_)
        · refine lv_iconst (v := (nI 1)) hx hb d_M_wrong_21 (by decide +kernel) ?_
          refine lv_goto (tgt := 26) hx hb d_M_wrong_22 (by decide) ?_
          refine wt_top (v := bz true) (by decide +kernel) ?_
          refine lv_istore_n (lv' := [(2, .int (bz true)), (3, .int (nI j)), (0, .ref (a 0))]) hx hb d_M_wrong_26 rfl hl (by decide) rfl (fun ls hl => ?_)
          refine lv_aload_n hx hb d_M_wrong_27 rfl (lv_at hl 2 rfl) ?_
          refine va_get (D := D) (ci := 2) (v := .ref (a 1)) (C := R_M) (T := F_M) (N := 9) hx hb hts u_in_M hown hK hP 0 rfl rfl 0 (by decide) (hts _ k_160) (fun _ h9 => h9) rfl d_M_wrong_28 ?_
          refine lv_iload_n hx hb d_M_wrong_31 rfl (lv_at hl 1 rfl) ?_
          refine wn_iald (k := j) (v := (nI (pf j))) hx hb hK hP 1 0 rfl rfl (by omega) (by decide) (ar_p_at (by omega)) d_M_wrong_32 ?_
          refine lv_istore_n (lv' := [(3, .int (nI (pf j))), (2, .int (bz true)), (0, .ref (a 0))]) hx hb d_M_wrong_33 rfl hl (by decide) rfl (fun ls hl => ?_)
          refine lv_goto (tgt := 4) hx hb d_M_wrong_34 (by decide) ?_
          have hl : lv_has ls 4 [(3, .int (nI (pf j))), (2, .int (bz true)), (0, .ref (a 0))] := lv_sub hl [0, 1, 2] rfl
          exact ih (pf j) hp1 true ls (by omega) (by rw [hc9] at hw; simpa using hw) hl
        · refine lv_aload_n hx hb d_M_wrong_12 rfl (lv_at hl 2 rfl) ?_
          refine va_get (D := D) (ci := 2) (v := .ref (a 7)) (C := R_M) (T := F_M) (N := 9) hx hb hts u_in_M hown hK hP 0 rfl rfl 6 (by decide) (hts _ k_166) (fun _ h9 => h9) rfl d_M_wrong_13 ?_
          refine lv_iload_n hx hb d_M_wrong_16 rfl (lv_at hl 0 rfl) ?_
          refine wn_zald (k := j) (v := (bz (xf j))) hx hb hK hP 7 2 rfl rfl (by omega) (by decide) rfl d_M_wrong_17 ?_
          refine wb_if_eq (tgt := 25) hx hb d_M_wrong_18 (by decide) (fun hc18 => ?_) (fun hc18 => ?_)
          · refine lv_iconst (v := (nI 0)) hx hb d_M_wrong_25 (by decide +kernel) ?_
            refine wt_top (v := bz false) (by decide +kernel) ?_
            refine lv_istore_n (lv' := [(2, .int (bz false)), (3, .int (nI j)), (0, .ref (a 0))]) hx hb d_M_wrong_26 rfl hl (by decide) rfl (fun ls hl => ?_)
            refine lv_aload_n hx hb d_M_wrong_27 rfl (lv_at hl 2 rfl) ?_
            refine va_get (D := D) (ci := 2) (v := .ref (a 1)) (C := R_M) (T := F_M) (N := 9) hx hb hts u_in_M hown hK hP 0 rfl rfl 0 (by decide) (hts _ k_160) (fun _ h9 => h9) rfl d_M_wrong_28 ?_
            refine lv_iload_n hx hb d_M_wrong_31 rfl (lv_at hl 1 rfl) ?_
            refine wn_iald (k := j) (v := (nI (pf j))) hx hb hK hP 1 0 rfl rfl (by omega) (by decide) (ar_p_at (by omega)) d_M_wrong_32 ?_
            refine lv_istore_n (lv' := [(3, .int (nI (pf j))), (2, .int (bz false)), (0, .ref (a 0))]) hx hb d_M_wrong_33 rfl hl (by decide) rfl (fun ls hl => ?_)
            refine lv_goto (tgt := 4) hx hb d_M_wrong_34 (by decide) ?_
            have hl : lv_has ls 4 [(3, .int (nI (pf j))), (2, .int (bz false)), (0, .ref (a 0))] := lv_sub hl [0, 1, 2] rfl
            exact ih (pf j) hp1 false ls (by omega) (by rw [hwj, hc9, hc18] at hw; simpa using hw) hl
          · refine lv_iconst (v := (nI 1)) hx hb d_M_wrong_21 (by decide +kernel) ?_
            refine lv_goto (tgt := 26) hx hb d_M_wrong_22 (by decide) ?_
            refine wt_top (v := bz true) (by decide +kernel) ?_
            refine lv_istore_n (lv' := [(2, .int (bz true)), (3, .int (nI j)), (0, .ref (a 0))]) hx hb d_M_wrong_26 rfl hl (by decide) rfl (fun ls hl => ?_)
            refine lv_aload_n hx hb d_M_wrong_27 rfl (lv_at hl 2 rfl) ?_
            refine va_get (D := D) (ci := 2) (v := .ref (a 1)) (C := R_M) (T := F_M) (N := 9) hx hb hts u_in_M hown hK hP 0 rfl rfl 0 (by decide) (hts _ k_160) (fun _ h9 => h9) rfl d_M_wrong_28 ?_
            refine lv_iload_n hx hb d_M_wrong_31 rfl (lv_at hl 1 rfl) ?_
            refine wn_iald (k := j) (v := (nI (pf j))) hx hb hK hP 1 0 rfl rfl (by omega) (by decide) (ar_p_at (by omega)) d_M_wrong_32 ?_
            refine lv_istore_n (lv' := [(3, .int (nI (pf j))), (2, .int (bz true)), (0, .ref (a 0))]) hx hb d_M_wrong_33 rfl hl (by decide) rfl (fun ls hl => ?_)
            refine lv_goto (tgt := 4) hx hb d_M_wrong_34 (by decide) ?_
            have hl : lv_has ls 4 [(3, .int (nI (pf j))), (2, .int (bz true)), (0, .ref (a 0))] := lv_sub hl [0, 1, 2] rfl
            exact ih (pf j) hp1 true ls (by omega) (by rw [hwj, hc18] at hw; simpa using hw) hl
  refine lv_iconst (v := (nI 0)) hx hb d_M_wrong_0 (by decide +kernel) ?_
  refine wt_top (v := bz false) (by decide +kernel) ?_
  refine lv_istore_n (lv' := [(2, .int (bz false)), (0, .ref (a 0)), (1, .int (nI k))]) hx hb d_M_wrong_1 rfl hl (by decide) rfl (fun ls hl => ?_)
  refine lv_iload_n hx hb d_M_wrong_2 rfl (lv_at hl 2 rfl) ?_
  refine lv_istore_n (lv' := [(3, .int (nI k)), (2, .int (bz false)), (0, .ref (a 0)), (1, .int (nI k))]) hx hb d_M_wrong_3 rfl hl (by decide) rfl (fun ls hl => ?_)
  have hl : lv_has ls 4 [(3, .int (nI k)), (2, .int (bz false)), (0, .ref (a 0))] := lv_sub hl [0, 1, 2] rfl
  exact loop k false ls hk (Bool.false_or _) hl
set_option maxHeartbeats 4000000 in
set_option maxRecDepth 100000 in
theorem c_M_best (l : Launch) (D : va_G) (cI cJ cZ : ClassId) (a : Nat → Nat) (n : Nat) (pf ef gf : Nat → Nat) (tf af : Nat → Int32) (wf : Nat → Int64) (xf : Nat → Bool) (ts : Nat → Int32) (yf : Nat → Bool) (hT : Tr n pf ef) (h1 : 1 ≤ n) (hn : n ≤ 512) (hWr : Wr n pf xf yf) : Met l y_M_best (Cond.code y_M_best b_M_best 3 (some .int) :: wt_ws) ({ frames := 1, cells := 0, slots := 0, locals := 23 } : Room) (ro_Pc [.ref (a 0)] D (mo_ws a cI cJ cZ n pf ef gf tf af wf xf ts) (wt_ty cI cJ cZ)) (ro_Qi (fun r => r = nI (wt_bt wf af yf (n - 1) 1 0))) 0 0 (fun _ => False) := by
  refine Met.ofW (cc := b_M_best) (maxL := 3) (ret := (some .int)) (by decide) rfl ?_
  intro pp ev s m args below meth c s₁ B hml hv
  obtain ⟨rfl, hP, hK⟩ := hv
  have hx := B.exec
  have hb := B.bytes
  have hr := B.returns
  have hts : ∀ w ∈ wt_ws, w.before ([.ref (a 0)] : List Value).toArray s = true := fun w hw => atoms_spec (ws := Cond.code y_M_best b_M_best 3 (some .int) :: wt_ws) B.pre w (List.mem_cons_of_mem _ hw)
  have hown : s.vm.findClass R_M = some m.cls := findClass_of_methodNamed B.named
  have hlocks := B.notSynchronized
  have hS : va_S (fun _ => False) s.heap s.heap [] := va_S.rf
  have hl := lv_entry ([.ref (a 0)]) (n := 3) (Nat.le_of_ble_eq_true rfl)
  rw [lg_entry_eq]
  generalize (lg_sl ([.ref (a 0)]) ++ List.replicate (3 - (lg_sl ([.ref (a 0)])).length) Slot.unset).toArray = ls at hl ⊢
  have hl : lv_has ls 3 [(0, .ref (a 0))] := hl
  have loop : ∀ (q j b : Nat) (ls : Array Slot) (H : Heap) (locs : List Loc), q + j = n → b < n → wt_bt wf af yf q j b = wt_bt wf af yf (n - 1) 1 0 → lv_has ls 3 [(2, .int (nI j)), (1, .int (nI b)), (0, .ref (a 0))] → va_P D classes (mo_ws a cI cJ cZ n pf ef gf tf af wf xf ts) H → va_S (fun _ => False) s.heap H locs → W pp l ev (headSpec (Cond.code y_M_best b_M_best 3 (some .int) :: wt_ws) ({ frames := 1, cells := 0, slots := 0, locals := 23 } : Room)).room s m ([.ref (a 0)] : List Value).toArray below meth c H locs 0 0 (MQ below (ro_Qi (fun r => r = nI (wt_bt wf af yf (n - 1) 1 0))) ([.ref (a 0)] : List Value).toArray s 0 0 (fun _ => False)) (F0 m 4 ls []) := by
    intro q
    induction q with
    | zero =>
      intro j b ls H locs hq hbn hw hl hP hS
      refine lv_iload_n hx hb d_M_best_4 rfl (lv_at hl 0 rfl) ?_
      refine lv_aload_n hx hb d_M_best_5 rfl (lv_at hl 2 rfl) ?_
      refine va_get (D := D) (ci := 2) (v := .int (nI n)) (C := R_M) (T := F_M) (N := 9) hx hb hts u_in_M hown hK hP 0 rfl rfl 8 (by decide) (hts _ k_168) (fun _ h9 => h9) rfl d_M_best_6 ?_
      refine wn_icmp_ge (tgt := 75) hx hb (by omega) (by omega) d_M_best_9 (by decide) (fun hc9 => ?_) (fun hc9 => ?_)
      · refine lv_iload_n hx hb d_M_best_75 rfl (lv_at hl 1 rfl) ?_
        exact ro_iret hx hb hr hlocks hS (by rw [← hw]; rfl) d_M_best_76
      · omega
    | succ q ih =>
      intro j b ls H locs hq hbn hw hl hP hS
      refine lv_iload_n hx hb d_M_best_4 rfl (lv_at hl 0 rfl) ?_
      refine lv_aload_n hx hb d_M_best_5 rfl (lv_at hl 2 rfl) ?_
      refine va_get (D := D) (ci := 2) (v := .int (nI n)) (C := R_M) (T := F_M) (N := 9) hx hb hts u_in_M hown hK hP 0 rfl rfl 8 (by decide) (hts _ k_168) (fun _ h9 => h9) rfl d_M_best_6 ?_
      refine wn_icmp_ge (tgt := 75) hx hb (by omega) (by omega) d_M_best_9 (by decide) (fun hc9 => ?_) (fun hc9 => ?_)
      · omega
      · refine lv_aload_n hx hb d_M_best_12 rfl (lv_at hl 2 rfl) ?_
        refine va_get (D := D) (ci := 2) (v := .ref (a 5)) (C := R_M) (T := F_M) (N := 9) hx hb hts u_in_M hown hK hP 0 rfl rfl 4 (by decide) (hts _ k_164) (fun _ h9 => h9) rfl d_M_best_13 ?_
        refine lv_iload_n hx hb d_M_best_16 rfl (lv_at hl 0 rfl) ?_
        refine wn_lald (k := j) (v := wf j) hx hb hK hP 5 1 rfl rfl (by omega) (by decide) rfl d_M_best_17 ?_
        refine lv_aload_n hx hb d_M_best_18 rfl (lv_at hl 2 rfl) ?_
        refine va_get (D := D) (ci := 2) (v := .ref (a 5)) (C := R_M) (T := F_M) (N := 9) hx hb hts u_in_M hown hK hP 0 rfl rfl 4 (by decide) (hts _ k_164) (fun _ h9 => h9) rfl d_M_best_19 ?_
        refine lv_iload_n hx hb d_M_best_22 rfl (lv_at hl 1 rfl) ?_
        refine wn_lald (k := b) (v := wf b) hx hb hK hP 5 1 rfl rfl (by omega) (by decide) rfl d_M_best_23 ?_
        refine W.lcmp hx hb d_M_best_24 ?_
        refine lv_if_gt (tgt := 59) hx hb d_M_best_25 (by decide) (fun hc25 => ?_) (fun hc25 => ?_)
        · have hbet : wt_bet wf af j b = true := wt_bet_t1 (wt_cmpgt.mp hc25)
          refine lv_aload_n hx hb d_M_best_59 rfl (lv_at hl 2 rfl) ?_
          refine lv_iload_n hx hb d_M_best_60 rfl (lv_at hl 0 rfl) ?_
          refine ro_calli (ws := mo_ws a cI cJ cZ n pf ef gf tf af wf xf ts) (va_runV (As := [.int (nI j)]) (rest := []) ⟨hx, hb, hml, hown, hts⟩ (c_M_wrong l D cI cJ cZ a n pf ef gf tf af wf xf ts yf j hT hn (by omega) hWr) (wt_cwV 1 hts k_221 k_218 k_220 ks_2 k_3 rfl rfl (by decide +kernel) ⟨Nat.le_of_ble_eq_true rfl, Nat.le_of_ble_eq_true rfl⟩) (ro_preV (q := (R_M, F_M, 9)) (ci := 2) hK hP 0 rfl rfl) rfl rfl hl.1 rfl (lv_room (Nat.le_of_ble_eq_true rfl)) d_M_best_61 ⟨Nat.zero_le _, Nat.zero_le _⟩) hS hP (fun r H locs hr61 hP hS => ?_)
          subst hr61
          refine wb_if_ne (tgt := 69) hx hb d_M_best_64 (by decide) (fun hc64 => ?_) (fun hc64 => ?_)
          · rw [wt_bt_n (Or.inl hc64)] at hw
            refine lv_iinc (k := 0) (v := (nI (j + 1))) (lv' := [(2, .int (nI (j + 1))), (1, .int (nI b)), (0, .ref (a 0))]) hx hb d_M_best_69 hl rfl (wt_inc1 _) (by decide) rfl (fun ls hl => ?_)
            refine lv_goto (tgt := 4) hx hb d_M_best_72 (by decide) ?_
            have hl : lv_has ls 3 [(2, .int (nI (j + 1))), (1, .int (nI b)), (0, .ref (a 0))] := lv_sub hl [0, 1, 2] rfl
            exact ih (j + 1) b ls H locs (by omega) (by omega) hw hl hP hS
          · rw [wt_bt_y hc64 hbet] at hw
            refine lv_iload_n hx hb d_M_best_67 rfl (lv_at hl 0 rfl) ?_
            refine lv_istore_n (lv' := [(1, .int (nI j)), (2, .int (nI j)), (0, .ref (a 0))]) hx hb d_M_best_68 rfl hl (by decide) rfl (fun ls hl => ?_)
            refine lv_iinc (k := 1) (v := (nI (j + 1))) (lv' := [(2, .int (nI (j + 1))), (1, .int (nI j)), (0, .ref (a 0))]) hx hb d_M_best_69 hl rfl (wt_inc1 _) (by decide) rfl (fun ls hl => ?_)
            refine lv_goto (tgt := 4) hx hb d_M_best_72 (by decide) ?_
            have hl : lv_has ls 3 [(2, .int (nI (j + 1))), (1, .int (nI j)), (0, .ref (a 0))] := lv_sub hl [0, 1, 2] rfl
            exact ih (j + 1) j ls H locs (by omega) (by omega) hw hl hP hS
        · refine lv_aload_n hx hb d_M_best_28 rfl (lv_at hl 2 rfl) ?_
          refine va_get (D := D) (ci := 2) (v := .ref (a 5)) (C := R_M) (T := F_M) (N := 9) hx hb hts u_in_M hown hK hP 0 rfl rfl 4 (by decide) (hts _ k_164) (fun _ h9 => h9) rfl d_M_best_29 ?_
          refine lv_iload_n hx hb d_M_best_32 rfl (lv_at hl 0 rfl) ?_
          refine wn_lald (k := j) (v := wf j) hx hb hK hP 5 1 rfl rfl (by omega) (by decide) rfl d_M_best_33 ?_
          refine lv_aload_n hx hb d_M_best_34 rfl (lv_at hl 2 rfl) ?_
          refine va_get (D := D) (ci := 2) (v := .ref (a 5)) (C := R_M) (T := F_M) (N := 9) hx hb hts u_in_M hown hK hP 0 rfl rfl 4 (by decide) (hts _ k_164) (fun _ h9 => h9) rfl d_M_best_35 ?_
          refine lv_iload_n hx hb d_M_best_38 rfl (lv_at hl 1 rfl) ?_
          refine wn_lald (k := b) (v := wf b) hx hb hK hP 5 1 rfl rfl (by omega) (by decide) rfl d_M_best_39 ?_
          refine W.lcmp hx hb d_M_best_40 ?_
          refine lv_if_ne (tgt := 69) hx hb d_M_best_41 (by decide) (fun hc41 => ?_) (fun hc41 => ?_)
          · rw [wt_bt_n (Or.inr (wt_bet_f1 (fun z => hc25 (wt_cmpgt.mpr z)) (fun z => hc41 (wt_cmp0.mpr z))))] at hw
            refine lv_iinc (k := 0) (v := (nI (j + 1))) (lv' := [(2, .int (nI (j + 1))), (1, .int (nI b)), (0, .ref (a 0))]) hx hb d_M_best_69 hl rfl (wt_inc1 _) (by decide) rfl (fun ls hl => ?_)
            refine lv_goto (tgt := 4) hx hb d_M_best_72 (by decide) ?_
            have hl : lv_has ls 3 [(2, .int (nI (j + 1))), (1, .int (nI b)), (0, .ref (a 0))] := lv_sub hl [0, 1, 2] rfl
            exact ih (j + 1) b ls H locs (by omega) (by omega) hw hl hP hS
          · refine lv_aload_n hx hb d_M_best_44 rfl (lv_at hl 2 rfl) ?_
            refine va_get (D := D) (ci := 2) (v := .ref (a 6)) (C := R_M) (T := F_M) (N := 9) hx hb hts u_in_M hown hK hP 0 rfl rfl 5 (by decide) (hts _ k_165) (fun _ h9 => h9) rfl d_M_best_45 ?_
            refine lv_iload_n hx hb d_M_best_48 rfl (lv_at hl 0 rfl) ?_
            refine wn_iald (k := j) (v := (af j)) hx hb hK hP 6 0 rfl rfl (by omega) (by decide) rfl d_M_best_49 ?_
            refine lv_aload_n hx hb d_M_best_50 rfl (lv_at hl 2 rfl) ?_
            refine va_get (D := D) (ci := 2) (v := .ref (a 6)) (C := R_M) (T := F_M) (N := 9) hx hb hts u_in_M hown hK hP 0 rfl rfl 5 (by decide) (hts _ k_165) (fun _ h9 => h9) rfl d_M_best_51 ?_
            refine lv_iload_n hx hb d_M_best_54 rfl (lv_at hl 1 rfl) ?_
            refine wn_iald (k := b) (v := (af b)) hx hb hK hP 6 0 rfl rfl (by omega) (by decide) rfl d_M_best_55 ?_
            refine lv_icmp_ge (tgt := 69) hx hb d_M_best_56 (by decide) (fun hc56 => ?_) (fun hc56 => ?_)
            · rw [wt_bt_n (Or.inr (wt_bet_f2 (wt_irr (wt_cmp0.mp hc41)) (Int32.not_lt.mpr hc56)))] at hw
              refine lv_iinc (k := 0) (v := (nI (j + 1))) (lv' := [(2, .int (nI (j + 1))), (1, .int (nI b)), (0, .ref (a 0))]) hx hb d_M_best_69 hl rfl (wt_inc1 _) (by decide) rfl (fun ls hl => ?_)
              refine lv_goto (tgt := 4) hx hb d_M_best_72 (by decide) ?_
              have hl : lv_has ls 3 [(2, .int (nI (j + 1))), (1, .int (nI b)), (0, .ref (a 0))] := lv_sub hl [0, 1, 2] rfl
              exact ih (j + 1) b ls H locs (by omega) (by omega) hw hl hP hS
            · have hbet : wt_bet wf af j b = true := wt_bet_t2 (wt_cmp0.mp hc41) (Int32.not_le.mp hc56)
              refine lv_aload_n hx hb d_M_best_59 rfl (lv_at hl 2 rfl) ?_
              refine lv_iload_n hx hb d_M_best_60 rfl (lv_at hl 0 rfl) ?_
              refine ro_calli (ws := mo_ws a cI cJ cZ n pf ef gf tf af wf xf ts) (va_runV (As := [.int (nI j)]) (rest := []) ⟨hx, hb, hml, hown, hts⟩ (c_M_wrong l D cI cJ cZ a n pf ef gf tf af wf xf ts yf j hT hn (by omega) hWr) (wt_cwV 1 hts k_221 k_218 k_220 ks_2 k_3 rfl rfl (by decide +kernel) ⟨Nat.le_of_ble_eq_true rfl, Nat.le_of_ble_eq_true rfl⟩) (ro_preV (q := (R_M, F_M, 9)) (ci := 2) hK hP 0 rfl rfl) rfl rfl hl.1 rfl (lv_room (Nat.le_of_ble_eq_true rfl)) d_M_best_61 ⟨Nat.zero_le _, Nat.zero_le _⟩) hS hP (fun r H locs hr61 hP hS => ?_)
              subst hr61
              refine wb_if_ne (tgt := 69) hx hb d_M_best_64 (by decide) (fun hc64 => ?_) (fun hc64 => ?_)
              · rw [wt_bt_n (Or.inl hc64)] at hw
                refine lv_iinc (k := 0) (v := (nI (j + 1))) (lv' := [(2, .int (nI (j + 1))), (1, .int (nI b)), (0, .ref (a 0))]) hx hb d_M_best_69 hl rfl (wt_inc1 _) (by decide) rfl (fun ls hl => ?_)
                refine lv_goto (tgt := 4) hx hb d_M_best_72 (by decide) ?_
                have hl : lv_has ls 3 [(2, .int (nI (j + 1))), (1, .int (nI b)), (0, .ref (a 0))] := lv_sub hl [0, 1, 2] rfl
                exact ih (j + 1) b ls H locs (by omega) (by omega) hw hl hP hS
              · rw [wt_bt_y hc64 hbet] at hw
                refine lv_iload_n hx hb d_M_best_67 rfl (lv_at hl 0 rfl) ?_
                refine lv_istore_n (lv' := [(1, .int (nI j)), (2, .int (nI j)), (0, .ref (a 0))]) hx hb d_M_best_68 rfl hl (by decide) rfl (fun ls hl => ?_)
                refine lv_iinc (k := 1) (v := (nI (j + 1))) (lv' := [(2, .int (nI (j + 1))), (1, .int (nI j)), (0, .ref (a 0))]) hx hb d_M_best_69 hl rfl (wt_inc1 _) (by decide) rfl (fun ls hl => ?_)
                refine lv_goto (tgt := 4) hx hb d_M_best_72 (by decide) ?_
                have hl : lv_has ls 3 [(2, .int (nI (j + 1))), (1, .int (nI j)), (0, .ref (a 0))] := lv_sub hl [0, 1, 2] rfl
                exact ih (j + 1) j ls H locs (by omega) (by omega) hw hl hP hS
  refine lv_iconst (v := (nI 0)) hx hb d_M_best_0 (by decide +kernel) ?_
  refine lv_istore_n (lv' := [(1, .int (nI 0)), (0, .ref (a 0))]) hx hb d_M_best_1 rfl hl (by decide) rfl (fun ls hl => ?_)
  refine lv_iconst (v := (nI 1)) hx hb d_M_best_2 (by decide +kernel) ?_
  refine lv_istore_n (lv' := [(2, .int (nI 1)), (1, .int (nI 0)), (0, .ref (a 0))]) hx hb d_M_best_3 rfl hl (by decide) rfl (fun ls hl => ?_)
  have hl : lv_has ls 3 [(2, .int (nI 1)), (1, .int (nI 0)), (0, .ref (a 0))] := lv_sub hl [0, 1, 2] rfl
  exact loop (n - 1) 1 0 ls s.heap [] (by omega) (by omega) rfl hl hP hS
set_option maxHeartbeats 4000000 in
set_option maxRecDepth 100000 in
theorem c_M_fork (l : Launch) (D : va_G) (cI cJ cZ : ClassId) (a : Nat → Nat) (n : Nat) (pf ef gf : Nat → Nat) (tf af : Nat → Int32) (wf : Nat → Int64) (xf : Nat → Bool) (ts : Nat → Int32) (x y : Int32) (hT : Tr n pf ef) (hn : n ≤ 512) : Met l y_M_fork (Cond.code y_M_fork b_M_fork 5 (some .int) :: wt_ws) ({ frames := 1, cells := 0, slots := 0, locals := 21 } : Room) (ro_Pc [.ref (a 0), .int x, .int y] D (mo_ws a cI cJ cZ n pf ef gf tf af wf xf ts) (wt_ty cI cJ cZ)) (ro_Qi (fun r => r = wt_forkR n pf x y)) 0 0 (fun _ => False) := by
  refine Met.ofW (cc := b_M_fork) (maxL := 5) (ret := (some .int)) (by decide) rfl ?_
  intro pp ev s m args below meth c s₁ B hml hv
  obtain ⟨rfl, hP, hK⟩ := hv
  have hx := B.exec
  have hb := B.bytes
  have hr := B.returns
  have hts : ∀ w ∈ wt_ws, w.before ([.ref (a 0), .int x, .int y] : List Value).toArray s = true := fun w hw => atoms_spec (ws := Cond.code y_M_fork b_M_fork 5 (some .int) :: wt_ws) B.pre w (List.mem_cons_of_mem _ hw)
  have hown : s.vm.findClass R_M = some m.cls := findClass_of_methodNamed B.named
  have hlocks := B.notSynchronized
  have hS : va_S (fun _ => False) s.heap s.heap [] := va_S.rf
  have hl := lv_entry ([.ref (a 0), .int x, .int y]) (n := 5) (Nat.le_of_ble_eq_true rfl)
  rw [lg_entry_eq]
  generalize (lg_sl ([.ref (a 0), .int x, .int y]) ++ List.replicate (5 - (lg_sl ([.ref (a 0), .int x, .int y])).length) Slot.unset).toArray = ls at hl ⊢
  have hl : lv_has ls 5 [(0, .ref (a 0)), (1, .int x), (2, .int y)] := hl
  refine lv_aload_n hx hb d_M_fork_0 rfl (lv_at hl 0 rfl) ?_
  refine lv_iload_n hx hb d_M_fork_1 rfl (lv_at hl 1 rfl) ?_
  refine ro_calli (ws := mo_ws a cI cJ cZ n pf ef gf tf af wf xf ts) (va_runV (As := [.int x]) (rest := []) ⟨hx, hb, hml, hown, hts⟩ (c_M_is l D cI cJ cZ a n pf ef gf tf af wf xf ts x hn) (wt_cwV 1 hts k_195 k_192 k_194 ks_1 k_3 rfl rfl (by decide +kernel) ⟨Nat.le_of_ble_eq_true rfl, Nat.le_of_ble_eq_true rfl⟩) (ro_preV (q := (R_M, F_M, 9)) (ci := 2) hK hP 0 rfl rfl) rfl rfl hl.1 rfl (lv_room (Nat.le_of_ble_eq_true rfl)) d_M_fork_2 ⟨Nat.zero_le _, Nat.zero_le _⟩) hS hP (fun r H locs hr2 hP hS => ?_)
  subst hr2
  refine wb_if_eq (tgt := 16) hx hb d_M_fork_5 (by decide) (fun hc5 => ?_) (fun hc5 => ?_)
  · refine lv_bipush (v := ((-2))) hx hb d_M_fork_16 (by decide +kernel) ?_
    exact ro_iret hx hb hr hlocks hS (by rw [wt_forkR_1 (wt_ok_f hc5)]) d_M_fork_18
  · obtain ⟨u, hu, hxu⟩ := wt_ok_t hn hc5
    rw [hxu] at hl
    refine lv_aload_n hx hb d_M_fork_8 rfl (lv_at hl 0 rfl) ?_
    refine lv_iload_n hx hb d_M_fork_9 rfl (lv_at hl 2 rfl) ?_
    refine ro_calli (ws := mo_ws a cI cJ cZ n pf ef gf tf af wf xf ts) (va_runV (As := [.int y]) (rest := []) ⟨hx, hb, hml, hown, hts⟩ (c_M_is l D cI cJ cZ a n pf ef gf tf af wf xf ts y hn) (wt_cwV 1 hts k_195 k_192 k_194 ks_1 k_3 rfl rfl (by decide +kernel) ⟨Nat.le_of_ble_eq_true rfl, Nat.le_of_ble_eq_true rfl⟩) (ro_preV (q := (R_M, F_M, 9)) (ci := 2) hK hP 0 rfl rfl) rfl rfl hl.1 rfl (lv_room (Nat.le_of_ble_eq_true rfl)) d_M_fork_10 ⟨Nat.zero_le _, Nat.zero_le _⟩) hS hP (fun r H locs hr10 hP hS => ?_)
    subst hr10
    refine wb_if_ne (tgt := 19) hx hb d_M_fork_13 (by decide) (fun hc13 => ?_) (fun hc13 => ?_)
    · obtain ⟨v, hv, hyv⟩ := wt_ok_t hn hc13
      rw [hyv] at hl
      have loop : ∀ (q i j : Nat) (ls : Array Slot), i + j = q → i < n → j < n → wt_lc pf i j = wt_lc pf u v → lv_has ls 5 [(4, .int (nI j)), (3, .int (nI i)), (0, .ref (a 0))] → W pp l ev (headSpec (Cond.code y_M_fork b_M_fork 5 (some .int) :: wt_ws) ({ frames := 1, cells := 0, slots := 0, locals := 21 } : Room)).room s m ([.ref (a 0), .int x, .int y] : List Value).toArray below meth c H locs 0 0 (MQ below (ro_Qi (fun r => r = wt_forkR n pf x y)) ([.ref (a 0), .int x, .int y] : List Value).toArray s 0 0 (fun _ => False)) (F0 m 24 ls []) := by
        intro q
        induction q using Nat.strongRecOn with
        | ind q ih =>
          intro i j ls hq hi hj hw hl
          have hei := hT.le i hi
          have hej := hT.le j hj
          refine lv_iload_n hx hb d_M_fork_24 rfl (lv_at hl 1 rfl) ?_
          refine lv_iload hx hb d_M_fork_25 (lv_at hl 0 rfl) ?_
          refine wn_icmp_eq (tgt := 68) hx hb (by omega) (by omega) d_M_fork_27 (by decide) (fun hc27 => ?_) (fun hc27 => ?_)
          · refine lv_iload_n hx hb d_M_fork_68 rfl (lv_at hl 1 rfl) ?_
            exact ro_iret hx hb hr hlocks hS (by rw [hxu, hyv, wt_forkR_n hn hu hv, ← hw, hc27, wt_lc_self]) d_M_fork_69
          · refine lv_aload_n hx hb d_M_fork_30 rfl (lv_at hl 2 rfl) ?_
            refine va_get (D := D) (ci := 2) (v := .ref (a 2)) (C := R_M) (T := F_M) (N := 9) hx hb hts u_in_M hown hK hP 0 rfl rfl 1 (by decide) (hts _ k_161) (fun _ h9 => h9) rfl d_M_fork_31 ?_
            refine lv_iload_n hx hb d_M_fork_34 rfl (lv_at hl 1 rfl) ?_
            refine wn_iald (k := i) (v := (nI (ef i))) hx hb hK hP 2 0 rfl rfl (by omega) (by decide) rfl d_M_fork_35 ?_
            refine lv_aload_n hx hb d_M_fork_36 rfl (lv_at hl 2 rfl) ?_
            refine va_get (D := D) (ci := 2) (v := .ref (a 2)) (C := R_M) (T := F_M) (N := 9) hx hb hts u_in_M hown hK hP 0 rfl rfl 1 (by decide) (hts _ k_161) (fun _ h9 => h9) rfl d_M_fork_37 ?_
            refine lv_iload hx hb d_M_fork_40 (lv_at hl 0 rfl) ?_
            refine wn_iald (k := j) (v := (nI (ef j))) hx hb hK hP 2 0 rfl rfl (by omega) (by decide) rfl d_M_fork_42 ?_
            refine wn_icmp_lt (tgt := 56) hx hb (by omega) (by omega) d_M_fork_43 (by decide) (fun hc43 => ?_) (fun hc43 => ?_)
            · have hj1 := hT.pos hj (show 0 < ef j by omega)
              obtain ⟨hp1, -⟩ := hT.2 j hj1 hj
              rw [wt_lc_hlt hT hn _ i j (Nat.le_refl _) hi hj hc43] at hw
              refine lv_aload_n hx hb d_M_fork_56 rfl (lv_at hl 2 rfl) ?_
              refine va_get (D := D) (ci := 2) (v := .ref (a 1)) (C := R_M) (T := F_M) (N := 9) hx hb hts u_in_M hown hK hP 0 rfl rfl 0 (by decide) (hts _ k_160) (fun _ h9 => h9) rfl d_M_fork_57 ?_
              refine lv_iload hx hb d_M_fork_60 (lv_at hl 0 rfl) ?_
              refine wn_iald (k := j) (v := (nI (pf j))) hx hb hK hP 1 0 rfl rfl (by omega) (by decide) (ar_p_at (by omega)) d_M_fork_62 ?_
              refine lv_istore (lv' := [(4, .int (nI (pf j))), (3, .int (nI i)), (0, .ref (a 0))]) hx hb d_M_fork_63 hl (by decide) rfl (fun ls hl => ?_)
              refine lv_goto (tgt := 24) hx hb d_M_fork_65 (by decide) ?_
              have hl : lv_has ls 5 [(4, .int (nI (pf j))), (3, .int (nI i)), (0, .ref (a 0))] := lv_sub hl [0, 1, 2] rfl
              exact ih (i + (pf j)) (by omega) i (pf j) ls rfl (by omega) (by omega) hw hl
            · have hi1 : 1 ≤ i := by
                rcases Nat.eq_zero_or_pos i with h0 | h0
                · subst h0
                  rw [hT.1] at hc43
                  have := hT.2 j (by omega) hj
                  omega
                · exact h0
              obtain ⟨hp1, -⟩ := hT.2 i hi1 hi
              rw [wt_lc_hge hT hn _ i j (Nat.le_refl _) hi hj hc27 hc43] at hw
              refine lv_aload_n hx hb d_M_fork_46 rfl (lv_at hl 2 rfl) ?_
              refine va_get (D := D) (ci := 2) (v := .ref (a 1)) (C := R_M) (T := F_M) (N := 9) hx hb hts u_in_M hown hK hP 0 rfl rfl 0 (by decide) (hts _ k_160) (fun _ h9 => h9) rfl d_M_fork_47 ?_
              refine lv_iload_n hx hb d_M_fork_50 rfl (lv_at hl 1 rfl) ?_
              refine wn_iald (k := i) (v := (nI (pf i))) hx hb hK hP 1 0 rfl rfl (by omega) (by decide) (ar_p_at (by omega)) d_M_fork_51 ?_
              refine lv_istore_n (lv' := [(3, .int (nI (pf i))), (4, .int (nI j)), (0, .ref (a 0))]) hx hb d_M_fork_52 rfl hl (by decide) rfl (fun ls hl => ?_)
              refine lv_goto (tgt := 24) hx hb d_M_fork_53 (by decide) ?_
              have hl : lv_has ls 5 [(4, .int (nI j)), (3, .int (nI (pf i))), (0, .ref (a 0))] := lv_sub hl [1, 0, 2] rfl
              exact ih ((pf i) + j) (by omega) (pf i) j ls rfl (by omega) (by omega) hw hl
      refine lv_iload_n hx hb d_M_fork_19 rfl (lv_at hl 1 rfl) ?_
      refine lv_istore_n (lv' := [(3, .int (nI u)), (0, .ref (a 0)), (1, .int (nI u)), (2, .int (nI v))]) hx hb d_M_fork_20 rfl hl (by decide) rfl (fun ls hl => ?_)
      refine lv_iload_n hx hb d_M_fork_21 rfl (lv_at hl 3 rfl) ?_
      refine lv_istore (lv' := [(4, .int (nI v)), (3, .int (nI u)), (0, .ref (a 0)), (1, .int (nI u)), (2, .int (nI v))]) hx hb d_M_fork_22 hl (by decide) rfl (fun ls hl => ?_)
      have hl : lv_has ls 5 [(4, .int (nI v)), (3, .int (nI u)), (0, .ref (a 0))] := lv_sub hl [0, 1, 2] rfl
      exact loop (u + v) u v ls rfl hu hv rfl hl
    · refine lv_bipush (v := ((-2))) hx hb d_M_fork_16 (by decide +kernel) ?_
      exact ro_iret hx hb hr hlocks hS (by rw [wt_forkR_2 (wt_ok_f hc13)]) d_M_fork_18
set_option maxHeartbeats 4000000 in
set_option maxRecDepth 100000 in
theorem c_M_due (l : Launch) (D : va_G) (cI cJ cZ : ClassId) (a : Nat → Nat) (n : Nat) (pf ef gf : Nat → Nat) (tf af : Nat → Int32) (wf : Nat → Int64) (xf : Nat → Bool) (ts : Nat → Int32) (x : Int32) (hT : Tr n pf ef) (hg : Tg n gf) (hn : n ≤ 512) : Met l y_M_due (Cond.code y_M_due b_M_due 5 (some .int) :: wt_ws) ({ frames := 2, cells := 0, slots := 0, locals := 44 } : Room) (ro_Pc [.ref (a 0), .int x] D (mo_ws a cI cJ cZ n pf ef gf tf af wf xf ts) (wt_ty cI cJ cZ)) (ro_Qi (fun r => r = wt_dueR n pf ef gf tf x)) 0 0 (fun _ => False) := by
  refine Met.ofW (cc := b_M_due) (maxL := 5) (ret := (some .int)) (by decide) rfl ?_
  intro pp ev s m args below meth c s₁ B hml hv
  obtain ⟨rfl, hP, hK⟩ := hv
  have hx := B.exec
  have hb := B.bytes
  have hr := B.returns
  have hts : ∀ w ∈ wt_ws, w.before ([.ref (a 0), .int x] : List Value).toArray s = true := fun w hw => atoms_spec (ws := Cond.code y_M_due b_M_due 5 (some .int) :: wt_ws) B.pre w (List.mem_cons_of_mem _ hw)
  have hown : s.vm.findClass R_M = some m.cls := findClass_of_methodNamed B.named
  have hlocks := B.notSynchronized
  have hS : va_S (fun _ => False) s.heap s.heap [] := va_S.rf
  have hl := lv_entry ([.ref (a 0), .int x]) (n := 5) (Nat.le_of_ble_eq_true rfl)
  rw [lg_entry_eq]
  generalize (lg_sl ([.ref (a 0), .int x]) ++ List.replicate (5 - (lg_sl ([.ref (a 0), .int x])).length) Slot.unset).toArray = ls at hl ⊢
  have hl : lv_has ls 5 [(0, .ref (a 0)), (1, .int x)] := hl
  refine lv_aload_n hx hb d_M_due_0 rfl (lv_at hl 0 rfl) ?_
  refine lv_iload_n hx hb d_M_due_1 rfl (lv_at hl 1 rfl) ?_
  refine ro_calli (ws := mo_ws a cI cJ cZ n pf ef gf tf af wf xf ts) (va_runV (As := [.int x]) (rest := []) ⟨hx, hb, hml, hown, hts⟩ (c_M_is l D cI cJ cZ a n pf ef gf tf af wf xf ts x hn) (wt_cwV 1 hts k_195 k_192 k_194 ks_1 k_3 rfl rfl (by decide +kernel) ⟨Nat.le_of_ble_eq_true rfl, Nat.le_of_ble_eq_true rfl⟩) (ro_preV (q := (R_M, F_M, 9)) (ci := 2) hK hP 0 rfl rfl) rfl rfl hl.1 rfl (lv_room (Nat.le_of_ble_eq_true rfl)) d_M_due_2 ⟨Nat.zero_le _, Nat.zero_le _⟩) hS hP (fun r H locs hr2 hP hS => ?_)
  subst hr2
  refine wb_if_ne (tgt := 11) hx hb d_M_due_5 (by decide) (fun hc5 => ?_) (fun hc5 => ?_)
  · obtain ⟨k, hk, hxk⟩ := wt_ok_t hn hc5
    rw [hxk] at hl
    have hek := hT.le k hk
    have hgk := hg k hk
    have hak := wt_anc_le hT (ef k + 1 - 8) 512 k hk
    refine lv_aload_n hx hb d_M_due_11 rfl (lv_at hl 0 rfl) ?_
    refine va_get (D := D) (ci := 2) (v := .ref (a 4)) (C := R_M) (T := F_M) (N := 9) hx hb hts u_in_M hown hK hP 0 rfl rfl 3 (by decide) (hts _ k_163) (fun _ h9 => h9) rfl d_M_due_12 ?_
    refine lv_iload_n hx hb d_M_due_15 rfl (lv_at hl 1 rfl) ?_
    refine wn_iald (k := k) (v := (nI (gf k))) hx hb hK hP 4 0 rfl rfl (by omega) (by decide) rfl d_M_due_16 ?_
    refine lv_istore_n (lv' := [(2, .int (nI (gf k))), (0, .ref (a 0)), (1, .int (nI k))]) hx hb d_M_due_17 rfl hl (by decide) rfl (fun ls hl => ?_)
    refine lv_aload_n hx hb d_M_due_18 rfl (lv_at hl 1 rfl) ?_
    refine va_get (D := D) (ci := 2) (v := .ref (a 2)) (C := R_M) (T := F_M) (N := 9) hx hb hts u_in_M hown hK hP 0 rfl rfl 1 (by decide) (hts _ k_161) (fun _ h9 => h9) rfl d_M_due_19 ?_
    refine lv_iload_n hx hb d_M_due_22 rfl (lv_at hl 2 rfl) ?_
    refine wn_iald (k := k) (v := (nI (ef k))) hx hb hK hP 2 0 rfl rfl (by omega) (by decide) rfl d_M_due_23 ?_
    refine lv_iconst (v := (nI 1)) hx hb d_M_due_24 (by decide +kernel) ?_
    refine wn_iadd hx hb d_M_due_25 ?_
    refine lv_istore_n (lv' := [(3, .int (nI ((ef k) + 1))), (2, .int (nI (gf k))), (0, .ref (a 0)), (1, .int (nI k))]) hx hb d_M_due_26 rfl hl (by decide) rfl (fun ls hl => ?_)
    refine lv_iload_n hx hb d_M_due_27 rfl (lv_at hl 0 rfl) ?_
    refine lv_bipush (v := (nI 8)) hx hb d_M_due_28 (by decide +kernel) ?_
    refine wn_irem hx hb (by omega) (by omega) (by omega) d_M_due_30 ?_
    refine wn_if_eq (tgt := 36) hx hb (by omega) d_M_due_31 (by decide) (fun hc31 => ?_) (fun hc31 => ?_)
    · refine lv_aload_n hx hb d_M_due_36 rfl (lv_at hl 2 rfl) ?_
      refine va_get (D := D) (ci := 2) (v := .ref (a 3)) (C := R_M) (T := F_M) (N := 9) hx hb hts u_in_M hown hK hP 0 rfl rfl 2 (by decide) (hts _ k_162) (fun _ h9 => h9) rfl d_M_due_37 ?_
      refine lv_iload_n hx hb d_M_due_40 rfl (lv_at hl 3 rfl) ?_
      refine wn_iald (k := k) (v := (tf k)) hx hb hK hP 3 0 rfl rfl (by omega) (by decide) rfl d_M_due_41 ?_
      refine lv_aload_n hx hb d_M_due_42 rfl (lv_at hl 2 rfl) ?_
      refine va_get (D := D) (ci := 2) (v := .ref (a 3)) (C := R_M) (T := F_M) (N := 9) hx hb hts u_in_M hown hK hP 0 rfl rfl 2 (by decide) (hts _ k_162) (fun _ h9 => h9) rfl d_M_due_43 ?_
      refine lv_aload_n hx hb d_M_due_46 rfl (lv_at hl 2 rfl) ?_
      refine lv_iload_n hx hb d_M_due_47 rfl (lv_at hl 3 rfl) ?_
      refine lv_iload_n hx hb d_M_due_48 rfl (lv_at hl 0 rfl) ?_
      refine lv_bipush (v := (nI 8)) hx hb d_M_due_49 (by decide +kernel) ?_
      refine wn_isub hx hb (by omega) d_M_due_51 ?_
      refine ro_calli (ws := mo_ws a cI cJ cZ n pf ef gf tf af wf xf ts) (va_runV (As := [.int (nI k), .int (nI (((ef k) + 1) - 8))]) (rest := [.ref (a 3), .int (tf k)]) ⟨hx, hb, hml, hown, hts⟩ (c_M_ancestor l D cI cJ cZ a n pf ef gf tf af wf xf ts (nI k) (nI (ef k + 1 - 8)) hT hn) (wt_cwV 2 hts k_207 k_204 k_205 k_206 k_3 rfl rfl (by decide +kernel) ⟨Nat.le_of_ble_eq_true rfl, Nat.le_of_ble_eq_true rfl⟩) (ro_preV (q := (R_M, F_M, 9)) (ci := 2) hK hP 0 rfl rfl) rfl rfl hl.1 rfl (lv_room (Nat.le_of_ble_eq_true rfl)) d_M_due_52 ⟨Nat.zero_le _, Nat.zero_le _⟩) hS hP (fun r H locs hr52 hP hS => ?_)
      subst hr52
      rw [wt_ancR_n hn hk (by omega) (by omega)]
      refine wn_iald (k := wt_anc pf ef (ef k + 1 - 8) 512 k) (v := (tf (wt_anc pf ef (ef k + 1 - 8) 512 k))) hx hb hK hP 3 0 rfl rfl (by omega) (by decide) rfl d_M_due_55 ?_
      refine lv_isub hx hb d_M_due_56 ?_
      refine lv_topi (fun sp hsp => ?_)
      have hcs := wt_clS_in sp
      have hmul : gf k * wt_clS sp ≤ 65535 * 320 := Nat.mul_le_mul hgk.2 hcs.2
      have hdv : wt_dueR n pf ef gf tf x = nI (wt_clT (gf k * wt_clS sp / 80)) := by rw [hxk, wt_dueR_n hn hk]; unfold wt_due; rw [if_pos hc31, ← hsp]
      have tail : ∀ (ls : Array Slot), lv_has ls 5 [(4, .int (nI (wt_clS sp))), (2, .int (nI (gf k))), (0, .ref (a 0))] → W pp l ev (headSpec (Cond.code y_M_due b_M_due 5 (some .int) :: wt_ws) ({ frames := 2, cells := 0, slots := 0, locals := 44 } : Room)).room s m ([.ref (a 0), .int x] : List Value).toArray below meth c H locs 0 0 (MQ below (ro_Qi (fun r => r = wt_dueR n pf ef gf tf x)) ([.ref (a 0), .int x] : List Value).toArray s 0 0 (fun _ => False)) (F0 m 83 ls []) := by
        intro ls hl
        refine lv_iload_n hx hb d_M_due_83 rfl (lv_at hl 1 rfl) ?_
        refine lv_iload hx hb d_M_due_84 (lv_at hl 0 rfl) ?_
        refine wn_imul hx hb d_M_due_86 ?_
        refine lv_bipush (v := (nI 80)) hx hb d_M_due_87 (by decide +kernel) ?_
        refine wn_idiv hx hb (by omega) (by omega) (by omega) d_M_due_89 ?_
        refine lv_istore_n (lv' := [(2, .int (nI (((gf k) * (wt_clS sp)) / 80))), (4, .int (nI (wt_clS sp))), (0, .ref (a 0))]) hx hb d_M_due_90 rfl hl (by decide) rfl (fun ls hl => ?_)
        refine lv_iload_n hx hb d_M_due_91 rfl (lv_at hl 0 rfl) ?_
        refine lv_sipush (v := (nI 2048)) hx hb d_M_due_92 (by decide +kernel) ?_
        refine wn_icmp_ge (tgt := 104) hx hb (by omega) (by omega) d_M_due_95 (by decide) (fun hc95 => ?_) (fun hc95 => ?_)
        · refine lv_iload_n hx hb d_M_due_104 rfl (lv_at hl 0 rfl) ?_
          refine lv_ldc (v := 65535) hx hb hown (hts _ k_208) d_M_due_105 ?_
          refine wt_top (v := nI 65535) (by decide +kernel) ?_
          refine wn_icmp_le (tgt := 115) hx hb (by omega) (by omega) d_M_due_107 (by decide) (fun hc107 => ?_) (fun hc107 => ?_)
          · refine lv_iload_n hx hb d_M_due_115 rfl (lv_at hl 0 rfl) ?_
            exact ro_iret hx hb hr hlocks hS (by rw [hdv]; unfold wt_clT; rw [if_neg (by omega), if_neg (by omega)]) d_M_due_116
          · refine lv_ldc (v := 65535) hx hb hown (hts _ k_208) d_M_due_110 ?_
            refine wt_top (v := nI 65535) (by decide +kernel) ?_
            refine lv_goto (tgt := 116) hx hb d_M_due_112 (by decide) ?_
            exact ro_iret hx hb hr hlocks hS (by rw [hdv]; unfold wt_clT; rw [if_neg (by omega), if_pos hc107]) d_M_due_116
        · refine lv_sipush (v := (nI 2048)) hx hb d_M_due_98 (by decide +kernel) ?_
          refine lv_goto (tgt := 116) hx hb d_M_due_101 (by decide) ?_
          exact ro_iret hx hb hr hlocks hS (by rw [hdv]; unfold wt_clT; rw [if_pos hc95]) d_M_due_116
      refine lv_istore (lv' := [(4, .int sp), (3, .int (nI ((ef k) + 1))), (2, .int (nI (gf k))), (0, .ref (a 0)), (1, .int (nI k))]) hx hb d_M_due_57 hl (by decide) rfl (fun ls hl => ?_)
      refine lv_iload hx hb d_M_due_59 (lv_at hl 0 rfl) ?_
      refine lv_bipush (v := (nI 20)) hx hb d_M_due_61 (by decide +kernel) ?_
      refine lv_icmp_ge (tgt := 70) hx hb d_M_due_63 (by decide) (fun hc63 => ?_) (fun hc63 => ?_)
      · refine lv_iload hx hb d_M_due_70 (lv_at hl 0 rfl) ?_
        refine lv_sipush (v := (nI 320)) hx hb d_M_due_72 (by decide +kernel) ?_
        refine lv_icmp_le (tgt := 83) hx hb d_M_due_75 (by decide) (fun hc75 => ?_) (fun hc75 => ?_)
        · have hl : lv_has ls 5 [(4, .int sp), (2, .int (nI (gf k))), (0, .ref (a 0))] := lv_sub hl [0, 2, 3] rfl
          rw [wt_clS_c hc63 hc75] at hl
          exact tail ls hl
        · refine lv_sipush (v := (nI 320)) hx hb d_M_due_78 (by decide +kernel) ?_
          refine lv_istore (lv' := [(4, .int (nI 320)), (3, .int (nI ((ef k) + 1))), (2, .int (nI (gf k))), (0, .ref (a 0)), (1, .int (nI k))]) hx hb d_M_due_81 hl (by decide) rfl (fun ls hl => ?_)
          have hl : lv_has ls 5 [(4, .int (nI 320)), (2, .int (nI (gf k))), (0, .ref (a 0))] := lv_sub hl [0, 2, 3] rfl
          exact tail ls (by rw [wt_clS_b hc63 hc75]; exact hl)
      · refine lv_bipush (v := (nI 20)) hx hb d_M_due_66 (by decide +kernel) ?_
        refine lv_istore (lv' := [(4, .int (nI 20)), (3, .int (nI ((ef k) + 1))), (2, .int (nI (gf k))), (0, .ref (a 0)), (1, .int (nI k))]) hx hb d_M_due_68 hl (by decide) rfl (fun ls hl => ?_)
        refine lv_iload hx hb d_M_due_70 (lv_at hl 0 rfl) ?_
        refine lv_sipush (v := (nI 320)) hx hb d_M_due_72 (by decide +kernel) ?_
        refine wn_icmp_le (tgt := 83) hx hb (by omega) (by omega) d_M_due_75 (by decide) (fun hc75 => ?_) (fun hc75 => ?_)
        · have hl : lv_has ls 5 [(4, .int (nI 20)), (2, .int (nI (gf k))), (0, .ref (a 0))] := lv_sub hl [0, 2, 3] rfl
          exact tail ls (by rw [wt_clS_a hc63]; exact hl)
        · omega
    · refine lv_iload_n hx hb d_M_due_34 rfl (lv_at hl 1 rfl) ?_
      exact ro_iret hx hb hr hlocks hS (by rw [hxk, wt_dueR_n hn hk]; unfold wt_due; rw [if_neg hc31]) d_M_due_35
  · refine lv_bipush (v := ((-2))) hx hb d_M_due_8 (by decide +kernel) ?_
    exact ro_iret hx hb hr hlocks hS (by rw [wt_dueR_0 (wt_ok_f hc5)]) d_M_due_10
end
section
set_option maxHeartbeats 4000000 in
set_option maxRecDepth 100000 in
theorem c_M_median (l : Launch) (D : va_G) (cI cJ cZ : ClassId) (a : Nat → Nat) (n : Nat) (pf ef gf : Nat → Nat) (tf af : Nat → Int32) (wf : Nat → Int64) (xf : Nat → Bool) (ts : Nat → Int32) (sz : Nat) (x : Int32) (hT : Tr n pf ef) (hn : n ≤ 512) : Met l y_M_median (Cond.code y_M_median b_M_median 5 (some .int) :: wt_ws) ({ frames := 1, cells := 0, slots := 0, locals := 21 } : Room) (mu_Pc [.ref (a 0), .int x] D (mo_ws a cI cJ cZ n pf ef gf tf af wf xf ts) (wt_ty cI cJ cZ) sz) (mu_Qi (S := Nat → Int32) (fun r u => (r, u) = wt_medF n pf tf ts x) D (fun u => mo_ws a cI cJ cZ n pf ef gf tf af wf xf u) (mo_ws a cI cJ cZ n pf ef gf tf af wf xf ts) sz) 0 0 (va_A (mo_ws a cI cJ cZ n pf ef gf tf af wf xf ts) sz) := by
  refine Met.ofW (cc := b_M_median) (maxL := 5) (ret := (some .int)) (by decide) rfl ?_
  intro pp ev s m args below meth c s₁ B hml hv
  obtain ⟨rfl, hsz, hP, hK, hD0⟩ := hv
  have hx := B.exec
  have hb := B.bytes
  have hr := B.returns
  have hts : ∀ w ∈ wt_ws, w.before ([.ref (a 0), .int x] : List Value).toArray s = true := fun w hw => atoms_spec (ws := Cond.code y_M_median b_M_median 5 (some .int) :: wt_ws) B.pre w (List.mem_cons_of_mem _ hw)
  have hown : s.vm.findClass R_M = some m.cls := findClass_of_methodNamed B.named
  have hlocks := B.notSynchronized
  subst hsz
  have hD := hD0.self (sz := s.heap.size)
  have hA : ∀ q, s.heap.size ≤ q → va_A (mo_ws a cI cJ cZ n pf ef gf tf af wf xf ts) s.heap.size q := fun q h => Or.inr h
  have hS : va_S (va_A (mo_ws a cI cJ cZ n pf ef gf tf af wf xf ts) s.heap.size) s.heap s.heap [] := va_S.rf
  have hl := lv_entry ([.ref (a 0), .int x]) (n := 5) (Nat.le_of_ble_eq_true rfl)
  rw [lg_entry_eq]
  generalize (lg_sl ([.ref (a 0), .int x]) ++ List.replicate (5 - (lg_sl ([.ref (a 0), .int x])).length) Slot.unset).toArray = ls at hl ⊢
  have hl : lv_has ls 5 [(0, .ref (a 0)), (1, .int x)] := hl
  refine lv_aload_n hx hb d_M_median_0 rfl (lv_at hl 0 rfl) ?_
  refine lv_iload_n hx hb d_M_median_1 rfl (lv_at hl 1 rfl) ?_
  refine ro_calli (ws := mo_ws a cI cJ cZ n pf ef gf tf af wf xf ts) (va_runV (As := [.int x]) (rest := []) ⟨hx, hb, hml, hown, hts⟩ (c_M_is l D cI cJ cZ a n pf ef gf tf af wf xf ts x hn) (wt_cwV 1 hts k_195 k_192 k_194 ks_1 k_3 rfl rfl (by decide +kernel) ⟨Nat.le_of_ble_eq_true rfl, Nat.le_of_ble_eq_true rfl⟩) (ro_preV (q := (R_M, F_M, 9)) (ci := 2) hK hP 0 rfl rfl) rfl rfl hl.1 rfl (lv_room (Nat.le_of_ble_eq_true rfl)) d_M_median_2 ⟨Nat.zero_le _, Nat.zero_le _⟩) hS hP (fun r H locs hr2 hP hS => ?_)
  subst hr2
  refine wb_if_ne (tgt := 11) hx hb d_M_median_5 (by decide) (fun hc5 => ?_) (fun hc5 => ?_)
  · obtain ⟨k, hk, hxk⟩ := wt_ok_t hn hc5
    rw [hxk] at hl
    have hexit : ∀ (q : Nat) (tz : Nat → Int32) (ls : Array Slot) (H : Heap) (locs : List Loc), 1 ≤ q → q ≤ 7 → (tz, q) = wt_md pf tf 7 k 0 ts → lv_has ls 5 [(2, .int (nI q)), (0, .ref (a 0))] → va_P D classes (mo_ws a cI cJ cZ n pf ef gf tf af wf xf tz) H → va_D (va_A (mo_ws a cI cJ cZ n pf ef gf tf af wf xf ts) s.heap.size) (mo_ws a cI cJ cZ n pf ef gf tf af wf xf tz) → va_S (va_A (mo_ws a cI cJ cZ n pf ef gf tf af wf xf ts) s.heap.size) s.heap H locs → W pp l ev (headSpec (Cond.code y_M_median b_M_median 5 (some .int) :: wt_ws) ({ frames := 1, cells := 0, slots := 0, locals := 21 } : Room)).room s m ([.ref (a 0), .int x] : List Value).toArray below meth c H locs 0 0 (MQ below (mu_Qi (S := Nat → Int32) (fun r u => (r, u) = wt_medF n pf tf ts x) D (fun u => mo_ws a cI cJ cZ n pf ef gf tf af wf xf u) (mo_ws a cI cJ cZ n pf ef gf tf af wf xf ts) s.heap.size) ([.ref (a 0), .int x] : List Value).toArray s 0 0 (va_A (mo_ws a cI cJ cZ n pf ef gf tf af wf xf ts) s.heap.size)) (F0 m 99 ls []) := by
      intro q tz ls H locs hq1 hq7 hw hl hP hD hS
      refine lv_aload_n hx hb d_M_median_99 rfl (lv_at hl 1 rfl) ?_
      refine va_get (D := D) (ci := 2) (v := .ref (a 8)) (C := R_M) (T := F_M) (N := 9) hx hb hts u_in_M hown hK hP 0 rfl rfl 7 (by decide) (hts _ k_167) (fun _ h9 => h9) rfl d_M_median_100 ?_
      refine lv_iload_n hx hb d_M_median_103 rfl (lv_at hl 0 rfl) ?_
      refine lv_iconst (v := (nI 2)) hx hb d_M_median_104 (by decide +kernel) ?_
      refine wn_idiv hx hb (by omega) (by omega) (by omega) d_M_median_105 ?_
      refine wn_iald (k := q / 2) (v := (tz (q / 2))) hx hb hK hP 8 0 rfl rfl (by omega) (by decide) rfl d_M_median_106 ?_
      have g1 : tz = wt_medT pf tf k ts := congrArg Prod.fst hw
      have g2 : tz (q / 2) = wt_medR pf tf k ts := by unfold wt_medR; rw [← hw]
      rw [g1] at hP hD
      exact mu_iret (wt_medT pf tf k ts) hx hb hr hlocks hS hP hD (by rw [hxk, wt_medF_n hn hk, g2]) d_M_median_107
    have loop : ∀ (f q j : Nat) (tz : Nat → Int32) (ls : Array Slot) (H : Heap) (locs : List Loc), q + f = 7 → j < n → wt_md pf tf f j q tz = wt_md pf tf 7 k 0 ts → lv_has ls 5 [(3, .int (nI j)), (2, .int (nI q)), (0, .ref (a 0))] → va_P D classes (mo_ws a cI cJ cZ n pf ef gf tf af wf xf tz) H → va_D (va_A (mo_ws a cI cJ cZ n pf ef gf tf af wf xf ts) s.heap.size) (mo_ws a cI cJ cZ n pf ef gf tf af wf xf tz) → va_S (va_A (mo_ws a cI cJ cZ n pf ef gf tf af wf xf ts) s.heap.size) s.heap H locs → W pp l ev (headSpec (Cond.code y_M_median b_M_median 5 (some .int) :: wt_ws) ({ frames := 1, cells := 0, slots := 0, locals := 21 } : Room)).room s m ([.ref (a 0), .int x] : List Value).toArray below meth c H locs 0 0 (MQ below (mu_Qi (S := Nat → Int32) (fun r u => (r, u) = wt_medF n pf tf ts x) D (fun u => mo_ws a cI cJ cZ n pf ef gf tf af wf xf u) (mo_ws a cI cJ cZ n pf ef gf tf af wf xf ts) s.heap.size) ([.ref (a 0), .int x] : List Value).toArray s 0 0 (va_A (mo_ws a cI cJ cZ n pf ef gf tf af wf xf ts) s.heap.size)) (F0 m 15 ls []) := by
      intro f
      induction f with
      | zero =>
        intro q j tz ls H locs hq hj hw hl hP hD hS
        obtain rfl : q = 7 := by omega
        refine lv_iload_n hx hb d_M_median_15 rfl (lv_at hl 0 rfl) ?_
        refine wn_if_lt (tgt := 99) hx hb (by omega) d_M_median_16 (by decide) (fun hc16 => ?_) (fun hc16 => ?_)
        · exact hc16.elim
        · refine lv_iload_n hx hb d_M_median_19 rfl (lv_at hl 1 rfl) ?_
          refine lv_bipush (v := (nI 7)) hx hb d_M_median_20 (by decide +kernel) ?_
          refine wn_icmp_ge (tgt := 99) hx hb (by omega) (by omega) d_M_median_22 (by decide) (fun hc22 => ?_) (fun hc22 => ?_)
          · have hl : lv_has ls 5 [(2, .int (nI 7)), (0, .ref (a 0))] := lv_sub hl [1, 2] rfl
            exact hexit 7 tz ls H locs (by decide) (by decide) hw hl hP hD hS
          · omega
      | succ f ih =>
        intro q j tz ls H locs hq hj hw hl hP hD hS
        refine lv_iload_n hx hb d_M_median_15 rfl (lv_at hl 0 rfl) ?_
        refine wn_if_lt (tgt := 99) hx hb (by omega) d_M_median_16 (by decide) (fun hc16 => ?_) (fun hc16 => ?_)
        · exact hc16.elim
        · refine lv_iload_n hx hb d_M_median_19 rfl (lv_at hl 1 rfl) ?_
          refine lv_bipush (v := (nI 7)) hx hb d_M_median_20 (by decide +kernel) ?_
          refine wn_icmp_ge (tgt := 99) hx hb (by omega) (by omega) d_M_median_22 (by decide) (fun hc22 => ?_) (fun hc22 => ?_)
          · omega
          · refine lv_iload_n hx hb d_M_median_25 rfl (lv_at hl 1 rfl) ?_
            refine lv_istore (lv' := [(4, .int (nI q)), (3, .int (nI j)), (2, .int (nI q)), (0, .ref (a 0))]) hx hb d_M_median_26 hl (by decide) rfl (fun ls hl => ?_)
            have hst : ∀ (i : Nat) (ty : Nat → Int32) (ls : Array Slot) (H : Heap) (locs : List Loc), i ≤ q → va_up ty i (tf j) = wt_ins (tf j) q tz → lv_has ls 5 [(4, .int (nI i)), (3, .int (nI j)), (2, .int (nI q)), (0, .ref (a 0))] → va_P D classes (mo_ws a cI cJ cZ n pf ef gf tf af wf xf ty) H → va_D (va_A (mo_ws a cI cJ cZ n pf ef gf tf af wf xf ts) s.heap.size) (mo_ws a cI cJ cZ n pf ef gf tf af wf xf ty) → va_S (va_A (mo_ws a cI cJ cZ n pf ef gf tf af wf xf ts) s.heap.size) s.heap H locs → W pp l ev (headSpec (Cond.code y_M_median b_M_median 5 (some .int) :: wt_ws) ({ frames := 1, cells := 0, slots := 0, locals := 21 } : Room)).room s m ([.ref (a 0), .int x] : List Value).toArray below meth c H locs 0 0 (MQ below (mu_Qi (S := Nat → Int32) (fun r u => (r, u) = wt_medF n pf tf ts x) D (fun u => mo_ws a cI cJ cZ n pf ef gf tf af wf xf u) (mo_ws a cI cJ cZ n pf ef gf tf af wf xf ts) s.heap.size) ([.ref (a 0), .int x] : List Value).toArray s 0 0 (va_A (mo_ws a cI cJ cZ n pf ef gf tf af wf xf ts) s.heap.size)) (F0 m 73 ls []) := by
              intro i ty ls H locs hi hu hl hP hD hS
              refine lv_aload_n hx hb d_M_median_73 rfl (lv_at hl 3 rfl) ?_
              refine va_get (D := D) (ci := 2) (v := .ref (a 8)) (C := R_M) (T := F_M) (N := 9) hx hb hts u_in_M hown hK hP 0 rfl rfl 7 (by decide) (hts _ k_167) (fun _ h9 => h9) rfl d_M_median_74 ?_
              refine lv_iload hx hb d_M_median_77 (lv_at hl 0 rfl) ?_
              refine lv_aload_n hx hb d_M_median_79 rfl (lv_at hl 3 rfl) ?_
              refine va_get (D := D) (ci := 2) (v := .ref (a 3)) (C := R_M) (T := F_M) (N := 9) hx hb hts u_in_M hown hK hP 0 rfl rfl 2 (by decide) (hts _ k_162) (fun _ h9 => h9) rfl d_M_median_80 ?_
              refine lv_iload_n hx hb d_M_median_83 rfl (lv_at hl 1 rfl) ?_
              refine wn_iald (k := j) (v := (tf j)) hx hb hK hP 3 0 rfl rfl (by omega) (by decide) rfl d_M_median_84 ?_
              refine wn_iast (ws' := mo_ws a cI cJ cZ n pf ef gf tf af wf xf (va_up ty i (tf j))) (k := i) hx hb hK hP hD hS 8 0 rfl rfl (by omega) (by decide) rfl rfl d_M_median_85 (fun H locs hP hD hS => ?_)
              refine lv_iinc (k := 2) (v := (nI (q + 1))) (lv' := [(2, .int (nI (q + 1))), (4, .int (nI i)), (3, .int (nI j)), (0, .ref (a 0))]) hx hb d_M_median_86 hl rfl (wt_inc1 _) (by decide) rfl (fun ls hl => ?_)
              refine lv_aload_n hx hb d_M_median_89 rfl (lv_at hl 3 rfl) ?_
              refine va_get (D := D) (ci := 2) (v := .ref (a 1)) (C := R_M) (T := F_M) (N := 9) hx hb hts u_in_M hown hK hP 0 rfl rfl 0 (by decide) (hts _ k_160) (fun _ h9 => h9) rfl d_M_median_90 ?_
              refine lv_iload_n hx hb d_M_median_93 rfl (lv_at hl 2 rfl) ?_
              rw [hu] at hP hD
              by_cases hj0 : j = 0
              · subst hj0
                rw [wt_md_s, if_pos rfl] at hw
                refine wn_iald (k := 0) (v := ((-2))) hx hb hK hP 1 0 rfl rfl (by omega) (by decide) ar_p_0 d_M_median_94 ?_
                refine lv_istore_n (lv' := [(3, .int ((-2))), (2, .int (nI (q + 1))), (4, .int (nI i)), (0, .ref (a 0))]) hx hb d_M_median_95 rfl hl (by decide) rfl (fun ls hl => ?_)
                refine lv_goto (tgt := 15) hx hb d_M_median_96 (by decide) ?_
                refine lv_iload_n hx hb d_M_median_15 rfl (lv_at hl 0 rfl) ?_
                refine lv_if_lt (tgt := 99) hx hb d_M_median_16 (by decide) (fun _ => ?_) (fun z => absurd (by decide +kernel) z)
                have hl : lv_has ls 5 [(2, .int (nI (q + 1))), (0, .ref (a 0))] := lv_sub hl [1, 3] rfl
                exact hexit (q + 1) _ ls H locs (by omega) (by omega) hw hl hP hD hS
              · rw [wt_md_s, if_neg hj0] at hw
                obtain ⟨hp1, -⟩ := hT.2 j (by omega) hj
                refine wn_iald (k := j) (v := (nI (pf j))) hx hb hK hP 1 0 rfl rfl (by omega) (by decide) (ar_p_at (by omega)) d_M_median_94 ?_
                refine lv_istore_n (lv' := [(3, .int (nI (pf j))), (2, .int (nI (q + 1))), (4, .int (nI i)), (0, .ref (a 0))]) hx hb d_M_median_95 rfl hl (by decide) rfl (fun ls hl => ?_)
                refine lv_goto (tgt := 15) hx hb d_M_median_96 (by decide) ?_
                have hl : lv_has ls 5 [(3, .int (nI (pf j))), (2, .int (nI (q + 1))), (0, .ref (a 0))] := lv_sub hl [0, 1, 3] rfl
                exact ih (q + 1) (pf j) _ ls H locs (by omega) (by omega) hw hl hP hD hS
            have inner : ∀ (i : Nat) (ty : Nat → Int32) (ls : Array Slot) (H : Heap) (locs : List Loc), i ≤ q → wt_ins (tf j) i ty = wt_ins (tf j) q tz → lv_has ls 5 [(4, .int (nI i)), (3, .int (nI j)), (2, .int (nI q)), (0, .ref (a 0))] → va_P D classes (mo_ws a cI cJ cZ n pf ef gf tf af wf xf ty) H → va_D (va_A (mo_ws a cI cJ cZ n pf ef gf tf af wf xf ts) s.heap.size) (mo_ws a cI cJ cZ n pf ef gf tf af wf xf ty) → va_S (va_A (mo_ws a cI cJ cZ n pf ef gf tf af wf xf ts) s.heap.size) s.heap H locs → W pp l ev (headSpec (Cond.code y_M_median b_M_median 5 (some .int) :: wt_ws) ({ frames := 1, cells := 0, slots := 0, locals := 21 } : Room)).room s m ([.ref (a 0), .int x] : List Value).toArray below meth c H locs 0 0 (MQ below (mu_Qi (S := Nat → Int32) (fun r u => (r, u) = wt_medF n pf tf ts x) D (fun u => mo_ws a cI cJ cZ n pf ef gf tf af wf xf u) (mo_ws a cI cJ cZ n pf ef gf tf af wf xf ts) s.heap.size) ([.ref (a 0), .int x] : List Value).toArray s 0 0 (va_A (mo_ws a cI cJ cZ n pf ef gf tf af wf xf ts) s.heap.size)) (F0 m 28 ls []) := by
              intro i
              induction i with
              | zero =>
                intro ty ls H locs hi hu hl hP hD hS
                refine lv_iload hx hb d_M_median_28 (lv_at hl 0 rfl) ?_
                refine wn_if_le (tgt := 73) hx hb (by omega) d_M_median_30 (by decide) (fun hc30 => ?_) (fun hc30 => ?_)
                · exact hst 0 ty ls H locs hi hu hl hP hD hS
                · omega
              | succ i ih2 =>
                intro ty ls H locs hi hu hl hP hD hS
                rw [wt_ins_s] at hu
                refine lv_iload hx hb d_M_median_28 (lv_at hl 0 rfl) ?_
                refine wn_if_le (tgt := 73) hx hb (by omega) d_M_median_30 (by decide) (fun hc30 => ?_) (fun hc30 => ?_)
                · omega
                · refine lv_aload_n hx hb d_M_median_33 rfl (lv_at hl 3 rfl) ?_
                  refine va_get (D := D) (ci := 2) (v := .ref (a 8)) (C := R_M) (T := F_M) (N := 9) hx hb hts u_in_M hown hK hP 0 rfl rfl 7 (by decide) (hts _ k_167) (fun _ h9 => h9) rfl d_M_median_34 ?_
                  refine lv_iload hx hb d_M_median_37 (lv_at hl 0 rfl) ?_
                  refine lv_iconst (v := (nI 1)) hx hb d_M_median_39 (by decide +kernel) ?_
                  refine wn_isub hx hb (by omega) d_M_median_40 ?_
                  refine wt_top (v := nI i) (by rw [Nat.add_sub_cancel]) ?_
                  refine wn_iald (k := i) (v := (ty i)) hx hb hK hP 8 0 rfl rfl (by omega) (by decide) rfl d_M_median_41 ?_
                  refine lv_aload_n hx hb d_M_median_42 rfl (lv_at hl 3 rfl) ?_
                  refine va_get (D := D) (ci := 2) (v := .ref (a 3)) (C := R_M) (T := F_M) (N := 9) hx hb hts u_in_M hown hK hP 0 rfl rfl 2 (by decide) (hts _ k_162) (fun _ h9 => h9) rfl d_M_median_43 ?_
                  refine lv_iload_n hx hb d_M_median_46 rfl (lv_at hl 1 rfl) ?_
                  refine wn_iald (k := j) (v := (tf j)) hx hb hK hP 3 0 rfl rfl (by omega) (by decide) rfl d_M_median_47 ?_
                  refine lv_icmp_le (tgt := 73) hx hb d_M_median_48 (by decide) (fun hc48 => ?_) (fun hc48 => ?_)
                  · rw [if_pos hc48] at hu
                    exact hst (i + 1) ty ls H locs hi hu hl hP hD hS
                  · rw [if_neg hc48] at hu
                    refine lv_aload_n hx hb d_M_median_51 rfl (lv_at hl 3 rfl) ?_
                    refine va_get (D := D) (ci := 2) (v := .ref (a 8)) (C := R_M) (T := F_M) (N := 9) hx hb hts u_in_M hown hK hP 0 rfl rfl 7 (by decide) (hts _ k_167) (fun _ h9 => h9) rfl d_M_median_52 ?_
                    refine lv_iload hx hb d_M_median_55 (lv_at hl 0 rfl) ?_
                    refine lv_aload_n hx hb d_M_median_57 rfl (lv_at hl 3 rfl) ?_
                    refine va_get (D := D) (ci := 2) (v := .ref (a 8)) (C := R_M) (T := F_M) (N := 9) hx hb hts u_in_M hown hK hP 0 rfl rfl 7 (by decide) (hts _ k_167) (fun _ h9 => h9) rfl d_M_median_58 ?_
                    refine lv_iload hx hb d_M_median_61 (lv_at hl 0 rfl) ?_
                    refine lv_iconst (v := (nI 1)) hx hb d_M_median_63 (by decide +kernel) ?_
                    refine wn_isub hx hb (by omega) d_M_median_64 ?_
                    refine wt_top (v := nI i) (by rw [Nat.add_sub_cancel]) ?_
                    refine wn_iald (k := i) (v := (ty i)) hx hb hK hP 8 0 rfl rfl (by omega) (by decide) rfl d_M_median_65 ?_
                    refine wn_iast (ws' := mo_ws a cI cJ cZ n pf ef gf tf af wf xf (va_up ty (i + 1) (ty i))) (k := i + 1) hx hb hK hP hD hS 8 0 rfl rfl (by omega) (by decide) rfl rfl d_M_median_66 (fun H locs hP hD hS => ?_)
                    refine lv_iinc (k := 0) (v := (nI i)) (lv' := [(4, .int (nI i)), (3, .int (nI j)), (2, .int (nI q)), (0, .ref (a 0))]) hx hb d_M_median_67 hl rfl (wt_dec1 _) (by decide) rfl (fun ls hl => ?_)
                    refine lv_goto (tgt := 28) hx hb d_M_median_70 (by decide) ?_
                    have hl : lv_has ls 5 [(4, .int (nI i)), (3, .int (nI j)), (2, .int (nI q)), (0, .ref (a 0))] := lv_sub hl [0, 1, 2, 3] rfl
                    exact ih2 _ ls H locs (by omega) hu hl hP hD hS
            have hl : lv_has ls 5 [(4, .int (nI q)), (3, .int (nI j)), (2, .int (nI q)), (0, .ref (a 0))] := lv_sub hl [0, 1, 2, 3] rfl
            exact inner q tz ls H locs (Nat.le_refl _) rfl hl hP hD hS
    refine lv_iconst (v := (nI 0)) hx hb d_M_median_11 (by decide +kernel) ?_
    refine lv_istore_n (lv' := [(2, .int (nI 0)), (0, .ref (a 0)), (1, .int (nI k))]) hx hb d_M_median_12 rfl hl (by decide) rfl (fun ls hl => ?_)
    refine lv_iload_n hx hb d_M_median_13 rfl (lv_at hl 2 rfl) ?_
    refine lv_istore_n (lv' := [(3, .int (nI k)), (2, .int (nI 0)), (0, .ref (a 0)), (1, .int (nI k))]) hx hb d_M_median_14 rfl hl (by decide) rfl (fun ls hl => ?_)
    have hl : lv_has ls 5 [(3, .int (nI k)), (2, .int (nI 0)), (0, .ref (a 0))] := lv_sub hl [0, 1, 2] rfl
    exact loop 7 0 k ts ls _ _ (by decide) hk rfl hl hP hD hS
  · refine lv_bipush (v := ((-2))) hx hb d_M_median_8 (by decide +kernel) ?_
    exact mu_iret ts hx hb hr hlocks hS hP hD (by rw [wt_medF_0 (wt_ok_f hc5)]) d_M_median_10
set_option maxHeartbeats 4000000 in
set_option maxRecDepth 100000 in
theorem c_M_refuse (l : Launch) (D : va_G) (cI cJ cZ : ClassId) (a : Nat → Nat) (n : Nat) (pf ef gf : Nat → Nat) (tf af : Nat → Int32) (wf : Nat → Int64) (xf : Nat → Bool) (ts : Nat → Int32) (yf : Nat → Bool) (sz : Nat) (x : Int32) (hT : Tr n pf ef) (h1 : 1 ≤ n) (hn : n ≤ 512) (hWr : Wr n pf xf yf) : Met l y_M_refuse (Cond.code y_M_refuse b_M_refuse 2 (some .int) :: wt_ws) ({ frames := 2, cells := 0, slots := 0, locals := 45 } : Room) (mu_Pc [.ref (a 0), .int x] D (mo_ws a cI cJ cZ n pf ef gf tf af wf xf ts) (wt_ty cI cJ cZ) sz) (mu_Qi (S := Nat → Bool) (fun r u => r = wt_rfR n pf af wf yf x ∧ u = wt_rfM n xf x) D (fun u => mo_ws a cI cJ cZ n pf ef gf tf af wf u ts) (mo_ws a cI cJ cZ n pf ef gf tf af wf xf ts) sz) 0 0 (va_A (mo_ws a cI cJ cZ n pf ef gf tf af wf xf ts) sz) := by
  refine Met.ofW (cc := b_M_refuse) (maxL := 2) (ret := (some .int)) (by decide) rfl ?_
  intro pp ev s m args below meth c s₁ B hml hv
  obtain ⟨rfl, hsz, hP, hK, hD0⟩ := hv
  have hx := B.exec
  have hb := B.bytes
  have hr := B.returns
  have hts : ∀ w ∈ wt_ws, w.before ([.ref (a 0), .int x] : List Value).toArray s = true := fun w hw => atoms_spec (ws := Cond.code y_M_refuse b_M_refuse 2 (some .int) :: wt_ws) B.pre w (List.mem_cons_of_mem _ hw)
  have hown : s.vm.findClass R_M = some m.cls := findClass_of_methodNamed B.named
  have hlocks := B.notSynchronized
  subst hsz
  have hD := hD0.self (sz := s.heap.size)
  have hA : ∀ q, s.heap.size ≤ q → va_A (mo_ws a cI cJ cZ n pf ef gf tf af wf xf ts) s.heap.size q := fun q h => Or.inr h
  have hS : va_S (va_A (mo_ws a cI cJ cZ n pf ef gf tf af wf xf ts) s.heap.size) s.heap s.heap [] := va_S.rf
  have hl := lv_entry ([.ref (a 0), .int x]) (n := 2) (Nat.le_of_ble_eq_true rfl)
  rw [lg_entry_eq]
  generalize (lg_sl ([.ref (a 0), .int x]) ++ List.replicate (2 - (lg_sl ([.ref (a 0), .int x])).length) Slot.unset).toArray = ls at hl ⊢
  have hl : lv_has ls 2 [(0, .ref (a 0)), (1, .int x)] := hl
  refine lv_aload_n hx hb d_M_refuse_0 rfl (lv_at hl 0 rfl) ?_
  refine lv_iload_n hx hb d_M_refuse_1 rfl (lv_at hl 1 rfl) ?_
  refine ro_calli (ws := mo_ws a cI cJ cZ n pf ef gf tf af wf xf ts) (va_runV (As := [.int x]) (rest := []) ⟨hx, hb, hml, hown, hts⟩ (c_M_is l D cI cJ cZ a n pf ef gf tf af wf xf ts x hn) (wt_cwV 1 hts k_195 k_192 k_194 ks_1 k_3 rfl rfl (by decide +kernel) ⟨Nat.le_of_ble_eq_true rfl, Nat.le_of_ble_eq_true rfl⟩) (ro_preV (q := (R_M, F_M, 9)) (ci := 2) hK hP 0 rfl rfl) rfl rfl hl.1 rfl (lv_room (Nat.le_of_ble_eq_true rfl)) d_M_refuse_2 ⟨Nat.zero_le _, Nat.zero_le _⟩) hS hP (fun r H locs hr2 hP hS => ?_)
  subst hr2
  refine wb_if_eq (tgt := 12) hx hb d_M_refuse_5 (by decide) (fun hc5 => ?_) (fun hc5 => ?_)
  · refine lv_iconst (v := ((-1))) hx hb d_M_refuse_12 (by decide +kernel) ?_
    exact mu_iret xf hx hb hr hlocks hS hP hD ⟨(wt_rfR_0 (Or.inl (wt_ok_f hc5))).symm, (wt_rfM_0 (Or.inl (wt_ok_f hc5))).symm⟩ d_M_refuse_13
  · obtain ⟨k, hk, hxk⟩ := wt_ok_t hn hc5
    rw [hxk] at hl
    refine lv_iload_n hx hb d_M_refuse_8 rfl (lv_at hl 1 rfl) ?_
    refine wn_if_ne (tgt := 14) hx hb (by omega) d_M_refuse_9 (by decide) (fun hc9 => ?_) (fun hc9 => ?_)
    · refine lv_aload_n hx hb d_M_refuse_14 rfl (lv_at hl 0 rfl) ?_
      refine va_get (D := D) (ci := 2) (v := .ref (a 7)) (C := R_M) (T := F_M) (N := 9) hx hb hts u_in_M hown hK hP 0 rfl rfl 6 (by decide) (hts _ k_166) (fun _ h9 => h9) rfl d_M_refuse_15 ?_
      refine lv_iload_n hx hb d_M_refuse_18 rfl (lv_at hl 1 rfl) ?_
      refine lv_iconst (v := (nI 1)) hx hb d_M_refuse_19 (by decide +kernel) ?_
      refine wt_top (v := bz true) (by decide +kernel) ?_
      refine wn_zast (ws' := mo_ws a cI cJ cZ n pf ef gf tf af wf (va_up xf k true) ts) (k := k) hx hb hK hP hD hS 7 2 rfl rfl (by omega) (by decide) ar_b_up rfl d_M_refuse_20 (fun H locs hP hD hS => ?_)
      refine lv_aload_n hx hb d_M_refuse_21 rfl (lv_at hl 0 rfl) ?_
      have hWr2 := wt_refused hT hWr (by omega) hk
      refine ro_calli (ws := mo_ws a cI cJ cZ n pf ef gf tf af wf (va_up xf k true) ts) (va_runV (As := []) (rest := []) ⟨hx, hb, hml, hown, hts⟩ (c_M_best l D cI cJ cZ a n pf ef gf tf af wf (va_up xf k true) ts (wt_rf pf (n - (k + 1)) (k + 1) (va_up yf k true)) hT h1 hn hWr2) (wt_cwV 0 hts k_217 k_214 k_215 k_216 k_3 rfl rfl (by decide +kernel) ⟨Nat.le_of_ble_eq_true rfl, Nat.le_of_ble_eq_true rfl⟩) (ro_preV (q := (R_M, F_M, 9)) (ci := 2) hK hP 0 rfl rfl) rfl rfl hl.1 rfl (lv_room (Nat.le_of_ble_eq_true rfl)) d_M_refuse_22 ⟨Nat.zero_le _, Nat.zero_le _⟩) hS hP (fun r H locs hr22 hP hS => ?_)
      subst hr22
      exact mu_iret (va_up xf k true) hx hb hr hlocks hS hP hD ⟨by rw [hxk, wt_rfR_n hn (by omega) hk], by rw [hxk, wt_rfM_n hn (by omega) hk]⟩ d_M_refuse_25
    · refine lv_iconst (v := ((-1))) hx hb d_M_refuse_12 (by decide +kernel) ?_
      exact mu_iret xf hx hb hr hlocks hS hP hD ⟨(wt_rfR_0 (Or.inr (by rw [hxk, wt_ix_some hk hn, hc9]))).symm, (wt_rfM_0 (Or.inr (by rw [hxk, wt_ix_some hk hn, hc9]))).symm⟩ d_M_refuse_13
set_option maxHeartbeats 4000000 in
set_option maxRecDepth 100000 in
theorem c_M_add (l : Launch) (D : va_G) (cI cJ cZ : ClassId) (a : Nat → Nat) (n : Nat) (pf ef gf : Nat → Nat) (tf af : Nat → Int32) (wf : Nat → Int64) (xf : Nat → Bool) (ts : Nat → Int32) (sz : Nat) (x ti ar : Int32) (hT : Tr n pf ef) (hg : Tg n gf) (hn : n ≤ 512) : Met l y_M_add (Cond.code y_M_add b_M_add 5 (some .int) :: wt_ws) ({ frames := 3, cells := 0, slots := 0, locals := 68 } : Room) (mu_Pc [.ref (a 0), .int x, .int ti, .int ar] D (mo_ws a cI cJ cZ n pf ef gf tf af wf xf ts) (wt_ty cI cJ cZ) sz) (mu_Qi (S := wt_S) (fun r u => (r, u) = wt_add wt_fwM n pf ef gf tf af wf xf ts x ti ar) D (mo_u a cI cJ cZ) (mo_ws a cI cJ cZ n pf ef gf tf af wf xf ts) sz) 0 0 (va_A (mo_ws a cI cJ cZ n pf ef gf tf af wf xf ts) sz) := by
  refine Met.ofW (cc := b_M_add) (maxL := 5) (ret := (some .int)) (by decide) rfl ?_
  intro pp ev s m args below meth c s₁ B hml hv
  obtain ⟨rfl, hsz, hP, hK, hD0⟩ := hv
  have hx := B.exec
  have hb := B.bytes
  have hr := B.returns
  have hts : ∀ w ∈ wt_ws, w.before ([.ref (a 0), .int x, .int ti, .int ar] : List Value).toArray s = true := fun w hw => atoms_spec (ws := Cond.code y_M_add b_M_add 5 (some .int) :: wt_ws) B.pre w (List.mem_cons_of_mem _ hw)
  have hown : s.vm.findClass R_M = some m.cls := findClass_of_methodNamed B.named
  have hlocks := B.notSynchronized
  subst hsz
  have hD := hD0.self (sz := s.heap.size)
  have hA : ∀ q, s.heap.size ≤ q → va_A (mo_ws a cI cJ cZ n pf ef gf tf af wf xf ts) s.heap.size q := fun q h => Or.inr h
  have hS : va_S (va_A (mo_ws a cI cJ cZ n pf ef gf tf af wf xf ts) s.heap.size) s.heap s.heap [] := va_S.rf
  have hl := lv_entry ([.ref (a 0), .int x, .int ti, .int ar]) (n := 5) (Nat.le_of_ble_eq_true rfl)
  rw [lg_entry_eq]
  generalize (lg_sl ([.ref (a 0), .int x, .int ti, .int ar]) ++ List.replicate (5 - (lg_sl ([.ref (a 0), .int x, .int ti, .int ar])).length) Slot.unset).toArray = ls at hl ⊢
  have hl : lv_has ls 5 [(0, .ref (a 0)), (1, .int x), (2, .int ti), (3, .int ar)] := hl
  refine lv_aload_n hx hb d_M_add_0 rfl (lv_at hl 0 rfl) ?_
  refine lv_iload_n hx hb d_M_add_1 rfl (lv_at hl 1 rfl) ?_
  refine ro_calli (ws := mo_ws a cI cJ cZ n pf ef gf tf af wf xf ts) (va_runV (As := [.int x]) (rest := []) ⟨hx, hb, hml, hown, hts⟩ (c_M_is l D cI cJ cZ a n pf ef gf tf af wf xf ts x hn) (wt_cwV 1 hts k_195 k_192 k_194 ks_1 k_3 rfl rfl (by decide +kernel) ⟨Nat.le_of_ble_eq_true rfl, Nat.le_of_ble_eq_true rfl⟩) (ro_preV (q := (R_M, F_M, 9)) (ci := 2) hK hP 0 rfl rfl) rfl rfl hl.1 rfl (lv_room (Nat.le_of_ble_eq_true rfl)) d_M_add_2 ⟨Nat.zero_le _, Nat.zero_le _⟩) hS hP (fun r H locs hr2 hP hS => ?_)
  subst hr2
  refine wb_if_eq (tgt := 21) hx hb d_M_add_5 (by decide) (fun hc5 => ?_) (fun hc5 => ?_)
  · refine lv_iconst (v := ((-1))) hx hb d_M_add_21 (by decide +kernel) ?_
    exact mu_iret (n, pf, ef, gf, tf, af, wf, xf, ts) hx hb hr hlocks hS hP hD (by rw [wt_add_0 (wt_ok_f hc5)]) d_M_add_22
  · obtain ⟨k, hk, hxk⟩ := wt_ok_t hn hc5
    rw [hxk] at hl
    have hgk := hg k hk
    have hdb := wt_due_in (pf := pf) (ef := ef) (tf := tf) hg hk
    refine lv_iload_n hx hb d_M_add_8 rfl (lv_at hl 2 rfl) ?_
    refine lv_aload_n hx hb d_M_add_9 rfl (lv_at hl 0 rfl) ?_
    refine lv_iload_n hx hb d_M_add_10 rfl (lv_at hl 1 rfl) ?_
    refine mu_calli (wc := mo_ws a cI cJ cZ n pf ef gf tf af wf xf ts) (wr := []) (va_runV (As := [.int (nI k)]) (rest := [.int ti]) ⟨hx, hb, hml, hown, hts⟩ (c_M_median l D cI cJ cZ a n pf ef gf tf af wf xf ts _ (nI k) hT hn) (wt_cwV 1 hts k_199 k_196 k_197 k_198 k_3 rfl rfl (by decide +kernel) ⟨Nat.le_of_ble_eq_true rfl, Nat.le_of_ble_eq_true rfl⟩) (mu_preV (q := (R_M, F_M, 9)) (ci := 2) hK hP hD 0 rfl rfl) rfl rfl hl.1 rfl (lv_room (Nat.le_of_ble_eq_true rfl)) d_M_add_11 ⟨Nat.zero_le _, Nat.zero_le _⟩) hS hA hP hD [0, 1, 2, 3, 4, 5, 6, 7, 8] [] rfl rfl (by decide) (by decide) (fun r u H locs hr11 hP hD hS => ?_)
    rw [wt_medF_n hn hk] at hr11
    obtain ⟨rfl, rfl⟩ := Prod.mk.inj hr11
    have hP : va_P D classes (mo_ws a cI cJ cZ n pf ef gf tf af wf xf (wt_medT pf tf k ts)) H := hP
    have hD : va_D _ (mo_ws a cI cJ cZ n pf ef gf tf af wf xf (wt_medT pf tf k ts)) := hD
    refine lv_icmp_le (tgt := 21) hx hb d_M_add_14 (by decide) (fun hc14 => ?_) (fun hc14 => ?_)
    · refine lv_iconst (v := ((-1))) hx hb d_M_add_21 (by decide +kernel) ?_
      exact mu_iret (n, pf, ef, gf, tf, af, wf, xf, wt_medT pf tf k ts) hx hb hr hlocks hS hP hD (by rw [hxk, wt_add_1 hn hk (Or.inl hc14)]) d_M_add_22
    · refine lv_iload_n hx hb d_M_add_17 rfl (lv_at hl 3 rfl) ?_
      refine lv_if_ge (tgt := 23) hx hb d_M_add_18 (by decide) (fun hc18 => ?_) (fun hc18 => ?_)
      · refine lv_aload_n hx hb d_M_add_23 rfl (lv_at hl 0 rfl) ?_
        refine va_get (D := D) (ci := 2) (v := .int (nI n)) (C := R_M) (T := F_M) (N := 9) hx hb hts u_in_M hown hK hP 0 rfl rfl 8 (by decide) (hts _ k_168) (fun _ h9 => h9) rfl d_M_add_24 ?_
        refine lv_sipush (v := (nI 512)) hx hb d_M_add_27 (by decide +kernel) ?_
        refine wn_icmp_ne (tgt := 36) hx hb (by omega) (by omega) d_M_add_30 (by decide) (fun hc30 => ?_) (fun hc30 => ?_)
        · have hek := hT.le k hk
          have hdu : wt_due (va_up pf n k) (va_up ef n (ef k + 1)) gf (va_up tf n ti) k = wt_due pf ef gf tf k := wt_due_eq hT (fun j h => up_ne (by omega)) (fun j h => up_ne (by omega)) (fun j h => rfl) (fun j h => up_ne (by omega)) hk
          refine lv_aload_n hx hb d_M_add_36 rfl (lv_at hl 0 rfl) ?_
          refine va_get (D := D) (ci := 2) (v := .int (nI n)) (C := R_M) (T := F_M) (N := 9) hx hb hts u_in_M hown hK hP 0 rfl rfl 8 (by decide) (hts _ k_168) (fun _ h9 => h9) rfl d_M_add_37 ?_
          refine lv_istore (lv' := [(4, .int (nI n)), (0, .ref (a 0)), (1, .int (nI k)), (2, .int ti), (3, .int ar)]) hx hb d_M_add_40 hl (by decide) rfl (fun ls hl => ?_)
          refine lv_aload_n hx hb d_M_add_42 rfl (lv_at hl 1 rfl) ?_
          refine va_get (D := D) (ci := 2) (v := .ref (a 1)) (C := R_M) (T := F_M) (N := 9) hx hb hts u_in_M hown hK hP 0 rfl rfl 0 (by decide) (hts _ k_160) (fun _ h9 => h9) rfl d_M_add_43 ?_
          refine lv_iload hx hb d_M_add_46 (lv_at hl 0 rfl) ?_
          refine lv_iload_n hx hb d_M_add_48 rfl (lv_at hl 2 rfl) ?_
          refine wn_iast (ws' := mo_ws a cI cJ cZ n (va_up pf n k) ef gf tf af wf xf (wt_medT pf tf k ts)) (k := n) hx hb hK hP hD hS 1 0 rfl rfl (by omega) (by decide) (ar_p_up (by omega)) rfl d_M_add_49 (fun H locs hP hD hS => ?_)
          refine lv_aload_n hx hb d_M_add_50 rfl (lv_at hl 1 rfl) ?_
          refine va_get (D := D) (ci := 2) (v := .ref (a 3)) (C := R_M) (T := F_M) (N := 9) hx hb hts u_in_M hown hK hP 0 rfl rfl 2 (by decide) (hts _ k_162) (fun _ h9 => h9) rfl d_M_add_51 ?_
          refine lv_iload hx hb d_M_add_54 (lv_at hl 0 rfl) ?_
          refine lv_iload_n hx hb d_M_add_56 rfl (lv_at hl 3 rfl) ?_
          refine wn_iast (ws' := mo_ws a cI cJ cZ n (va_up pf n k) ef gf (va_up tf n ti) af wf xf (wt_medT pf tf k ts)) (k := n) hx hb hK hP hD hS 3 0 rfl rfl (by omega) (by decide) rfl rfl d_M_add_57 (fun H locs hP hD hS => ?_)
          refine lv_aload_n hx hb d_M_add_58 rfl (lv_at hl 1 rfl) ?_
          refine va_get (D := D) (ci := 2) (v := .ref (a 6)) (C := R_M) (T := F_M) (N := 9) hx hb hts u_in_M hown hK hP 0 rfl rfl 5 (by decide) (hts _ k_165) (fun _ h9 => h9) rfl d_M_add_59 ?_
          refine lv_iload hx hb d_M_add_62 (lv_at hl 0 rfl) ?_
          refine lv_iload_n hx hb d_M_add_64 rfl (lv_at hl 4 rfl) ?_
          refine wn_iast (ws' := mo_ws a cI cJ cZ n (va_up pf n k) ef gf (va_up tf n ti) (va_up af n ar) wf xf (wt_medT pf tf k ts)) (k := n) hx hb hK hP hD hS 6 0 rfl rfl (by omega) (by decide) rfl rfl d_M_add_65 (fun H locs hP hD hS => ?_)
          refine lv_aload_n hx hb d_M_add_66 rfl (lv_at hl 1 rfl) ?_
          refine va_get (D := D) (ci := 2) (v := .ref (a 2)) (C := R_M) (T := F_M) (N := 9) hx hb hts u_in_M hown hK hP 0 rfl rfl 1 (by decide) (hts _ k_161) (fun _ h9 => h9) rfl d_M_add_67 ?_
          refine lv_iload hx hb d_M_add_70 (lv_at hl 0 rfl) ?_
          refine lv_aload_n hx hb d_M_add_72 rfl (lv_at hl 1 rfl) ?_
          refine va_get (D := D) (ci := 2) (v := .ref (a 2)) (C := R_M) (T := F_M) (N := 9) hx hb hts u_in_M hown hK hP 0 rfl rfl 1 (by decide) (hts _ k_161) (fun _ h9 => h9) rfl d_M_add_73 ?_
          refine lv_iload_n hx hb d_M_add_76 rfl (lv_at hl 2 rfl) ?_
          refine wn_iald (k := k) (v := (nI (ef k))) hx hb hK hP 2 0 rfl rfl (by omega) (by decide) rfl d_M_add_77 ?_
          refine lv_iconst (v := (nI 1)) hx hb d_M_add_78 (by decide +kernel) ?_
          refine wn_iadd hx hb d_M_add_79 ?_
          refine wn_iast (ws' := mo_ws a cI cJ cZ n (va_up pf n k) (va_up ef n ((ef k) + 1)) gf (va_up tf n ti) (va_up af n ar) wf xf (wt_medT pf tf k ts)) (k := n) hx hb hK hP hD hS 2 0 rfl rfl (by omega) (by decide) ar_n_up rfl d_M_add_80 (fun H locs hP hD hS => ?_)
          refine lv_aload_n hx hb d_M_add_81 rfl (lv_at hl 1 rfl) ?_
          refine va_get (D := D) (ci := 2) (v := .ref (a 4)) (C := R_M) (T := F_M) (N := 9) hx hb hts u_in_M hown hK hP 0 rfl rfl 3 (by decide) (hts _ k_163) (fun _ h9 => h9) rfl d_M_add_82 ?_
          refine lv_iload hx hb d_M_add_85 (lv_at hl 0 rfl) ?_
          refine lv_aload_n hx hb d_M_add_87 rfl (lv_at hl 1 rfl) ?_
          refine lv_iload_n hx hb d_M_add_88 rfl (lv_at hl 2 rfl) ?_
          refine ro_calli (ws := mo_ws a cI cJ cZ n (va_up pf n k) (va_up ef n ((ef k) + 1)) gf (va_up tf n ti) (va_up af n ar) wf xf (wt_medT pf tf k ts)) (va_runV (As := [.int (nI k)]) (rest := [.int (nI n), .ref (a 4)]) ⟨hx, hb, hml, hown, hts⟩ (c_M_due l D cI cJ cZ a n (va_up pf n k) (va_up ef n ((ef k) + 1)) gf (va_up tf n ti) (va_up af n ar) wf xf (wt_medT pf tf k ts) (nI k) (hT.up hk).mono hg hn) (wt_cwV 1 hts k_203 k_200 k_201 k_202 k_3 rfl rfl (by decide +kernel) ⟨Nat.le_of_ble_eq_true rfl, Nat.le_of_ble_eq_true rfl⟩) (ro_preV (q := (R_M, F_M, 9)) (ci := 2) hK hP 0 rfl rfl) rfl rfl hl.1 rfl (lv_room (Nat.le_of_ble_eq_true rfl)) d_M_add_89 ⟨Nat.zero_le _, Nat.zero_le _⟩) hS hP (fun r H locs hr89 hP hS => ?_)
          subst hr89
          rw [wt_dueR_n hn hk, hdu]
          refine wn_iast (ws' := mo_ws a cI cJ cZ n (va_up pf n k) (va_up ef n ((ef k) + 1)) (va_up gf n (wt_due pf ef gf tf k)) (va_up tf n ti) (va_up af n ar) wf xf (wt_medT pf tf k ts)) (k := n) hx hb hK hP hD hS 4 0 rfl rfl (by omega) (by decide) ar_n_up rfl d_M_add_92 (fun H locs hP hD hS => ?_)
          refine lv_aload_n hx hb d_M_add_93 rfl (lv_at hl 1 rfl) ?_
          refine va_get (D := D) (ci := 2) (v := .ref (a 5)) (C := R_M) (T := F_M) (N := 9) hx hb hts u_in_M hown hK hP 0 rfl rfl 4 (by decide) (hts _ k_164) (fun _ h9 => h9) rfl d_M_add_94 ?_
          refine lv_iload hx hb d_M_add_97 (lv_at hl 0 rfl) ?_
          refine lv_aload_n hx hb d_M_add_99 rfl (lv_at hl 1 rfl) ?_
          refine va_get (D := D) (ci := 2) (v := .ref (a 5)) (C := R_M) (T := F_M) (N := 9) hx hb hts u_in_M hown hK hP 0 rfl rfl 4 (by decide) (hts _ k_164) (fun _ h9 => h9) rfl d_M_add_100 ?_
          refine lv_iload_n hx hb d_M_add_103 rfl (lv_at hl 2 rfl) ?_
          refine wn_lald (k := k) (v := wf k) hx hb hK hP 5 1 rfl rfl (by omega) (by decide) rfl d_M_add_104 ?_
          refine lv_ldc (v := 16777216) hx hb hown (hts _ k_209) d_M_add_105 ?_
          refine wt_top (v := nI 16777216) (by decide +kernel) ?_
          refine lv_aload_n hx hb d_M_add_107 rfl (lv_at hl 1 rfl) ?_
          refine va_get (D := D) (ci := 2) (v := .ref (a 4)) (C := R_M) (T := F_M) (N := 9) hx hb hts u_in_M hown hK hP 0 rfl rfl 3 (by decide) (hts _ k_163) (fun _ h9 => h9) rfl d_M_add_108 ?_
          refine lv_iload hx hb d_M_add_111 (lv_at hl 0 rfl) ?_
          refine wn_iald (k := n) (v := (nI ((va_up gf n (wt_due pf ef gf tf k)) n))) hx hb hK hP 4 0 rfl rfl (by omega) (by decide) rfl d_M_add_113 ?_
          refine wt_top (v := nI (wt_due pf ef gf tf k)) (congrArg nI up_at) ?_
          refine wn_idiv hx hb (by omega) (by omega) (by omega) d_M_add_114 ?_
          refine lv_i2l (v := (nI (16777216 / (wt_due pf ef gf tf k))).toInt64) hx hb d_M_add_115 rfl ?_
          refine lv_ladd hx hb d_M_add_116 ?_
          refine wn_last (ws' := mo_ws a cI cJ cZ n (va_up pf n k) (va_up ef n ((ef k) + 1)) (va_up gf n (wt_due pf ef gf tf k)) (va_up tf n ti) (va_up af n ar) (va_up wf n ((wf k) + ((nI (16777216 / (wt_due pf ef gf tf k))).toInt64))) xf (wt_medT pf tf k ts)) (k := n) hx hb hK hP hD hS 5 1 rfl rfl (by omega) (by decide) rfl rfl d_M_add_117 (fun H locs hP hD hS => ?_)
          refine lv_aload_n hx hb d_M_add_118 rfl (lv_at hl 1 rfl) ?_
          refine lv_dup hx hb d_M_add_119 rfl ?_
          refine va_get (D := D) (ci := 2) (v := .int (nI n)) (C := R_M) (T := F_M) (N := 9) hx hb hts u_in_M hown hK hP 0 rfl rfl 8 (by decide) (hts _ k_168) (fun _ h9 => h9) rfl d_M_add_120 ?_
          refine lv_iconst (v := (nI 1)) hx hb d_M_add_123 (by decide +kernel) ?_
          refine wn_iadd hx hb d_M_add_124 ?_
          refine va_put (D := D) (ci := 2) (v := .int (nI (n + 1))) (ty := .int) (C := R_M) (T := F_M) (N := 9) hx hb hts u_in_M ft_M ft_M_ok n_M hown hK hP hD hS 0 rfl rfl 8 (by decide) (hts _ k_168) (fun _ h9 => h9) rfl (by decide +kernel) rfl rfl (Nat.le_of_ble_eq_true rfl) d_M_add_125 (fun H locs hP hD hS => ?_)
          have hP : va_P D classes (mo_ws a cI cJ cZ (n + 1) (va_up pf n k) (va_up ef n ((ef k) + 1)) (va_up gf n (wt_due pf ef gf tf k)) (va_up tf n ti) (va_up af n ar) (va_up wf n ((wf k) + ((nI (16777216 / (wt_due pf ef gf tf k))).toInt64))) xf (wt_medT pf tf k ts)) H := hP
          have hD : va_D _ (mo_ws a cI cJ cZ (n + 1) (va_up pf n k) (va_up ef n ((ef k) + 1)) (va_up gf n (wt_due pf ef gf tf k)) (va_up tf n ti) (va_up af n ar) (va_up wf n ((wf k) + ((nI (16777216 / (wt_due pf ef gf tf k))).toInt64))) xf (wt_medT pf tf k ts)) := hD
          refine lv_iload hx hb d_M_add_128 (lv_at hl 0 rfl) ?_
          exact mu_iret (wt_grown n pf ef gf tf af wf (wt_fwM xf n k) (wt_medT pf tf k ts) k ti ar) hx hb hr hlocks hS hP hD (by rw [hxk, wt_add_3 hn hk hc14 (Int32.not_lt.mpr hc18) hc30]) d_M_add_130
        · refine lv_bipush (v := ((-3))) hx hb d_M_add_33 (by decide +kernel) ?_
          exact mu_iret (n, pf, ef, gf, tf, af, wf, xf, wt_medT pf tf k ts) hx hb hr hlocks hS hP hD (by rw [hxk, wt_add_2 hn hk hc14 (Int32.not_lt.mpr hc18) hc30]) d_M_add_35
      · refine lv_iconst (v := ((-1))) hx hb d_M_add_21 (by decide +kernel) ?_
        exact mu_iret (n, pf, ef, gf, tf, af, wf, xf, wt_medT pf tf k ts) hx hb hr hlocks hS hP hD (by rw [hxk, wt_add_1 hn hk (Or.inr (Int32.not_le.mp hc18))]) d_M_add_22
set_option maxHeartbeats 4000000 in
set_option maxRecDepth 100000 in
theorem c_M_look (l : Launch) (D : va_G) (cI cJ cZ : ClassId) (a : Nat → Nat) (n : Nat) (pf ef gf : Nat → Nat) (tf af : Nat → Int32) (wf : Nat → Int64) (xf : Nat → Bool) (ts : Nat → Int32) (yf : Nat → Bool) (x y : Int32) (hT : Tr n pf ef) (hn : n ≤ 512) (hWr : Wr n pf xf yf) : Met l y_M_look (Cond.code y_M_look b_M_look 3 (some .long) :: wt_ws) ({ frames := 1, cells := 0, slots := 0, locals := 23 } : Room) (ro_Pc [.ref (a 0), .int x, .int y] D (mo_ws a cI cJ cZ n pf ef gf tf af wf xf ts) (wt_ty cI cJ cZ)) (ro_Ql (fun r => r = wt_lookR n pf ef gf tf wf yf x y)) 0 0 (fun _ => False) := by
  refine Met.ofW (cc := b_M_look) (maxL := 3) (ret := (some .long)) (by decide) rfl ?_
  intro pp ev s m args below meth c s₁ B hml hv
  obtain ⟨rfl, hP, hK⟩ := hv
  have hx := B.exec
  have hb := B.bytes
  have hr := B.returns
  have hts : ∀ w ∈ wt_ws, w.before ([.ref (a 0), .int x, .int y] : List Value).toArray s = true := fun w hw => atoms_spec (ws := Cond.code y_M_look b_M_look 3 (some .long) :: wt_ws) B.pre w (List.mem_cons_of_mem _ hw)
  have hown : s.vm.findClass R_M = some m.cls := findClass_of_methodNamed B.named
  have hlocks := B.notSynchronized
  have hS : va_S (fun _ => False) s.heap s.heap [] := va_S.rf
  have hl := lv_entry ([.ref (a 0), .int x, .int y]) (n := 3) (Nat.le_of_ble_eq_true rfl)
  rw [lg_entry_eq]
  generalize (lg_sl ([.ref (a 0), .int x, .int y]) ++ List.replicate (3 - (lg_sl ([.ref (a 0), .int x, .int y])).length) Slot.unset).toArray = ls at hl ⊢
  have hl : lv_has ls 3 [(0, .ref (a 0)), (1, .int x), (2, .int y)] := hl
  refine lv_iload_n hx hb d_M_look_0 rfl (lv_at hl 2 rfl) ?_
  refine lv_if_lt (tgt := 9) hx hb d_M_look_1 (by decide) (fun hc1 => ?_) (fun hc1 => ?_)
  · refine lv_ldc2 (v := (-1)) hx hb hown (hts _ k_234) d_M_look_9 ?_
    exact ro_lret hx hb hr hlocks hS (by rw [wt_lookR_q (wt_ok2_f1 hc1)]) d_M_look_12
  · refine lv_iload_n hx hb d_M_look_4 rfl (lv_at hl 2 rfl) ?_
    refine lv_iconst (v := (nI 5)) hx hb d_M_look_5 (by decide +kernel) ?_
    refine lv_icmp_le (tgt := 13) hx hb d_M_look_6 (by decide) (fun hc6 => ?_) (fun hc6 => ?_)
    · have hy2 := wt_ok2_i (v := 5) (by omega) hc1 hc6
      obtain ⟨j, hj, hyj⟩ := wt_ok2_t (by omega) hy2
      refine lv_aload_n hx hb d_M_look_13 rfl (lv_at hl 0 rfl) ?_
      refine lv_iload_n hx hb d_M_look_14 rfl (lv_at hl 1 rfl) ?_
      refine ro_calli (ws := mo_ws a cI cJ cZ n pf ef gf tf af wf xf ts) (va_runV (As := [.int x]) (rest := []) ⟨hx, hb, hml, hown, hts⟩ (c_M_is l D cI cJ cZ a n pf ef gf tf af wf xf ts x hn) (wt_cwV 1 hts k_195 k_192 k_194 ks_1 k_3 rfl rfl (by decide +kernel) ⟨Nat.le_of_ble_eq_true rfl, Nat.le_of_ble_eq_true rfl⟩) (ro_preV (q := (R_M, F_M, 9)) (ci := 2) hK hP 0 rfl rfl) rfl rfl hl.1 rfl (lv_room (Nat.le_of_ble_eq_true rfl)) d_M_look_15 ⟨Nat.zero_le _, Nat.zero_le _⟩) hS hP (fun r H locs hr15 hP hS => ?_)
      subst hr15
      refine wb_if_ne (tgt := 25) hx hb d_M_look_18 (by decide) (fun hc18 => ?_) (fun hc18 => ?_)
      · obtain ⟨k, hk, hxk⟩ := wt_ok_t hn hc18
        rw [hxk] at hl
        rw [hyj] at hl
        refine lv_iload_n hx hb d_M_look_25 rfl (lv_at hl 2 rfl) ?_
        rcases (show j = 0 ∨ j = 1 ∨ j = 2 ∨ j = 3 ∨ j = 4 ∨ j = 5 by omega) with rfl | rfl | rfl | rfl | rfl | rfl
        · refine lv_tableIn (off := 34) (tgt := 60) hx hb d_M_look_26 (by decide +kernel) (by decide +kernel) (by decide +kernel) (by decide) ?_
          refine lv_aload_n hx hb d_M_look_60 rfl (lv_at hl 0 rfl) ?_
          refine va_get (D := D) (ci := 2) (v := .ref (a 2)) (C := R_M) (T := F_M) (N := 9) hx hb hts u_in_M hown hK hP 0 rfl rfl 1 (by decide) (hts _ k_161) (fun _ h9 => h9) rfl d_M_look_61 ?_
          refine lv_iload_n hx hb d_M_look_64 rfl (lv_at hl 1 rfl) ?_
          refine wn_iald (k := k) (v := (nI (ef k))) hx hb hK hP 2 0 rfl rfl (by omega) (by decide) rfl d_M_look_65 ?_
          refine lv_i2l (v := (nI (ef k)).toInt64) hx hb d_M_look_66 rfl ?_
          exact ro_lret hx hb hr hlocks hS (by rw [hxk, hyj, wt_lookR_n hn hk (by omega)]; rfl) d_M_look_67
        · refine lv_tableIn (off := 42) (tgt := 68) hx hb d_M_look_26 (by decide +kernel) (by decide +kernel) (by decide +kernel) (by decide) ?_
          refine lv_aload_n hx hb d_M_look_68 rfl (lv_at hl 0 rfl) ?_
          refine va_get (D := D) (ci := 2) (v := .ref (a 1)) (C := R_M) (T := F_M) (N := 9) hx hb hts u_in_M hown hK hP 0 rfl rfl 0 (by decide) (hts _ k_160) (fun _ h9 => h9) rfl d_M_look_69 ?_
          refine lv_iload_n hx hb d_M_look_72 rfl (lv_at hl 1 rfl) ?_
          by_cases hk0 : k = 0
          · subst hk0
            refine wn_iald (k := 0) (v := ((-2))) hx hb hK hP 1 0 rfl rfl (by omega) (by decide) ar_p_0 d_M_look_73 ?_
            refine lv_i2l (v := ((-2)).toInt64) hx hb d_M_look_74 rfl ?_
            exact ro_lret hx hb hr hlocks hS (by rw [hxk, hyj, wt_lookR_n hn hk (by omega)]; exact (by decide +kernel : (-2 : Int32).toInt64 = -2)) d_M_look_75
          · refine wn_iald (k := k) (v := (nI (pf k))) hx hb hK hP 1 0 rfl rfl (by omega) (by decide) (ar_p_at (by omega)) d_M_look_73 ?_
            refine lv_i2l (v := (nI (pf k)).toInt64) hx hb d_M_look_74 rfl ?_
            exact ro_lret hx hb hr hlocks hS (by rw [hxk, hyj, wt_lookR_n hn hk (by omega)]; exact (if_neg hk0).symm) d_M_look_75
        · refine lv_tableIn (off := 50) (tgt := 76) hx hb d_M_look_26 (by decide +kernel) (by decide +kernel) (by decide +kernel) (by decide) ?_
          refine lv_aload_n hx hb d_M_look_76 rfl (lv_at hl 0 rfl) ?_
          refine va_get (D := D) (ci := 2) (v := .ref (a 3)) (C := R_M) (T := F_M) (N := 9) hx hb hts u_in_M hown hK hP 0 rfl rfl 2 (by decide) (hts _ k_162) (fun _ h9 => h9) rfl d_M_look_77 ?_
          refine lv_iload_n hx hb d_M_look_80 rfl (lv_at hl 1 rfl) ?_
          refine wn_iald (k := k) (v := (tf k)) hx hb hK hP 3 0 rfl rfl (by omega) (by decide) rfl d_M_look_81 ?_
          refine lv_i2l (v := (tf k).toInt64) hx hb d_M_look_82 rfl ?_
          exact ro_lret hx hb hr hlocks hS (by rw [hxk, hyj, wt_lookR_n hn hk (by omega)]; rfl) d_M_look_83
        · refine lv_tableIn (off := 58) (tgt := 84) hx hb d_M_look_26 (by decide +kernel) (by decide +kernel) (by decide +kernel) (by decide) ?_
          refine lv_aload_n hx hb d_M_look_84 rfl (lv_at hl 0 rfl) ?_
          refine va_get (D := D) (ci := 2) (v := .ref (a 4)) (C := R_M) (T := F_M) (N := 9) hx hb hts u_in_M hown hK hP 0 rfl rfl 3 (by decide) (hts _ k_163) (fun _ h9 => h9) rfl d_M_look_85 ?_
          refine lv_iload_n hx hb d_M_look_88 rfl (lv_at hl 1 rfl) ?_
          refine wn_iald (k := k) (v := (nI (gf k))) hx hb hK hP 4 0 rfl rfl (by omega) (by decide) rfl d_M_look_89 ?_
          refine lv_i2l (v := (nI (gf k)).toInt64) hx hb d_M_look_90 rfl ?_
          exact ro_lret hx hb hr hlocks hS (by rw [hxk, hyj, wt_lookR_n hn hk (by omega)]; rfl) d_M_look_91
        · refine lv_tableIn (off := 66) (tgt := 92) hx hb d_M_look_26 (by decide +kernel) (by decide +kernel) (by decide +kernel) (by decide) ?_
          refine lv_aload_n hx hb d_M_look_92 rfl (lv_at hl 0 rfl) ?_
          refine va_get (D := D) (ci := 2) (v := .ref (a 5)) (C := R_M) (T := F_M) (N := 9) hx hb hts u_in_M hown hK hP 0 rfl rfl 4 (by decide) (hts _ k_164) (fun _ h9 => h9) rfl d_M_look_93 ?_
          refine lv_iload_n hx hb d_M_look_96 rfl (lv_at hl 1 rfl) ?_
          refine wn_lald (k := k) (v := wf k) hx hb hK hP 5 1 rfl rfl (by omega) (by decide) rfl d_M_look_97 ?_
          exact ro_lret hx hb hr hlocks hS (by rw [hxk, hyj, wt_lookR_n hn hk (by omega)]; rfl) d_M_look_98
        · refine lv_tableOut (tgt := 99) hx hb d_M_look_26 (by decide +kernel) (by decide) ?_
          refine lv_aload_n hx hb d_M_look_99 rfl (lv_at hl 0 rfl) ?_
          refine lv_iload_n hx hb d_M_look_100 rfl (lv_at hl 1 rfl) ?_
          refine ro_calli (ws := mo_ws a cI cJ cZ n pf ef gf tf af wf xf ts) (va_runV (As := [.int (nI k)]) (rest := []) ⟨hx, hb, hml, hown, hts⟩ (c_M_wrong l D cI cJ cZ a n pf ef gf tf af wf xf ts yf k hT hn hk hWr) (wt_cwV 1 hts k_221 k_218 k_220 ks_2 k_3 rfl rfl (by decide +kernel) ⟨Nat.le_of_ble_eq_true rfl, Nat.le_of_ble_eq_true rfl⟩) (ro_preV (q := (R_M, F_M, 9)) (ci := 2) hK hP 0 rfl rfl) rfl rfl hl.1 rfl (lv_room (Nat.le_of_ble_eq_true rfl)) d_M_look_101 ⟨Nat.zero_le _, Nat.zero_le _⟩) hS hP (fun r H locs hr101 hP hS => ?_)
          subst hr101
          refine wb_if_eq (tgt := 111) hx hb d_M_look_104 (by decide) (fun hc104 => ?_) (fun hc104 => ?_)
          · refine lv_lconst (v := 0) hx hb d_M_look_111 (by decide +kernel) ?_
            exact ro_lret hx hb hr hlocks hS (by rw [hxk, hyj, wt_lookR_n hn hk (by omega)]; show _ = (if yf k = true then (1 : Int64) else 0); rw [hc104]; rfl) d_M_look_112
          · refine lv_lconst (v := 1) hx hb d_M_look_107 (by decide +kernel) ?_
            refine lv_goto (tgt := 112) hx hb d_M_look_108 (by decide) ?_
            exact ro_lret hx hb hr hlocks hS (by rw [hxk, hyj, wt_lookR_n hn hk (by omega)]; show _ = (if yf k = true then (1 : Int64) else 0); rw [hc104]; rfl) d_M_look_112
      · refine lv_ldc2 (v := (-2)) hx hb hown (hts _ k_235) d_M_look_21 ?_
        exact ro_lret hx hb hr hlocks hS (by rw [wt_lookR_0 hy2 (wt_ok_f hc18)]) d_M_look_24
    · refine lv_ldc2 (v := (-1)) hx hb hown (hts _ k_234) d_M_look_9 ?_
      exact ro_lret hx hb hr hlocks hS (by rw [wt_lookR_q (wt_ok2_f2 (by omega) hc6)]) d_M_look_12
set_option maxHeartbeats 4000000 in
set_option maxRecDepth 100000 in
theorem c_M_blocks (l : Launch) (D : va_G) (cI cJ cZ : ClassId) (a : Nat → Nat) (n : Nat) (pf ef gf : Nat → Nat) (tf af : Nat → Int32) (wf : Nat → Int64) (xf : Nat → Bool) (ts : Nat → Int32) : Met l y_M_blocks (Cond.code y_M_blocks b_M_blocks 1 (some .int) :: wt_ws) ({ frames := 0, cells := 0, slots := 0, locals := 0 } : Room) (ro_Pc [.ref (a 0)] D (mo_ws a cI cJ cZ n pf ef gf tf af wf xf ts) (wt_ty cI cJ cZ)) (ro_Qi (fun r => r = nI n)) 0 0 (fun _ => False) := by
  refine Met.ofW (cc := b_M_blocks) (maxL := 1) (ret := (some .int)) (by decide) rfl ?_
  intro pp ev s m args below meth c s₁ B hml hv
  obtain ⟨rfl, hP, hK⟩ := hv
  have hx := B.exec
  have hb := B.bytes
  have hr := B.returns
  have hts : ∀ w ∈ wt_ws, w.before ([.ref (a 0)] : List Value).toArray s = true := fun w hw => atoms_spec (ws := Cond.code y_M_blocks b_M_blocks 1 (some .int) :: wt_ws) B.pre w (List.mem_cons_of_mem _ hw)
  have hown : s.vm.findClass R_M = some m.cls := findClass_of_methodNamed B.named
  have hlocks := B.notSynchronized
  have hS : va_S (fun _ => False) s.heap s.heap [] := va_S.rf
  have hl := lv_entry ([.ref (a 0)]) (n := 1) (Nat.le_of_ble_eq_true rfl)
  rw [lg_entry_eq]
  generalize (lg_sl ([.ref (a 0)]) ++ List.replicate (1 - (lg_sl ([.ref (a 0)])).length) Slot.unset).toArray = ls at hl ⊢
  have hl : lv_has ls 1 [(0, .ref (a 0))] := hl
  refine lv_aload_n hx hb d_M_blocks_0 rfl (lv_at hl 0 rfl) ?_
  refine va_get (D := D) (ci := 2) (v := .int (nI n)) (C := R_M) (T := F_M) (N := 9) hx hb hts u_in_M hown hK hP 0 rfl rfl 8 (by decide) (hts _ k_168) (fun _ h9 => h9) rfl d_M_blocks_1 ?_
  exact ro_iret hx hb hr hlocks hS rfl d_M_blocks_4
end
section
set_option maxHeartbeats 4000000 in
set_option maxRecDepth 100000 in
theorem c_T_add (l : Launch) (D : va_G) (cI cJ cZ : ClassId) (t : Nat) (a : Nat → Nat) (n : Nat) (pf ef gf : Nat → Nat) (tf af : Nat → Int32) (wf : Nat → Int64) (xf : Nat → Bool) (ts : Nat → Int32) (sz : Nat) (x ti ar : Int32) (hT : Tr n pf ef) (hg : Tg n gf) (h1 : 1 ≤ n) (hn : n ≤ 512) : Met l y_T_add (Cond.code y_T_add b_T_add 4 (some .int) :: wt_ws) ({ frames := 3, cells := 0, slots := 0, locals := 72 } : Room) (mn_Pc [.ref t, .int x, .int ti, .int ar] D (tr_ws t a cI cJ cZ n pf ef gf tf af wf xf ts) (wt_ty cI cJ cZ) sz) (mu_Qi (S := wt_S) (fun r u => (r, u) = wt_add wt_fwC n pf ef gf tf af wf xf ts x ti ar) D (tr_u t a cI cJ cZ) (tr_ws t a cI cJ cZ n pf ef gf tf af wf xf ts) sz) 0 0 (va_A (tr_ws t a cI cJ cZ n pf ef gf tf af wf xf ts) sz) := by
  refine Met.ofW (cc := b_T_add) (maxL := 4) (ret := (some .int)) (by decide) rfl ?_
  intro pp ev s m args below meth c s₁ B hml hv
  obtain ⟨rfl, ⟨hsz, hP, hK, hD0⟩, hN⟩ := hv
  have hx := B.exec
  have hb := B.bytes
  have hr := B.returns
  have hts : ∀ w ∈ wt_ws, w.before ([.ref t, .int x, .int ti, .int ar] : List Value).toArray s = true := fun w hw => atoms_spec (ws := Cond.code y_T_add b_T_add 4 (some .int) :: wt_ws) B.pre w (List.mem_cons_of_mem _ hw)
  have hown : s.vm.findClass R_T = some m.cls := findClass_of_methodNamed B.named
  have hlocks := B.notSynchronized
  subst hsz
  have hD := hD0.self (sz := s.heap.size)
  have hA : ∀ q, s.heap.size ≤ q → va_A (tr_ws t a cI cJ cZ n pf ef gf tf af wf xf ts) s.heap.size q := fun q h => Or.inr h
  have hS : va_S (va_A (tr_ws t a cI cJ cZ n pf ef gf tf af wf xf ts) s.heap.size) s.heap s.heap [] := va_S.rf
  have hl := lv_entry ([.ref t, .int x, .int ti, .int ar]) (n := 4) (Nat.le_of_ble_eq_true rfl)
  rw [lg_entry_eq]
  generalize (lg_sl ([.ref t, .int x, .int ti, .int ar]) ++ List.replicate (4 - (lg_sl ([.ref t, .int x, .int ti, .int ar])).length) Slot.unset).toArray = ls at hl ⊢
  have hl : lv_has ls 4 [(0, .ref t), (1, .int x), (2, .int ti), (3, .int ar)] := hl
  refine lv_iload_n hx hb d_T_add_0 rfl (lv_at hl 1 rfl) ?_
  refine lv_iconst (v := (nI 0)) hx hb d_T_add_1 (by decide +kernel) ?_
  refine lv_aload_n hx hb d_T_add_2 rfl (lv_at hl 0 rfl) ?_
  refine va_get (D := D) (ci := 0) (v := .ref (a 0)) (C := R_T) (T := F_T) (N := 1) hx hb hts u_in_T hown hK hP 0 rfl rfl 0 (by decide) (hts _ k_58) (fun _ h9 => h9) rfl d_T_add_3 ?_
  refine va_get (D := D) (ci := 1) (v := .int (nI n)) (C := R_C) (T := F_C) (N := 9) hx hb hts u_in_C hown hK hP 1 rfl rfl 0 (by decide) (hts _ k_21) (fun _ h9 => h9) rfl d_T_add_6 ?_
  refine lv_iconst (v := (nI 1)) hx hb d_T_add_9 (by decide +kernel) ?_
  refine wn_isub hx hb (by omega) d_T_add_10 ?_
  refine ro_calli (ws := tr_ws t a cI cJ cZ n pf ef gf tf af wf xf ts) (va_runS (As := [.int x, .int (nI 0), .int (nI (n - 1))]) (rest := []) ⟨hx, hb, hml, hown, hts⟩ (c_T_in l D cI cJ cZ x (nI 0) (nI (n - 1))) (wt_cwS 3 hts k_68 k_66 k_67 k_1 rfl rfl (by decide +kernel) ⟨Nat.le_of_ble_eq_true rfl, Nat.le_of_ble_eq_true rfl⟩) (ro_preS hK va_P_nil) rfl rfl hl.1 rfl (lv_room (Nat.le_of_ble_eq_true rfl)) d_T_add_11 ⟨Nat.zero_le _, Nat.zero_le _⟩) hS hP (fun r H locs hr11 hP hS => ?_)
  subst hr11
  refine wt_top (v := bz (wt_ok x n)) (congrArg bz (wt_in_ok h1 hn)) ?_
  refine wb_if_eq (tgt := 33) hx hb d_T_add_14 (by decide) (fun hc14 => ?_) (fun hc14 => ?_)
  · refine lv_iconst (v := ((-1))) hx hb d_T_add_33 (by decide +kernel) ?_
    exact mu_iret (n, pf, ef, gf, tf, af, wf, xf, ts) hx hb hr hlocks hS hP hD (by rw [wt_add_0 (wt_ok_f hc14)]) d_T_add_34
  · obtain ⟨k, hk, hxk⟩ := wt_ok_t hn hc14
    rw [hxk] at hl
    refine lv_iload_n hx hb d_T_add_17 rfl (lv_at hl 2 rfl) ?_
    refine lv_aload_n hx hb d_T_add_18 rfl (lv_at hl 0 rfl) ?_
    refine va_get (D := D) (ci := 0) (v := .ref (a 0)) (C := R_T) (T := F_T) (N := 1) hx hb hts u_in_T hown hK hP 0 rfl rfl 0 (by decide) (hts _ k_58) (fun _ h9 => h9) rfl d_T_add_19 ?_
    refine lv_iload_n hx hb d_T_add_22 rfl (lv_at hl 1 rfl) ?_
    refine mu_calli (wc := ch_ws a cI cJ cZ n pf ef gf tf af wf xf ts) (wr := [(t, .inr (0, [.ref (a 0)]))]) (va_runVN (As := [.int (nI k)]) (rest := [.int ti]) ⟨hx, hb, hml, hown, hts⟩ (c_C_median l D cI cJ cZ a n pf ef gf tf af wf xf ts _ k hT hn hk) (wt_cwN 1 hts k_72 hN k_71 ks_0 k_2 rfl rfl (by decide +kernel) ⟨Nat.le_of_ble_eq_true rfl, Nat.le_of_ble_eq_true rfl⟩) (mu_preV (q := (R_C, F_C, 9)) (ci := 1) hK (hP.sub (ws' := ch_ws a cI cJ cZ n pf ef gf tf af wf xf ts) [1, 2, 3, 4, 5, 6, 7, 8, 9] rfl) (hD.sub (ws' := ch_ws a cI cJ cZ n pf ef gf tf af wf xf ts) [1, 2, 3, 4, 5, 6, 7, 8, 9] (by decide) rfl) 0 rfl rfl) rfl rfl hl.1 rfl (lv_room (Nat.le_of_ble_eq_true rfl)) d_T_add_23 ⟨Nat.zero_le _, Nat.zero_le _⟩) hS hA hP hD [1, 2, 3, 4, 5, 6, 7, 8, 9] [0] rfl rfl (by decide) (by decide) (fun r u H locs hr23 hP hD hS => ?_)
    subst hr23
    have hP : va_P D classes (tr_ws t a cI cJ cZ n pf ef gf tf af wf xf (wt_medT pf tf k ts)) H := hP
    have hD : va_D _ (tr_ws t a cI cJ cZ n pf ef gf tf af wf xf (wt_medT pf tf k ts)) := hD
    refine lv_icmp_le (tgt := 33) hx hb d_T_add_26 (by decide) (fun hc26 => ?_) (fun hc26 => ?_)
    · refine lv_iconst (v := ((-1))) hx hb d_T_add_33 (by decide +kernel) ?_
      exact mu_iret (n, pf, ef, gf, tf, af, wf, xf, wt_medT pf tf k ts) hx hb hr hlocks hS hP hD (by rw [hxk, wt_add_1 hn hk (Or.inl hc26)]) d_T_add_34
    · refine lv_iload_n hx hb d_T_add_29 rfl (lv_at hl 3 rfl) ?_
      refine lv_if_ge (tgt := 35) hx hb d_T_add_30 (by decide) (fun hc30 => ?_) (fun hc30 => ?_)
      · refine lv_aload_n hx hb d_T_add_35 rfl (lv_at hl 0 rfl) ?_
        refine va_get (D := D) (ci := 0) (v := .ref (a 0)) (C := R_T) (T := F_T) (N := 1) hx hb hts u_in_T hown hK hP 0 rfl rfl 0 (by decide) (hts _ k_58) (fun _ h9 => h9) rfl d_T_add_36 ?_
        refine va_get (D := D) (ci := 1) (v := .int (nI n)) (C := R_C) (T := F_C) (N := 9) hx hb hts u_in_C hown hK hP 1 rfl rfl 0 (by decide) (hts _ k_21) (fun _ h9 => h9) rfl d_T_add_39 ?_
        refine lv_sipush (v := (nI 512)) hx hb d_T_add_42 (by decide +kernel) ?_
        refine wn_icmp_ne (tgt := 53) hx hb (by omega) (by omega) d_T_add_45 (by decide) (fun hc45 => ?_) (fun hc45 => ?_)
        · refine lv_aload_n hx hb d_T_add_53 rfl (lv_at hl 0 rfl) ?_
          refine va_get (D := D) (ci := 0) (v := .ref (a 0)) (C := R_T) (T := F_T) (N := 1) hx hb hts u_in_T hown hK hP 0 rfl rfl 0 (by decide) (hts _ k_58) (fun _ h9 => h9) rfl d_T_add_54 ?_
          refine lv_iload_n hx hb d_T_add_57 rfl (lv_at hl 1 rfl) ?_
          refine lv_iload_n hx hb d_T_add_58 rfl (lv_at hl 2 rfl) ?_
          refine lv_iload_n hx hb d_T_add_59 rfl (lv_at hl 3 rfl) ?_
          refine mu_calli (wc := ch_ws a cI cJ cZ n pf ef gf tf af wf xf (wt_medT pf tf k ts)) (wr := [(t, .inr (0, [.ref (a 0)]))]) (va_runV (As := [.int (nI k), .int ti, .int ar]) (rest := []) ⟨hx, hb, hml, hown, hts⟩ (c_C_add l D cI cJ cZ a n pf ef gf tf af wf xf (wt_medT pf tf k ts) _ k ti ar hT hg (by omega) hk) (wt_cwV 3 hts k_76 k_73 k_74 k_75 k_2 rfl rfl (by decide +kernel) ⟨Nat.le_of_ble_eq_true rfl, Nat.le_of_ble_eq_true rfl⟩) (mu_preV (q := (R_C, F_C, 9)) (ci := 1) hK (hP.sub (ws' := ch_ws a cI cJ cZ n pf ef gf tf af wf xf (wt_medT pf tf k ts)) [1, 2, 3, 4, 5, 6, 7, 8, 9] rfl) (hD.sub (ws' := ch_ws a cI cJ cZ n pf ef gf tf af wf xf (wt_medT pf tf k ts)) [1, 2, 3, 4, 5, 6, 7, 8, 9] (by decide) rfl) 0 rfl rfl) rfl rfl hl.1 rfl (lv_room (Nat.le_of_ble_eq_true rfl)) d_T_add_60 ⟨Nat.zero_le _, Nat.zero_le _⟩) hS hA hP hD [1, 2, 3, 4, 5, 6, 7, 8, 9] [0] rfl rfl (by decide) (by decide) (fun r u H locs hr60 hP hD hS => ?_)
          subst hr60
          have hP : va_P D classes (tr_ws t a cI cJ cZ (n + 1) (va_up pf n k) (va_up ef n (ef k + 1)) (va_up gf n (wt_due pf ef gf tf k)) (va_up tf n ti) (va_up af n ar) (va_up wf n (wt_newW pf ef gf tf wf k)) (va_up xf n (xf k)) (wt_medT pf tf k ts)) H := hP
          have hD : va_D _ (tr_ws t a cI cJ cZ (n + 1) (va_up pf n k) (va_up ef n (ef k + 1)) (va_up gf n (wt_due pf ef gf tf k)) (va_up tf n ti) (va_up af n ar) (va_up wf n (wt_newW pf ef gf tf wf k)) (va_up xf n (xf k)) (wt_medT pf tf k ts)) := hD
          exact mu_iret (wt_grown n pf ef gf tf af wf (wt_fwC xf n k) (wt_medT pf tf k ts) k ti ar) hx hb hr hlocks hS hP hD (by rw [hxk, wt_add_3 hn hk hc26 (Int32.not_lt.mpr hc30) hc45]) d_T_add_63
        · refine lv_bipush (v := ((-3))) hx hb d_T_add_48 (by decide +kernel) ?_
          refine lv_goto (tgt := 63) hx hb d_T_add_50 (by decide) ?_
          exact mu_iret (n, pf, ef, gf, tf, af, wf, xf, wt_medT pf tf k ts) hx hb hr hlocks hS hP hD (by rw [hxk, wt_add_2 hn hk hc26 (Int32.not_lt.mpr hc30) hc45]) d_T_add_63
      · refine lv_iconst (v := ((-1))) hx hb d_T_add_33 (by decide +kernel) ?_
        exact mu_iret (n, pf, ef, gf, tf, af, wf, xf, wt_medT pf tf k ts) hx hb hr hlocks hS hP hD (by rw [hxk, wt_add_1 hn hk (Or.inr (Int32.not_le.mp hc30))]) d_T_add_34
set_option maxHeartbeats 4000000 in
set_option maxRecDepth 100000 in
theorem c_T_refuse (l : Launch) (D : va_G) (cI cJ cZ : ClassId) (t : Nat) (a : Nat → Nat) (n : Nat) (pf ef gf : Nat → Nat) (tf af : Nat → Int32) (wf : Nat → Int64) (xf : Nat → Bool) (ts : Nat → Int32) (sz : Nat) (x : Int32) (hT : Tr n pf ef) (h1 : 1 ≤ n) (hn : n ≤ 512) : Met l y_T_refuse (Cond.code y_T_refuse b_T_refuse 2 (some .int) :: wt_ws) ({ frames := 2, cells := 0, slots := 0, locals := 44 } : Room) (mu_Pc [.ref t, .int x] D (tr_ws t a cI cJ cZ n pf ef gf tf af wf xf ts) (wt_ty cI cJ cZ) sz) (mu_Qi (S := Nat → Bool) (fun r u => r = wt_rfR n pf af wf xf x ∧ u = wt_rfC n pf xf x) D (fun u => tr_ws t a cI cJ cZ n pf ef gf tf af wf u ts) (tr_ws t a cI cJ cZ n pf ef gf tf af wf xf ts) sz) 0 0 (va_A (tr_ws t a cI cJ cZ n pf ef gf tf af wf xf ts) sz) := by
  refine Met.ofW (cc := b_T_refuse) (maxL := 2) (ret := (some .int)) (by decide) rfl ?_
  intro pp ev s m args below meth c s₁ B hml hv
  obtain ⟨rfl, hsz, hP, hK, hD0⟩ := hv
  have hx := B.exec
  have hb := B.bytes
  have hr := B.returns
  have hts : ∀ w ∈ wt_ws, w.before ([.ref t, .int x] : List Value).toArray s = true := fun w hw => atoms_spec (ws := Cond.code y_T_refuse b_T_refuse 2 (some .int) :: wt_ws) B.pre w (List.mem_cons_of_mem _ hw)
  have hown : s.vm.findClass R_T = some m.cls := findClass_of_methodNamed B.named
  have hlocks := B.notSynchronized
  subst hsz
  have hD := hD0.self (sz := s.heap.size)
  have hA : ∀ q, s.heap.size ≤ q → va_A (tr_ws t a cI cJ cZ n pf ef gf tf af wf xf ts) s.heap.size q := fun q h => Or.inr h
  have hS : va_S (va_A (tr_ws t a cI cJ cZ n pf ef gf tf af wf xf ts) s.heap.size) s.heap s.heap [] := va_S.rf
  have hl := lv_entry ([.ref t, .int x]) (n := 2) (Nat.le_of_ble_eq_true rfl)
  rw [lg_entry_eq]
  generalize (lg_sl ([.ref t, .int x]) ++ List.replicate (2 - (lg_sl ([.ref t, .int x])).length) Slot.unset).toArray = ls at hl ⊢
  have hl : lv_has ls 2 [(0, .ref t), (1, .int x)] := hl
  refine lv_iload_n hx hb d_T_refuse_0 rfl (lv_at hl 1 rfl) ?_
  refine lv_iconst (v := (nI 1)) hx hb d_T_refuse_1 (by decide +kernel) ?_
  refine lv_aload_n hx hb d_T_refuse_2 rfl (lv_at hl 0 rfl) ?_
  refine va_get (D := D) (ci := 0) (v := .ref (a 0)) (C := R_T) (T := F_T) (N := 1) hx hb hts u_in_T hown hK hP 0 rfl rfl 0 (by decide) (hts _ k_58) (fun _ h9 => h9) rfl d_T_refuse_3 ?_
  refine va_get (D := D) (ci := 1) (v := .int (nI n)) (C := R_C) (T := F_C) (N := 9) hx hb hts u_in_C hown hK hP 1 rfl rfl 0 (by decide) (hts _ k_21) (fun _ h9 => h9) rfl d_T_refuse_6 ?_
  refine lv_iconst (v := (nI 1)) hx hb d_T_refuse_9 (by decide +kernel) ?_
  refine wn_isub hx hb (by omega) d_T_refuse_10 ?_
  refine ro_calli (ws := tr_ws t a cI cJ cZ n pf ef gf tf af wf xf ts) (va_runS (As := [.int x, .int (nI 1), .int (nI (n - 1))]) (rest := []) ⟨hx, hb, hml, hown, hts⟩ (c_T_in l D cI cJ cZ x (nI 1) (nI (n - 1))) (wt_cwS 3 hts k_68 k_66 k_67 k_1 rfl rfl (by decide +kernel) ⟨Nat.le_of_ble_eq_true rfl, Nat.le_of_ble_eq_true rfl⟩) (ro_preS hK va_P_nil) rfl rfl hl.1 rfl (lv_room (Nat.le_of_ble_eq_true rfl)) d_T_refuse_11 ⟨Nat.zero_le _, Nat.zero_le _⟩) hS hP (fun r H locs hr11 hP hS => ?_)
  subst hr11
  refine wt_top (v := bz (wt_ok1 x n)) (congrArg bz (wt_in_ok1 h1 hn)) ?_
  refine wb_if_ne (tgt := 19) hx hb d_T_refuse_14 (by decide) (fun hc14 => ?_) (fun hc14 => ?_)
  · obtain ⟨k, hk1, hk, hxk⟩ := wt_ok1_t hn hc14
    rw [hxk] at hl
    refine lv_aload_n hx hb d_T_refuse_19 rfl (lv_at hl 0 rfl) ?_
    refine va_get (D := D) (ci := 0) (v := .ref (a 0)) (C := R_T) (T := F_T) (N := 1) hx hb hts u_in_T hown hK hP 0 rfl rfl 0 (by decide) (hts _ k_58) (fun _ h9 => h9) rfl d_T_refuse_20 ?_
    refine lv_iload_n hx hb d_T_refuse_23 rfl (lv_at hl 1 rfl) ?_
    refine mu_callv (wc := ch_ws a cI cJ cZ n pf ef gf tf af wf xf ts) (wr := [(t, .inr (0, [.ref (a 0)]))]) (va_runV (As := [.int (nI k)]) (rest := []) ⟨hx, hb, hml, hown, hts⟩ (c_C_refuse l D cI cJ cZ a n pf ef gf tf af wf xf ts _ k hT hn hk) (wt_cwV 1 hts k_108 k_105 k_106 k_107 k_2 rfl rfl (by decide +kernel) ⟨Nat.le_of_ble_eq_true rfl, Nat.le_of_ble_eq_true rfl⟩) (mu_preV (q := (R_C, F_C, 9)) (ci := 1) hK (hP.sub (ws' := ch_ws a cI cJ cZ n pf ef gf tf af wf xf ts) [1, 2, 3, 4, 5, 6, 7, 8, 9] rfl) (hD.sub (ws' := ch_ws a cI cJ cZ n pf ef gf tf af wf xf ts) [1, 2, 3, 4, 5, 6, 7, 8, 9] (by decide) rfl) 0 rfl rfl) rfl rfl hl.1 rfl (lv_room (Nat.le_of_ble_eq_true rfl)) d_T_refuse_24 ⟨Nat.zero_le _, Nat.zero_le _⟩) hS hA hP hD [1, 2, 3, 4, 5, 6, 7, 8, 9] [0] rfl rfl (by decide) (by decide) (fun u H locs hr24 hP hD hS => ?_)
    have hP : va_P D classes (tr_ws t a cI cJ cZ n pf ef gf tf af wf (wt_rf pf (n - (k + 1)) (k + 1) (va_up xf k true)) ts) H := hP
    have hD : va_D _ (tr_ws t a cI cJ cZ n pf ef gf tf af wf (wt_rf pf (n - (k + 1)) (k + 1) (va_up xf k true)) ts) := hD
    refine lv_aload_n hx hb d_T_refuse_27 rfl (lv_at hl 0 rfl) ?_
    refine va_get (D := D) (ci := 0) (v := .ref (a 0)) (C := R_T) (T := F_T) (N := 1) hx hb hts u_in_T hown hK hP 0 rfl rfl 0 (by decide) (hts _ k_58) (fun _ h9 => h9) rfl d_T_refuse_28 ?_
    refine ro_calli (ws := tr_ws t a cI cJ cZ n pf ef gf tf af wf (wt_rf pf (n - (k + 1)) (k + 1) (va_up xf k true)) ts) (va_runV (As := []) (rest := []) ⟨hx, hb, hml, hown, hts⟩ (c_C_best l D cI cJ cZ a n pf ef gf tf af wf (wt_rf pf (n - (k + 1)) (k + 1) (va_up xf k true)) ts h1 hn) (wt_cwV 0 hts k_112 k_109 k_110 k_111 k_2 rfl rfl (by decide +kernel) ⟨Nat.le_of_ble_eq_true rfl, Nat.le_of_ble_eq_true rfl⟩) (ro_preV (q := (R_C, F_C, 9)) (ci := 1) hK (hP.sub (ws' := ch_ws a cI cJ cZ n pf ef gf tf af wf (wt_rf pf (n - (k + 1)) (k + 1) (va_up xf k true)) ts) [1, 2, 3, 4, 5, 6, 7, 8, 9] rfl) 0 rfl rfl) rfl rfl hl.1 rfl (lv_room (Nat.le_of_ble_eq_true rfl)) d_T_refuse_31 ⟨Nat.zero_le _, Nat.zero_le _⟩) hS hP (fun r H locs hr31 hP hS => ?_)
    subst hr31
    exact mu_iret (wt_rf pf (n - (k + 1)) (k + 1) (va_up xf k true)) hx hb hr hlocks hS hP hD ⟨by rw [hxk, wt_rfR_n hn hk1 hk], by rw [hxk, wt_rfC_n hn hk1 hk]⟩ d_T_refuse_34
  · refine lv_iconst (v := ((-1))) hx hb d_T_refuse_17 (by decide +kernel) ?_
    exact mu_iret xf hx hb hr hlocks hS hP hD ⟨(wt_rfR_0 (wt_ok1_f hn hc14)).symm, (wt_rfC_0 (wt_ok1_f hn hc14)).symm⟩ d_T_refuse_18
set_option maxHeartbeats 4000000 in
set_option maxRecDepth 100000 in
theorem c_T_best (l : Launch) (D : va_G) (cI cJ cZ : ClassId) (t : Nat) (a : Nat → Nat) (n : Nat) (pf ef gf : Nat → Nat) (tf af : Nat → Int32) (wf : Nat → Int64) (xf : Nat → Bool) (ts : Nat → Int32) (h1 : 1 ≤ n) (hn : n ≤ 512) : Met l y_T_best (Cond.code y_T_best b_T_best 1 (some .int) :: wt_ws) ({ frames := 2, cells := 0, slots := 0, locals := 44 } : Room) (ro_Pc [.ref t] D (tr_ws t a cI cJ cZ n pf ef gf tf af wf xf ts) (wt_ty cI cJ cZ)) (ro_Qi (fun r => r = nI (wt_bt wf af xf (n - 1) 1 0))) 0 0 (fun _ => False) := by
  refine Met.ofW (cc := b_T_best) (maxL := 1) (ret := (some .int)) (by decide) rfl ?_
  intro pp ev s m args below meth c s₁ B hml hv
  obtain ⟨rfl, hP, hK⟩ := hv
  have hx := B.exec
  have hb := B.bytes
  have hr := B.returns
  have hts : ∀ w ∈ wt_ws, w.before ([.ref t] : List Value).toArray s = true := fun w hw => atoms_spec (ws := Cond.code y_T_best b_T_best 1 (some .int) :: wt_ws) B.pre w (List.mem_cons_of_mem _ hw)
  have hown : s.vm.findClass R_T = some m.cls := findClass_of_methodNamed B.named
  have hlocks := B.notSynchronized
  have hS : va_S (fun _ => False) s.heap s.heap [] := va_S.rf
  have hl := lv_entry ([.ref t]) (n := 1) (Nat.le_of_ble_eq_true rfl)
  rw [lg_entry_eq]
  generalize (lg_sl ([.ref t]) ++ List.replicate (1 - (lg_sl ([.ref t])).length) Slot.unset).toArray = ls at hl ⊢
  have hl : lv_has ls 1 [(0, .ref t)] := hl
  refine lv_aload_n hx hb d_T_best_0 rfl (lv_at hl 0 rfl) ?_
  refine va_get (D := D) (ci := 0) (v := .ref (a 0)) (C := R_T) (T := F_T) (N := 1) hx hb hts u_in_T hown hK hP 0 rfl rfl 0 (by decide) (hts _ k_58) (fun _ h9 => h9) rfl d_T_best_1 ?_
  refine ro_calli (ws := tr_ws t a cI cJ cZ n pf ef gf tf af wf xf ts) (va_runV (As := []) (rest := []) ⟨hx, hb, hml, hown, hts⟩ (c_C_best l D cI cJ cZ a n pf ef gf tf af wf xf ts h1 hn) (wt_cwV 0 hts k_112 k_109 k_110 k_111 k_2 rfl rfl (by decide +kernel) ⟨Nat.le_of_ble_eq_true rfl, Nat.le_of_ble_eq_true rfl⟩) (ro_preV (q := (R_C, F_C, 9)) (ci := 1) hK (hP.sub (ws' := ch_ws a cI cJ cZ n pf ef gf tf af wf xf ts) [1, 2, 3, 4, 5, 6, 7, 8, 9] rfl) 0 rfl rfl) rfl rfl hl.1 rfl (lv_room (Nat.le_of_ble_eq_true rfl)) d_T_best_4 ⟨Nat.zero_le _, Nat.zero_le _⟩) hS hP (fun r H locs hr4 hP hS => ?_)
  subst hr4
  exact ro_iret hx hb hr hlocks hS rfl d_T_best_7
set_option maxHeartbeats 4000000 in
set_option maxRecDepth 100000 in
theorem c_T_blocks (l : Launch) (D : va_G) (cI cJ cZ : ClassId) (t : Nat) (a : Nat → Nat) (n : Nat) (pf ef gf : Nat → Nat) (tf af : Nat → Int32) (wf : Nat → Int64) (xf : Nat → Bool) (ts : Nat → Int32) : Met l y_T_blocks (Cond.code y_T_blocks b_T_blocks 1 (some .int) :: wt_ws) ({ frames := 0, cells := 0, slots := 0, locals := 0 } : Room) (ro_Pc [.ref t] D (tr_ws t a cI cJ cZ n pf ef gf tf af wf xf ts) (wt_ty cI cJ cZ)) (ro_Qi (fun r => r = nI n)) 0 0 (fun _ => False) := by
  refine Met.ofW (cc := b_T_blocks) (maxL := 1) (ret := (some .int)) (by decide) rfl ?_
  intro pp ev s m args below meth c s₁ B hml hv
  obtain ⟨rfl, hP, hK⟩ := hv
  have hx := B.exec
  have hb := B.bytes
  have hr := B.returns
  have hts : ∀ w ∈ wt_ws, w.before ([.ref t] : List Value).toArray s = true := fun w hw => atoms_spec (ws := Cond.code y_T_blocks b_T_blocks 1 (some .int) :: wt_ws) B.pre w (List.mem_cons_of_mem _ hw)
  have hown : s.vm.findClass R_T = some m.cls := findClass_of_methodNamed B.named
  have hlocks := B.notSynchronized
  have hS : va_S (fun _ => False) s.heap s.heap [] := va_S.rf
  have hl := lv_entry ([.ref t]) (n := 1) (Nat.le_of_ble_eq_true rfl)
  rw [lg_entry_eq]
  generalize (lg_sl ([.ref t]) ++ List.replicate (1 - (lg_sl ([.ref t])).length) Slot.unset).toArray = ls at hl ⊢
  have hl : lv_has ls 1 [(0, .ref t)] := hl
  refine lv_aload_n hx hb d_T_blocks_0 rfl (lv_at hl 0 rfl) ?_
  refine va_get (D := D) (ci := 0) (v := .ref (a 0)) (C := R_T) (T := F_T) (N := 1) hx hb hts u_in_T hown hK hP 0 rfl rfl 0 (by decide) (hts _ k_58) (fun _ h9 => h9) rfl d_T_blocks_1 ?_
  refine va_get (D := D) (ci := 1) (v := .int (nI n)) (C := R_C) (T := F_C) (N := 9) hx hb hts u_in_C hown hK hP 1 rfl rfl 0 (by decide) (hts _ k_21) (fun _ h9 => h9) rfl d_T_blocks_4 ?_
  exact ro_iret hx hb hr hlocks hS rfl d_T_blocks_7
set_option maxHeartbeats 4000000 in
set_option maxRecDepth 100000 in
theorem c_T_fork (l : Launch) (D : va_G) (cI cJ cZ : ClassId) (t : Nat) (a : Nat → Nat) (n : Nat) (pf ef gf : Nat → Nat) (tf af : Nat → Int32) (wf : Nat → Int64) (xf : Nat → Bool) (ts : Nat → Int32) (x y : Int32) (hT : Tr n pf ef) (h1 : 1 ≤ n) (hn : n ≤ 512) : Met l y_T_fork (Cond.code y_T_fork b_T_fork 3 (some .int) :: wt_ws) ({ frames := 1, cells := 0, slots := 0, locals := 24 } : Room) (ro_Pc [.ref t, .int x, .int y] D (tr_ws t a cI cJ cZ n pf ef gf tf af wf xf ts) (wt_ty cI cJ cZ)) (ro_Qi (fun r => r = wt_forkR n pf x y)) 0 0 (fun _ => False) := by
  refine Met.ofW (cc := b_T_fork) (maxL := 3) (ret := (some .int)) (by decide) rfl ?_
  intro pp ev s m args below meth c s₁ B hml hv
  obtain ⟨rfl, hP, hK⟩ := hv
  have hx := B.exec
  have hb := B.bytes
  have hr := B.returns
  have hts : ∀ w ∈ wt_ws, w.before ([.ref t, .int x, .int y] : List Value).toArray s = true := fun w hw => atoms_spec (ws := Cond.code y_T_fork b_T_fork 3 (some .int) :: wt_ws) B.pre w (List.mem_cons_of_mem _ hw)
  have hown : s.vm.findClass R_T = some m.cls := findClass_of_methodNamed B.named
  have hlocks := B.notSynchronized
  have hS : va_S (fun _ => False) s.heap s.heap [] := va_S.rf
  have hl := lv_entry ([.ref t, .int x, .int y]) (n := 3) (Nat.le_of_ble_eq_true rfl)
  rw [lg_entry_eq]
  generalize (lg_sl ([.ref t, .int x, .int y]) ++ List.replicate (3 - (lg_sl ([.ref t, .int x, .int y])).length) Slot.unset).toArray = ls at hl ⊢
  have hl : lv_has ls 3 [(0, .ref t), (1, .int x), (2, .int y)] := hl
  refine lv_iload_n hx hb d_T_fork_0 rfl (lv_at hl 1 rfl) ?_
  refine lv_iconst (v := (nI 0)) hx hb d_T_fork_1 (by decide +kernel) ?_
  refine lv_aload_n hx hb d_T_fork_2 rfl (lv_at hl 0 rfl) ?_
  refine va_get (D := D) (ci := 0) (v := .ref (a 0)) (C := R_T) (T := F_T) (N := 1) hx hb hts u_in_T hown hK hP 0 rfl rfl 0 (by decide) (hts _ k_58) (fun _ h9 => h9) rfl d_T_fork_3 ?_
  refine va_get (D := D) (ci := 1) (v := .int (nI n)) (C := R_C) (T := F_C) (N := 9) hx hb hts u_in_C hown hK hP 1 rfl rfl 0 (by decide) (hts _ k_21) (fun _ h9 => h9) rfl d_T_fork_6 ?_
  refine lv_iconst (v := (nI 1)) hx hb d_T_fork_9 (by decide +kernel) ?_
  refine wn_isub hx hb (by omega) d_T_fork_10 ?_
  refine ro_calli (ws := tr_ws t a cI cJ cZ n pf ef gf tf af wf xf ts) (va_runS (As := [.int x, .int (nI 0), .int (nI (n - 1))]) (rest := []) ⟨hx, hb, hml, hown, hts⟩ (c_T_in l D cI cJ cZ x (nI 0) (nI (n - 1))) (wt_cwS 3 hts k_68 k_66 k_67 k_1 rfl rfl (by decide +kernel) ⟨Nat.le_of_ble_eq_true rfl, Nat.le_of_ble_eq_true rfl⟩) (ro_preS hK va_P_nil) rfl rfl hl.1 rfl (lv_room (Nat.le_of_ble_eq_true rfl)) d_T_fork_11 ⟨Nat.zero_le _, Nat.zero_le _⟩) hS hP (fun r H locs hr11 hP hS => ?_)
  subst hr11
  refine wt_top (v := bz (wt_ok x n)) (congrArg bz (wt_in_ok h1 hn)) ?_
  refine wb_if_eq (tgt := 46) hx hb d_T_fork_14 (by decide) (fun hc14 => ?_) (fun hc14 => ?_)
  · refine lv_bipush (v := ((-2))) hx hb d_T_fork_46 (by decide +kernel) ?_
    exact ro_iret hx hb hr hlocks hS (by rw [wt_forkR_1 (wt_ok_f hc14)]) d_T_fork_48
  · obtain ⟨u, hu, hxu⟩ := wt_ok_t hn hc14
    rw [hxu] at hl
    refine lv_iload_n hx hb d_T_fork_17 rfl (lv_at hl 2 rfl) ?_
    refine lv_iconst (v := (nI 0)) hx hb d_T_fork_18 (by decide +kernel) ?_
    refine lv_aload_n hx hb d_T_fork_19 rfl (lv_at hl 0 rfl) ?_
    refine va_get (D := D) (ci := 0) (v := .ref (a 0)) (C := R_T) (T := F_T) (N := 1) hx hb hts u_in_T hown hK hP 0 rfl rfl 0 (by decide) (hts _ k_58) (fun _ h9 => h9) rfl d_T_fork_20 ?_
    refine va_get (D := D) (ci := 1) (v := .int (nI n)) (C := R_C) (T := F_C) (N := 9) hx hb hts u_in_C hown hK hP 1 rfl rfl 0 (by decide) (hts _ k_21) (fun _ h9 => h9) rfl d_T_fork_23 ?_
    refine lv_iconst (v := (nI 1)) hx hb d_T_fork_26 (by decide +kernel) ?_
    refine wn_isub hx hb (by omega) d_T_fork_27 ?_
    refine ro_calli (ws := tr_ws t a cI cJ cZ n pf ef gf tf af wf xf ts) (va_runS (As := [.int y, .int (nI 0), .int (nI (n - 1))]) (rest := []) ⟨hx, hb, hml, hown, hts⟩ (c_T_in l D cI cJ cZ y (nI 0) (nI (n - 1))) (wt_cwS 3 hts k_68 k_66 k_67 k_1 rfl rfl (by decide +kernel) ⟨Nat.le_of_ble_eq_true rfl, Nat.le_of_ble_eq_true rfl⟩) (ro_preS hK va_P_nil) rfl rfl hl.1 rfl (lv_room (Nat.le_of_ble_eq_true rfl)) d_T_fork_28 ⟨Nat.zero_le _, Nat.zero_le _⟩) hS hP (fun r H locs hr28 hP hS => ?_)
    subst hr28
    refine wt_top (v := bz (wt_ok y n)) (congrArg bz (wt_in_ok h1 hn)) ?_
    refine wb_if_eq (tgt := 46) hx hb d_T_fork_31 (by decide) (fun hc31 => ?_) (fun hc31 => ?_)
    · refine lv_bipush (v := ((-2))) hx hb d_T_fork_46 (by decide +kernel) ?_
      exact ro_iret hx hb hr hlocks hS (by rw [wt_forkR_2 (wt_ok_f hc31)]) d_T_fork_48
    · obtain ⟨v, hv, hyv⟩ := wt_ok_t hn hc31
      rw [hyv] at hl
      refine lv_aload_n hx hb d_T_fork_34 rfl (lv_at hl 0 rfl) ?_
      refine va_get (D := D) (ci := 0) (v := .ref (a 0)) (C := R_T) (T := F_T) (N := 1) hx hb hts u_in_T hown hK hP 0 rfl rfl 0 (by decide) (hts _ k_58) (fun _ h9 => h9) rfl d_T_fork_35 ?_
      refine lv_iload_n hx hb d_T_fork_38 rfl (lv_at hl 1 rfl) ?_
      refine lv_iload_n hx hb d_T_fork_39 rfl (lv_at hl 2 rfl) ?_
      refine ro_calli (ws := tr_ws t a cI cJ cZ n pf ef gf tf af wf xf ts) (va_runV (As := [.int (nI u), .int (nI v)]) (rest := []) ⟨hx, hb, hml, hown, hts⟩ (c_C_fork l D cI cJ cZ a n pf ef gf tf af wf xf ts u v hT hn hu hv) (wt_cwV 2 hts k_128 k_125 k_126 k_127 k_2 rfl rfl (by decide +kernel) ⟨Nat.le_of_ble_eq_true rfl, Nat.le_of_ble_eq_true rfl⟩) (ro_preV (q := (R_C, F_C, 9)) (ci := 1) hK (hP.sub (ws' := ch_ws a cI cJ cZ n pf ef gf tf af wf xf ts) [1, 2, 3, 4, 5, 6, 7, 8, 9] rfl) 0 rfl rfl) rfl rfl hl.1 rfl (lv_room (Nat.le_of_ble_eq_true rfl)) d_T_fork_40 ⟨Nat.zero_le _, Nat.zero_le _⟩) hS hP (fun r H locs hr40 hP hS => ?_)
      subst hr40
      refine lv_goto (tgt := 48) hx hb d_T_fork_43 (by decide) ?_
      exact ro_iret hx hb hr hlocks hS (by rw [hxu, hyv, wt_forkR_n hn hu hv]) d_T_fork_48
set_option maxHeartbeats 4000000 in
set_option maxRecDepth 100000 in
theorem c_T_due (l : Launch) (D : va_G) (cI cJ cZ : ClassId) (t : Nat) (a : Nat → Nat) (n : Nat) (pf ef gf : Nat → Nat) (tf af : Nat → Int32) (wf : Nat → Int64) (xf : Nat → Bool) (ts : Nat → Int32) (x : Int32) (hT : Tr n pf ef) (hg : Tg n gf) (h1 : 1 ≤ n) (hn : n ≤ 512) : Met l y_T_due (Cond.code y_T_due b_T_due 2 (some .int) :: wt_ws) ({ frames := 2, cells := 0, slots := 0, locals := 48 } : Room) (ro_Pc [.ref t, .int x] D (tr_ws t a cI cJ cZ n pf ef gf tf af wf xf ts) (wt_ty cI cJ cZ)) (ro_Qi (fun r => r = wt_dueR n pf ef gf tf x)) 0 0 (fun _ => False) := by
  refine Met.ofW (cc := b_T_due) (maxL := 2) (ret := (some .int)) (by decide) rfl ?_
  intro pp ev s m args below meth c s₁ B hml hv
  obtain ⟨rfl, hP, hK⟩ := hv
  have hx := B.exec
  have hb := B.bytes
  have hr := B.returns
  have hts : ∀ w ∈ wt_ws, w.before ([.ref t, .int x] : List Value).toArray s = true := fun w hw => atoms_spec (ws := Cond.code y_T_due b_T_due 2 (some .int) :: wt_ws) B.pre w (List.mem_cons_of_mem _ hw)
  have hown : s.vm.findClass R_T = some m.cls := findClass_of_methodNamed B.named
  have hlocks := B.notSynchronized
  have hS : va_S (fun _ => False) s.heap s.heap [] := va_S.rf
  have hl := lv_entry ([.ref t, .int x]) (n := 2) (Nat.le_of_ble_eq_true rfl)
  rw [lg_entry_eq]
  generalize (lg_sl ([.ref t, .int x]) ++ List.replicate (2 - (lg_sl ([.ref t, .int x])).length) Slot.unset).toArray = ls at hl ⊢
  have hl : lv_has ls 2 [(0, .ref t), (1, .int x)] := hl
  refine lv_iload_n hx hb d_T_due_0 rfl (lv_at hl 1 rfl) ?_
  refine lv_iconst (v := (nI 0)) hx hb d_T_due_1 (by decide +kernel) ?_
  refine lv_aload_n hx hb d_T_due_2 rfl (lv_at hl 0 rfl) ?_
  refine va_get (D := D) (ci := 0) (v := .ref (a 0)) (C := R_T) (T := F_T) (N := 1) hx hb hts u_in_T hown hK hP 0 rfl rfl 0 (by decide) (hts _ k_58) (fun _ h9 => h9) rfl d_T_due_3 ?_
  refine va_get (D := D) (ci := 1) (v := .int (nI n)) (C := R_C) (T := F_C) (N := 9) hx hb hts u_in_C hown hK hP 1 rfl rfl 0 (by decide) (hts _ k_21) (fun _ h9 => h9) rfl d_T_due_6 ?_
  refine lv_iconst (v := (nI 1)) hx hb d_T_due_9 (by decide +kernel) ?_
  refine wn_isub hx hb (by omega) d_T_due_10 ?_
  refine ro_calli (ws := tr_ws t a cI cJ cZ n pf ef gf tf af wf xf ts) (va_runS (As := [.int x, .int (nI 0), .int (nI (n - 1))]) (rest := []) ⟨hx, hb, hml, hown, hts⟩ (c_T_in l D cI cJ cZ x (nI 0) (nI (n - 1))) (wt_cwS 3 hts k_68 k_66 k_67 k_1 rfl rfl (by decide +kernel) ⟨Nat.le_of_ble_eq_true rfl, Nat.le_of_ble_eq_true rfl⟩) (ro_preS hK va_P_nil) rfl rfl hl.1 rfl (lv_room (Nat.le_of_ble_eq_true rfl)) d_T_due_11 ⟨Nat.zero_le _, Nat.zero_le _⟩) hS hP (fun r H locs hr11 hP hS => ?_)
  subst hr11
  refine wt_top (v := bz (wt_ok x n)) (congrArg bz (wt_in_ok h1 hn)) ?_
  refine wb_if_eq (tgt := 28) hx hb d_T_due_14 (by decide) (fun hc14 => ?_) (fun hc14 => ?_)
  · refine lv_bipush (v := ((-2))) hx hb d_T_due_28 (by decide +kernel) ?_
    exact ro_iret hx hb hr hlocks hS (by rw [wt_dueR_0 (wt_ok_f hc14)]) d_T_due_30
  · obtain ⟨k, hk, hxk⟩ := wt_ok_t hn hc14
    rw [hxk] at hl
    refine lv_aload_n hx hb d_T_due_17 rfl (lv_at hl 0 rfl) ?_
    refine va_get (D := D) (ci := 0) (v := .ref (a 0)) (C := R_T) (T := F_T) (N := 1) hx hb hts u_in_T hown hK hP 0 rfl rfl 0 (by decide) (hts _ k_58) (fun _ h9 => h9) rfl d_T_due_18 ?_
    refine lv_iload_n hx hb d_T_due_21 rfl (lv_at hl 1 rfl) ?_
    refine ro_calli (ws := tr_ws t a cI cJ cZ n pf ef gf tf af wf xf ts) (va_runV (As := [.int (nI k)]) (rest := []) ⟨hx, hb, hml, hown, hts⟩ (c_C_due l D cI cJ cZ a n pf ef gf tf af wf xf ts k hT hn hk (hg k hk).2) (wt_cwV 1 hts k_80 k_133 k_78 k_79 k_2 rfl rfl (by decide +kernel) ⟨Nat.le_of_ble_eq_true rfl, Nat.le_of_ble_eq_true rfl⟩) (ro_preV (q := (R_C, F_C, 9)) (ci := 1) hK (hP.sub (ws' := ch_ws a cI cJ cZ n pf ef gf tf af wf xf ts) [1, 2, 3, 4, 5, 6, 7, 8, 9] rfl) 0 rfl rfl) rfl rfl hl.1 rfl (lv_room (Nat.le_of_ble_eq_true rfl)) d_T_due_22 ⟨Nat.zero_le _, Nat.zero_le _⟩) hS hP (fun r H locs hr22 hP hS => ?_)
    subst hr22
    refine lv_goto (tgt := 30) hx hb d_T_due_25 (by decide) ?_
    exact ro_iret hx hb hr hlocks hS (by rw [hxk, wt_dueR_n hn hk]) d_T_due_30
set_option maxHeartbeats 4000000 in
set_option maxRecDepth 100000 in
theorem c_T_median (l : Launch) (D : va_G) (cI cJ cZ : ClassId) (t : Nat) (a : Nat → Nat) (n : Nat) (pf ef gf : Nat → Nat) (tf af : Nat → Int32) (wf : Nat → Int64) (xf : Nat → Bool) (ts : Nat → Int32) (sz : Nat) (x : Int32) (hT : Tr n pf ef) (h1 : 1 ≤ n) (hn : n ≤ 512) : Met l y_T_median (Cond.code y_T_median b_T_median 2 (some .int) :: wt_ws) ({ frames := 1, cells := 0, slots := 0, locals := 24 } : Room) (mn_Pc [.ref t, .int x] D (tr_ws t a cI cJ cZ n pf ef gf tf af wf xf ts) (wt_ty cI cJ cZ) sz) (mu_Qi (S := Nat → Int32) (fun r u => (r, u) = wt_medF n pf tf ts x) D (fun u => tr_ws t a cI cJ cZ n pf ef gf tf af wf xf u) (tr_ws t a cI cJ cZ n pf ef gf tf af wf xf ts) sz) 0 0 (va_A (tr_ws t a cI cJ cZ n pf ef gf tf af wf xf ts) sz) := by
  refine Met.ofW (cc := b_T_median) (maxL := 2) (ret := (some .int)) (by decide) rfl ?_
  intro pp ev s m args below meth c s₁ B hml hv
  obtain ⟨rfl, ⟨hsz, hP, hK, hD0⟩, hN⟩ := hv
  have hx := B.exec
  have hb := B.bytes
  have hr := B.returns
  have hts : ∀ w ∈ wt_ws, w.before ([.ref t, .int x] : List Value).toArray s = true := fun w hw => atoms_spec (ws := Cond.code y_T_median b_T_median 2 (some .int) :: wt_ws) B.pre w (List.mem_cons_of_mem _ hw)
  have hown : s.vm.findClass R_T = some m.cls := findClass_of_methodNamed B.named
  have hlocks := B.notSynchronized
  subst hsz
  have hD := hD0.self (sz := s.heap.size)
  have hA : ∀ q, s.heap.size ≤ q → va_A (tr_ws t a cI cJ cZ n pf ef gf tf af wf xf ts) s.heap.size q := fun q h => Or.inr h
  have hS : va_S (va_A (tr_ws t a cI cJ cZ n pf ef gf tf af wf xf ts) s.heap.size) s.heap s.heap [] := va_S.rf
  have hl := lv_entry ([.ref t, .int x]) (n := 2) (Nat.le_of_ble_eq_true rfl)
  rw [lg_entry_eq]
  generalize (lg_sl ([.ref t, .int x]) ++ List.replicate (2 - (lg_sl ([.ref t, .int x])).length) Slot.unset).toArray = ls at hl ⊢
  have hl : lv_has ls 2 [(0, .ref t), (1, .int x)] := hl
  refine lv_iload_n hx hb d_T_median_0 rfl (lv_at hl 1 rfl) ?_
  refine lv_iconst (v := (nI 0)) hx hb d_T_median_1 (by decide +kernel) ?_
  refine lv_aload_n hx hb d_T_median_2 rfl (lv_at hl 0 rfl) ?_
  refine va_get (D := D) (ci := 0) (v := .ref (a 0)) (C := R_T) (T := F_T) (N := 1) hx hb hts u_in_T hown hK hP 0 rfl rfl 0 (by decide) (hts _ k_58) (fun _ h9 => h9) rfl d_T_median_3 ?_
  refine va_get (D := D) (ci := 1) (v := .int (nI n)) (C := R_C) (T := F_C) (N := 9) hx hb hts u_in_C hown hK hP 1 rfl rfl 0 (by decide) (hts _ k_21) (fun _ h9 => h9) rfl d_T_median_6 ?_
  refine lv_iconst (v := (nI 1)) hx hb d_T_median_9 (by decide +kernel) ?_
  refine wn_isub hx hb (by omega) d_T_median_10 ?_
  refine ro_calli (ws := tr_ws t a cI cJ cZ n pf ef gf tf af wf xf ts) (va_runS (As := [.int x, .int (nI 0), .int (nI (n - 1))]) (rest := []) ⟨hx, hb, hml, hown, hts⟩ (c_T_in l D cI cJ cZ x (nI 0) (nI (n - 1))) (wt_cwS 3 hts k_68 k_66 k_67 k_1 rfl rfl (by decide +kernel) ⟨Nat.le_of_ble_eq_true rfl, Nat.le_of_ble_eq_true rfl⟩) (ro_preS hK va_P_nil) rfl rfl hl.1 rfl (lv_room (Nat.le_of_ble_eq_true rfl)) d_T_median_11 ⟨Nat.zero_le _, Nat.zero_le _⟩) hS hP (fun r H locs hr11 hP hS => ?_)
  subst hr11
  refine wt_top (v := bz (wt_ok x n)) (congrArg bz (wt_in_ok h1 hn)) ?_
  refine wb_if_eq (tgt := 28) hx hb d_T_median_14 (by decide) (fun hc14 => ?_) (fun hc14 => ?_)
  · refine lv_bipush (v := ((-2))) hx hb d_T_median_28 (by decide +kernel) ?_
    exact mu_iret ts hx hb hr hlocks hS hP hD (by rw [wt_medF_0 (wt_ok_f hc14)]) d_T_median_30
  · obtain ⟨k, hk, hxk⟩ := wt_ok_t hn hc14
    rw [hxk] at hl
    refine lv_aload_n hx hb d_T_median_17 rfl (lv_at hl 0 rfl) ?_
    refine va_get (D := D) (ci := 0) (v := .ref (a 0)) (C := R_T) (T := F_T) (N := 1) hx hb hts u_in_T hown hK hP 0 rfl rfl 0 (by decide) (hts _ k_58) (fun _ h9 => h9) rfl d_T_median_18 ?_
    refine lv_iload_n hx hb d_T_median_21 rfl (lv_at hl 1 rfl) ?_
    refine mu_calli (wc := ch_ws a cI cJ cZ n pf ef gf tf af wf xf ts) (wr := [(t, .inr (0, [.ref (a 0)]))]) (va_runVN (As := [.int (nI k)]) (rest := []) ⟨hx, hb, hml, hown, hts⟩ (c_C_median l D cI cJ cZ a n pf ef gf tf af wf xf ts _ k hT hn hk) (wt_cwN 1 hts k_72 hN k_71 ks_0 k_2 rfl rfl (by decide +kernel) ⟨Nat.le_of_ble_eq_true rfl, Nat.le_of_ble_eq_true rfl⟩) (mu_preV (q := (R_C, F_C, 9)) (ci := 1) hK (hP.sub (ws' := ch_ws a cI cJ cZ n pf ef gf tf af wf xf ts) [1, 2, 3, 4, 5, 6, 7, 8, 9] rfl) (hD.sub (ws' := ch_ws a cI cJ cZ n pf ef gf tf af wf xf ts) [1, 2, 3, 4, 5, 6, 7, 8, 9] (by decide) rfl) 0 rfl rfl) rfl rfl hl.1 rfl (lv_room (Nat.le_of_ble_eq_true rfl)) d_T_median_22 ⟨Nat.zero_le _, Nat.zero_le _⟩) hS hA hP hD [1, 2, 3, 4, 5, 6, 7, 8, 9] [0] rfl rfl (by decide) (by decide) (fun r u H locs hr22 hP hD hS => ?_)
    subst hr22
    have hP : va_P D classes (tr_ws t a cI cJ cZ n pf ef gf tf af wf xf (wt_medT pf tf k ts)) H := hP
    have hD : va_D _ (tr_ws t a cI cJ cZ n pf ef gf tf af wf xf (wt_medT pf tf k ts)) := hD
    refine lv_goto (tgt := 30) hx hb d_T_median_25 (by decide) ?_
    exact mu_iret (wt_medT pf tf k ts) hx hb hr hlocks hS hP hD (by rw [hxk, wt_medF_n hn hk]) d_T_median_30
set_option maxHeartbeats 4000000 in
set_option maxRecDepth 100000 in
theorem c_T_ancestor (l : Launch) (D : va_G) (cI cJ cZ : ClassId) (t : Nat) (a : Nat → Nat) (n : Nat) (pf ef gf : Nat → Nat) (tf af : Nat → Int32) (wf : Nat → Int64) (xf : Nat → Bool) (ts : Nat → Int32) (x y : Int32) (hT : Tr n pf ef) (h1 : 1 ≤ n) (hn : n ≤ 512) : Met l y_T_ancestor (Cond.code y_T_ancestor b_T_ancestor 3 (some .int) :: wt_ws) ({ frames := 1, cells := 0, slots := 0, locals := 23 } : Room) (ro_Pc [.ref t, .int x, .int y] D (tr_ws t a cI cJ cZ n pf ef gf tf af wf xf ts) (wt_ty cI cJ cZ)) (ro_Qi (fun r => r = wt_ancR n pf ef x y)) 0 0 (fun _ => False) := by
  refine Met.ofW (cc := b_T_ancestor) (maxL := 3) (ret := (some .int)) (by decide) rfl ?_
  intro pp ev s m args below meth c s₁ B hml hv
  obtain ⟨rfl, hP, hK⟩ := hv
  have hx := B.exec
  have hb := B.bytes
  have hr := B.returns
  have hts : ∀ w ∈ wt_ws, w.before ([.ref t, .int x, .int y] : List Value).toArray s = true := fun w hw => atoms_spec (ws := Cond.code y_T_ancestor b_T_ancestor 3 (some .int) :: wt_ws) B.pre w (List.mem_cons_of_mem _ hw)
  have hown : s.vm.findClass R_T = some m.cls := findClass_of_methodNamed B.named
  have hlocks := B.notSynchronized
  have hS : va_S (fun _ => False) s.heap s.heap [] := va_S.rf
  have hl := lv_entry ([.ref t, .int x, .int y]) (n := 3) (Nat.le_of_ble_eq_true rfl)
  rw [lg_entry_eq]
  generalize (lg_sl ([.ref t, .int x, .int y]) ++ List.replicate (3 - (lg_sl ([.ref t, .int x, .int y])).length) Slot.unset).toArray = ls at hl ⊢
  have hl : lv_has ls 3 [(0, .ref t), (1, .int x), (2, .int y)] := hl
  refine lv_iload_n hx hb d_T_ancestor_0 rfl (lv_at hl 1 rfl) ?_
  refine lv_iconst (v := (nI 0)) hx hb d_T_ancestor_1 (by decide +kernel) ?_
  refine lv_aload_n hx hb d_T_ancestor_2 rfl (lv_at hl 0 rfl) ?_
  refine va_get (D := D) (ci := 0) (v := .ref (a 0)) (C := R_T) (T := F_T) (N := 1) hx hb hts u_in_T hown hK hP 0 rfl rfl 0 (by decide) (hts _ k_58) (fun _ h9 => h9) rfl d_T_ancestor_3 ?_
  refine va_get (D := D) (ci := 1) (v := .int (nI n)) (C := R_C) (T := F_C) (N := 9) hx hb hts u_in_C hown hK hP 1 rfl rfl 0 (by decide) (hts _ k_21) (fun _ h9 => h9) rfl d_T_ancestor_6 ?_
  refine lv_iconst (v := (nI 1)) hx hb d_T_ancestor_9 (by decide +kernel) ?_
  refine wn_isub hx hb (by omega) d_T_ancestor_10 ?_
  refine ro_calli (ws := tr_ws t a cI cJ cZ n pf ef gf tf af wf xf ts) (va_runS (As := [.int x, .int (nI 0), .int (nI (n - 1))]) (rest := []) ⟨hx, hb, hml, hown, hts⟩ (c_T_in l D cI cJ cZ x (nI 0) (nI (n - 1))) (wt_cwS 3 hts k_68 k_66 k_67 k_1 rfl rfl (by decide +kernel) ⟨Nat.le_of_ble_eq_true rfl, Nat.le_of_ble_eq_true rfl⟩) (ro_preS hK va_P_nil) rfl rfl hl.1 rfl (lv_room (Nat.le_of_ble_eq_true rfl)) d_T_ancestor_11 ⟨Nat.zero_le _, Nat.zero_le _⟩) hS hP (fun r H locs hr11 hP hS => ?_)
  subst hr11
  refine wt_top (v := bz (wt_ok x n)) (congrArg bz (wt_in_ok h1 hn)) ?_
  refine wb_if_eq (tgt := 34) hx hb d_T_ancestor_14 (by decide) (fun hc14 => ?_) (fun hc14 => ?_)
  · refine lv_bipush (v := ((-2))) hx hb d_T_ancestor_34 (by decide +kernel) ?_
    exact ro_iret hx hb hr hlocks hS (by rw [wt_ancR_0 (wt_ok_f hc14)]) d_T_ancestor_36
  · obtain ⟨k, hk, hxk⟩ := wt_ok_t hn hc14
    rw [hxk] at hl
    have hek := hT.le k hk
    refine lv_iload_n hx hb d_T_ancestor_17 rfl (lv_at hl 2 rfl) ?_
    refine lv_iconst (v := (nI 0)) hx hb d_T_ancestor_18 (by decide +kernel) ?_
    refine lv_aload_n hx hb d_T_ancestor_19 rfl (lv_at hl 0 rfl) ?_
    refine va_get (D := D) (ci := 0) (v := .ref (a 0)) (C := R_T) (T := F_T) (N := 1) hx hb hts u_in_T hown hK hP 0 rfl rfl 0 (by decide) (hts _ k_58) (fun _ h9 => h9) rfl d_T_ancestor_20 ?_
    refine va_get (D := D) (ci := 1) (v := .ref (a 2)) (C := R_C) (T := F_C) (N := 9) hx hb hts u_in_C hown hK hP 1 rfl rfl 2 (by decide) (hts _ k_25) (fun _ h9 => h9) rfl d_T_ancestor_23 ?_
    refine lv_iload_n hx hb d_T_ancestor_26 rfl (lv_at hl 1 rfl) ?_
    refine wn_iald (k := k) (v := (nI (ef k))) hx hb hK hP 3 0 rfl rfl (by omega) (by decide) rfl d_T_ancestor_27 ?_
    refine ro_calli (ws := tr_ws t a cI cJ cZ n pf ef gf tf af wf xf ts) (va_runS (As := [.int y, .int (nI 0), .int (nI (ef k))]) (rest := []) ⟨hx, hb, hml, hown, hts⟩ (c_T_in l D cI cJ cZ y (nI 0) (nI (ef k))) (wt_cwS 3 hts k_68 k_66 k_67 k_1 rfl rfl (by decide +kernel) ⟨Nat.le_of_ble_eq_true rfl, Nat.le_of_ble_eq_true rfl⟩) (ro_preS hK va_P_nil) rfl rfl hl.1 rfl (lv_room (Nat.le_of_ble_eq_true rfl)) d_T_ancestor_28 ⟨Nat.zero_le _, Nat.zero_le _⟩) hS hP (fun r H locs hr28 hP hS => ?_)
    subst hr28
    refine wt_top (v := bz (wt_ok2 y (ef k))) (congrArg bz (wt_in_ok2 (by omega))) ?_
    refine wb_if_ne (tgt := 37) hx hb d_T_ancestor_31 (by decide) (fun hc31 => ?_) (fun hc31 => ?_)
    · obtain ⟨j, hj, hyj⟩ := wt_ok2_t (by omega) hc31
      rw [hyj] at hl
      refine lv_aload_n hx hb d_T_ancestor_37 rfl (lv_at hl 0 rfl) ?_
      refine va_get (D := D) (ci := 0) (v := .ref (a 0)) (C := R_T) (T := F_T) (N := 1) hx hb hts u_in_T hown hK hP 0 rfl rfl 0 (by decide) (hts _ k_58) (fun _ h9 => h9) rfl d_T_ancestor_38 ?_
      refine lv_iload_n hx hb d_T_ancestor_41 rfl (lv_at hl 1 rfl) ?_
      refine lv_iload_n hx hb d_T_ancestor_42 rfl (lv_at hl 2 rfl) ?_
      refine ro_calli (ws := tr_ws t a cI cJ cZ n pf ef gf tf af wf xf ts) (va_runV (As := [.int (nI k), .int (nI j)]) (rest := []) ⟨hx, hb, hml, hown, hts⟩ (c_C_ancestor l D cI cJ cZ a n pf ef gf tf af wf xf ts k j hT hn hk (by omega)) (wt_cwV 2 hts k_84 k_142 k_82 k_83 k_2 rfl rfl (by decide +kernel) ⟨Nat.le_of_ble_eq_true rfl, Nat.le_of_ble_eq_true rfl⟩) (ro_preV (q := (R_C, F_C, 9)) (ci := 1) hK (hP.sub (ws' := ch_ws a cI cJ cZ n pf ef gf tf af wf xf ts) [1, 2, 3, 4, 5, 6, 7, 8, 9] rfl) 0 rfl rfl) rfl rfl hl.1 rfl (lv_room (Nat.le_of_ble_eq_true rfl)) d_T_ancestor_43 ⟨Nat.zero_le _, Nat.zero_le _⟩) hS hP (fun r H locs hr43 hP hS => ?_)
      subst hr43
      exact ro_iret hx hb hr hlocks hS (by rw [hxk, hyj, wt_ancR_n hn hk (by omega) hj]) d_T_ancestor_46
    · refine lv_bipush (v := ((-2))) hx hb d_T_ancestor_34 (by decide +kernel) ?_
      exact ro_iret hx hb hr hlocks hS (by rw [hxk, wt_ancR_f hn hk hc31]) d_T_ancestor_36
set_option maxHeartbeats 4000000 in
set_option maxRecDepth 100000 in
theorem c_T_look (l : Launch) (D : va_G) (cI cJ cZ : ClassId) (t : Nat) (a : Nat → Nat) (n : Nat) (pf ef gf : Nat → Nat) (tf af : Nat → Int32) (wf : Nat → Int64) (xf : Nat → Bool) (ts : Nat → Int32) (x y : Int32) (h1 : 1 ≤ n) (hn : n ≤ 512) : Met l y_T_look (Cond.code y_T_look b_T_look 3 (some .long) :: wt_ws) ({ frames := 1, cells := 0, slots := 0, locals := 22 } : Room) (ro_Pc [.ref t, .int x, .int y] D (tr_ws t a cI cJ cZ n pf ef gf tf af wf xf ts) (wt_ty cI cJ cZ)) (ro_Ql (fun r => r = wt_lookR n pf ef gf tf wf xf x y)) 0 0 (fun _ => False) := by
  refine Met.ofW (cc := b_T_look) (maxL := 3) (ret := (some .long)) (by decide) rfl ?_
  intro pp ev s m args below meth c s₁ B hml hv
  obtain ⟨rfl, hP, hK⟩ := hv
  have hx := B.exec
  have hb := B.bytes
  have hr := B.returns
  have hts : ∀ w ∈ wt_ws, w.before ([.ref t, .int x, .int y] : List Value).toArray s = true := fun w hw => atoms_spec (ws := Cond.code y_T_look b_T_look 3 (some .long) :: wt_ws) B.pre w (List.mem_cons_of_mem _ hw)
  have hown : s.vm.findClass R_T = some m.cls := findClass_of_methodNamed B.named
  have hlocks := B.notSynchronized
  have hS : va_S (fun _ => False) s.heap s.heap [] := va_S.rf
  have hl := lv_entry ([.ref t, .int x, .int y]) (n := 3) (Nat.le_of_ble_eq_true rfl)
  rw [lg_entry_eq]
  generalize (lg_sl ([.ref t, .int x, .int y]) ++ List.replicate (3 - (lg_sl ([.ref t, .int x, .int y])).length) Slot.unset).toArray = ls at hl ⊢
  have hl : lv_has ls 3 [(0, .ref t), (1, .int x), (2, .int y)] := hl
  refine lv_iload_n hx hb d_T_look_0 rfl (lv_at hl 2 rfl) ?_
  refine lv_iconst (v := (nI 0)) hx hb d_T_look_1 (by decide +kernel) ?_
  refine lv_iconst (v := (nI 5)) hx hb d_T_look_2 (by decide +kernel) ?_
  refine ro_calli (ws := tr_ws t a cI cJ cZ n pf ef gf tf af wf xf ts) (va_runS (As := [.int y, .int (nI 0), .int (nI 5)]) (rest := []) ⟨hx, hb, hml, hown, hts⟩ (c_T_in l D cI cJ cZ y (nI 0) (nI 5)) (wt_cwS 3 hts k_68 k_66 k_67 k_1 rfl rfl (by decide +kernel) ⟨Nat.le_of_ble_eq_true rfl, Nat.le_of_ble_eq_true rfl⟩) (ro_preS hK va_P_nil) rfl rfl hl.1 rfl (lv_room (Nat.le_of_ble_eq_true rfl)) d_T_look_3 ⟨Nat.zero_le _, Nat.zero_le _⟩) hS hP (fun r H locs hr3 hP hS => ?_)
  subst hr3
  refine wt_top (v := bz (wt_ok2 y 5)) (congrArg bz (wt_in_ok2 (by omega))) ?_
  refine wb_if_ne (tgt := 13) hx hb d_T_look_6 (by decide) (fun hc6 => ?_) (fun hc6 => ?_)
  · obtain ⟨j, hj, hyj⟩ := wt_ok2_t (by omega) hc6
    refine lv_iload_n hx hb d_T_look_13 rfl (lv_at hl 1 rfl) ?_
    refine lv_iconst (v := (nI 0)) hx hb d_T_look_14 (by decide +kernel) ?_
    refine lv_aload_n hx hb d_T_look_15 rfl (lv_at hl 0 rfl) ?_
    refine va_get (D := D) (ci := 0) (v := .ref (a 0)) (C := R_T) (T := F_T) (N := 1) hx hb hts u_in_T hown hK hP 0 rfl rfl 0 (by decide) (hts _ k_58) (fun _ h9 => h9) rfl d_T_look_16 ?_
    refine va_get (D := D) (ci := 1) (v := .int (nI n)) (C := R_C) (T := F_C) (N := 9) hx hb hts u_in_C hown hK hP 1 rfl rfl 0 (by decide) (hts _ k_21) (fun _ h9 => h9) rfl d_T_look_19 ?_
    refine lv_iconst (v := (nI 1)) hx hb d_T_look_22 (by decide +kernel) ?_
    refine wn_isub hx hb (by omega) d_T_look_23 ?_
    refine ro_calli (ws := tr_ws t a cI cJ cZ n pf ef gf tf af wf xf ts) (va_runS (As := [.int x, .int (nI 0), .int (nI (n - 1))]) (rest := []) ⟨hx, hb, hml, hown, hts⟩ (c_T_in l D cI cJ cZ x (nI 0) (nI (n - 1))) (wt_cwS 3 hts k_68 k_66 k_67 k_1 rfl rfl (by decide +kernel) ⟨Nat.le_of_ble_eq_true rfl, Nat.le_of_ble_eq_true rfl⟩) (ro_preS hK va_P_nil) rfl rfl hl.1 rfl (lv_room (Nat.le_of_ble_eq_true rfl)) d_T_look_24 ⟨Nat.zero_le _, Nat.zero_le _⟩) hS hP (fun r H locs hr24 hP hS => ?_)
    subst hr24
    refine wt_top (v := bz (wt_ok x n)) (congrArg bz (wt_in_ok h1 hn)) ?_
    refine wb_if_ne (tgt := 34) hx hb d_T_look_27 (by decide) (fun hc27 => ?_) (fun hc27 => ?_)
    · obtain ⟨k, hk, hxk⟩ := wt_ok_t hn hc27
      rw [hxk] at hl
      rw [hyj] at hl
      refine lv_iload_n hx hb d_T_look_34 rfl (lv_at hl 2 rfl) ?_
      rcases (show j = 0 ∨ j = 1 ∨ j = 2 ∨ j = 3 ∨ j = 4 ∨ j = 5 by omega) with rfl | rfl | rfl | rfl | rfl | rfl
      · refine lv_tableIn (off := 33) (tgt := 68) hx hb d_T_look_35 (by decide +kernel) (by decide +kernel) (by decide +kernel) (by decide) ?_
        refine lv_aload_n hx hb d_T_look_68 rfl (lv_at hl 0 rfl) ?_
        refine va_get (D := D) (ci := 0) (v := .ref (a 0)) (C := R_T) (T := F_T) (N := 1) hx hb hts u_in_T hown hK hP 0 rfl rfl 0 (by decide) (hts _ k_58) (fun _ h9 => h9) rfl d_T_look_69 ?_
        refine va_get (D := D) (ci := 1) (v := .ref (a 2)) (C := R_C) (T := F_C) (N := 9) hx hb hts u_in_C hown hK hP 1 rfl rfl 2 (by decide) (hts _ k_25) (fun _ h9 => h9) rfl d_T_look_72 ?_
        refine lv_iload_n hx hb d_T_look_75 rfl (lv_at hl 1 rfl) ?_
        refine wn_iald (k := k) (v := (nI (ef k))) hx hb hK hP 3 0 rfl rfl (by omega) (by decide) rfl d_T_look_76 ?_
        refine lv_i2l (v := (nI (ef k)).toInt64) hx hb d_T_look_77 rfl ?_
        exact ro_lret hx hb hr hlocks hS (by rw [hxk, hyj, wt_lookR_n hn hk (by omega)]; rfl) d_T_look_78
      · refine lv_tableIn (off := 44) (tgt := 79) hx hb d_T_look_35 (by decide +kernel) (by decide +kernel) (by decide +kernel) (by decide) ?_
        refine lv_iload_n hx hb d_T_look_79 rfl (lv_at hl 1 rfl) ?_
        refine wn_if_ne (tgt := 89) hx hb (by omega) d_T_look_80 (by decide) (fun hc80 => ?_) (fun hc80 => ?_)
        · refine lv_aload_n hx hb d_T_look_89 rfl (lv_at hl 0 rfl) ?_
          refine va_get (D := D) (ci := 0) (v := .ref (a 0)) (C := R_T) (T := F_T) (N := 1) hx hb hts u_in_T hown hK hP 0 rfl rfl 0 (by decide) (hts _ k_58) (fun _ h9 => h9) rfl d_T_look_90 ?_
          refine va_get (D := D) (ci := 1) (v := .ref (a 1)) (C := R_C) (T := F_C) (N := 9) hx hb hts u_in_C hown hK hP 1 rfl rfl 1 (by decide) (hts _ k_23) (fun _ h9 => h9) rfl d_T_look_93 ?_
          refine lv_iload_n hx hb d_T_look_96 rfl (lv_at hl 1 rfl) ?_
          refine wn_iald (k := k) (v := (nI (pf k))) hx hb hK hP 2 0 rfl rfl (by omega) (by decide) (ar_p_at (by omega)) d_T_look_97 ?_
          refine lv_i2l (v := (nI (pf k)).toInt64) hx hb d_T_look_98 rfl ?_
          exact ro_lret hx hb hr hlocks hS (by rw [hxk, hyj, wt_lookR_n hn hk (by omega)]; exact (if_neg hc80).symm) d_T_look_99
        · refine lv_ldc2 (v := (-2)) hx hb hown (hts _ k_148) d_T_look_83 ?_
          refine lv_goto (tgt := 99) hx hb d_T_look_86 (by decide) ?_
          exact ro_lret hx hb hr hlocks hS (by rw [hxk, hyj, wt_lookR_n hn hk (by omega)]; exact (if_pos hc80).symm) d_T_look_99
      · refine lv_tableIn (off := 65) (tgt := 100) hx hb d_T_look_35 (by decide +kernel) (by decide +kernel) (by decide +kernel) (by decide) ?_
        refine lv_aload_n hx hb d_T_look_100 rfl (lv_at hl 0 rfl) ?_
        refine va_get (D := D) (ci := 0) (v := .ref (a 0)) (C := R_T) (T := F_T) (N := 1) hx hb hts u_in_T hown hK hP 0 rfl rfl 0 (by decide) (hts _ k_58) (fun _ h9 => h9) rfl d_T_look_101 ?_
        refine va_get (D := D) (ci := 1) (v := .ref (a 3)) (C := R_C) (T := F_C) (N := 9) hx hb hts u_in_C hown hK hP 1 rfl rfl 3 (by decide) (hts _ k_27) (fun _ h9 => h9) rfl d_T_look_104 ?_
        refine lv_iload_n hx hb d_T_look_107 rfl (lv_at hl 1 rfl) ?_
        refine wn_iald (k := k) (v := (tf k)) hx hb hK hP 4 0 rfl rfl (by omega) (by decide) rfl d_T_look_108 ?_
        refine lv_i2l (v := (tf k).toInt64) hx hb d_T_look_109 rfl ?_
        exact ro_lret hx hb hr hlocks hS (by rw [hxk, hyj, wt_lookR_n hn hk (by omega)]; rfl) d_T_look_110
      · refine lv_tableIn (off := 76) (tgt := 111) hx hb d_T_look_35 (by decide +kernel) (by decide +kernel) (by decide +kernel) (by decide) ?_
        refine lv_aload_n hx hb d_T_look_111 rfl (lv_at hl 0 rfl) ?_
        refine va_get (D := D) (ci := 0) (v := .ref (a 0)) (C := R_T) (T := F_T) (N := 1) hx hb hts u_in_T hown hK hP 0 rfl rfl 0 (by decide) (hts _ k_58) (fun _ h9 => h9) rfl d_T_look_112 ?_
        refine va_get (D := D) (ci := 1) (v := .ref (a 4)) (C := R_C) (T := F_C) (N := 9) hx hb hts u_in_C hown hK hP 1 rfl rfl 4 (by decide) (hts _ k_29) (fun _ h9 => h9) rfl d_T_look_115 ?_
        refine lv_iload_n hx hb d_T_look_118 rfl (lv_at hl 1 rfl) ?_
        refine wn_iald (k := k) (v := (nI (gf k))) hx hb hK hP 5 0 rfl rfl (by omega) (by decide) rfl d_T_look_119 ?_
        refine lv_i2l (v := (nI (gf k)).toInt64) hx hb d_T_look_120 rfl ?_
        exact ro_lret hx hb hr hlocks hS (by rw [hxk, hyj, wt_lookR_n hn hk (by omega)]; rfl) d_T_look_121
      · refine lv_tableIn (off := 87) (tgt := 122) hx hb d_T_look_35 (by decide +kernel) (by decide +kernel) (by decide +kernel) (by decide) ?_
        refine lv_aload_n hx hb d_T_look_122 rfl (lv_at hl 0 rfl) ?_
        refine va_get (D := D) (ci := 0) (v := .ref (a 0)) (C := R_T) (T := F_T) (N := 1) hx hb hts u_in_T hown hK hP 0 rfl rfl 0 (by decide) (hts _ k_58) (fun _ h9 => h9) rfl d_T_look_123 ?_
        refine va_get (D := D) (ci := 1) (v := .ref (a 6)) (C := R_C) (T := F_C) (N := 9) hx hb hts u_in_C hown hK hP 1 rfl rfl 6 (by decide) (hts _ k_32) (fun _ h9 => h9) rfl d_T_look_126 ?_
        refine lv_iload_n hx hb d_T_look_129 rfl (lv_at hl 1 rfl) ?_
        refine wn_lald (k := k) (v := wf k) hx hb hK hP 7 1 rfl rfl (by omega) (by decide) rfl d_T_look_130 ?_
        exact ro_lret hx hb hr hlocks hS (by rw [hxk, hyj, wt_lookR_n hn hk (by omega)]; rfl) d_T_look_131
      · refine lv_tableOut (tgt := 132) hx hb d_T_look_35 (by decide +kernel) (by decide) ?_
        refine lv_aload_n hx hb d_T_look_132 rfl (lv_at hl 0 rfl) ?_
        refine va_get (D := D) (ci := 0) (v := .ref (a 0)) (C := R_T) (T := F_T) (N := 1) hx hb hts u_in_T hown hK hP 0 rfl rfl 0 (by decide) (hts _ k_58) (fun _ h9 => h9) rfl d_T_look_133 ?_
        refine va_get (D := D) (ci := 1) (v := .ref (a 7)) (C := R_C) (T := F_C) (N := 9) hx hb hts u_in_C hown hK hP 1 rfl rfl 7 (by decide) (hts _ k_34) (fun _ h9 => h9) rfl d_T_look_136 ?_
        refine lv_iload_n hx hb d_T_look_139 rfl (lv_at hl 1 rfl) ?_
        refine wn_zald (k := k) (v := (bz (xf k))) hx hb hK hP 8 2 rfl rfl (by omega) (by decide) rfl d_T_look_140 ?_
        refine wb_if_eq (tgt := 148) hx hb d_T_look_141 (by decide) (fun hc141 => ?_) (fun hc141 => ?_)
        · refine lv_lconst (v := 0) hx hb d_T_look_148 (by decide +kernel) ?_
          exact ro_lret hx hb hr hlocks hS (by rw [hxk, hyj, wt_lookR_n hn hk (by omega)]; show _ = (if xf k = true then (1 : Int64) else 0); rw [hc141]; rfl) d_T_look_149
        · refine lv_lconst (v := 1) hx hb d_T_look_144 (by decide +kernel) ?_
          refine lv_goto (tgt := 149) hx hb d_T_look_145 (by decide) ?_
          exact ro_lret hx hb hr hlocks hS (by rw [hxk, hyj, wt_lookR_n hn hk (by omega)]; show _ = (if xf k = true then (1 : Int64) else 0); rw [hc141]; rfl) d_T_look_149
    · refine lv_ldc2 (v := (-2)) hx hb hown (hts _ k_148) d_T_look_30 ?_
      exact ro_lret hx hb hr hlocks hS (by rw [wt_lookR_0 hc6 (wt_ok_f hc27)]) d_T_look_33
  · refine lv_ldc2 (v := (-1)) hx hb hown (hts _ k_147) d_T_look_9 ?_
    exact ro_lret hx hb hr hlocks hS (by rw [wt_lookR_q hc6]) d_T_look_12
end
section
set_option maxHeartbeats 4000000 in
set_option maxRecDepth 100000 in
theorem c_C_init (l : Launch) (D : va_G) (cI cJ cZ : ClassId) (h0 sz : Nat) : Met l y_C_init (Cond.code y_C_init b_C_init 1 none :: wt_ws) ({ frames := 1, cells := 8, slots := 3591, locals := 12 } : Room) (mu_Pc [.ref h0] D ([(h0, .inr (1, [.int 0, .null, .null, .null, .null, .null, .null, .null, .null]))]) (wt_ty cI cJ cZ) sz) (mu_Qv (S := Nat → Nat) (fun u => u 0 = h0) D (fun u => ch_ws u cI cJ cZ 1 (fun _ => 0) (fun _ => 0) (va_up (fun _ => 0) 0 32768) (fun _ => 0) (fun _ => 0) (fun _ => 0) (fun _ => false) (fun _ => 0)) ([(h0, .inr (1, [.int 0, .null, .null, .null, .null, .null, .null, .null, .null]))]) sz) 8 3591 (va_A ([(h0, .inr (1, [.int 0, .null, .null, .null, .null, .null, .null, .null, .null]))]) sz) := by
  refine Met.ofW (cc := b_C_init) (maxL := 1) (ret := none) (by decide) rfl ?_
  intro pp ev s m args below meth c s₁ B hml hv
  obtain ⟨rfl, hsz, hP, hK, hD0⟩ := hv
  have hx := B.exec
  have hb := B.bytes
  have hr := B.returns
  have hts : ∀ w ∈ wt_ws, w.before ([.ref h0] : List Value).toArray s = true := fun w hw => atoms_spec (ws := Cond.code y_C_init b_C_init 1 none :: wt_ws) B.pre w (List.mem_cons_of_mem _ hw)
  have hown : s.vm.findClass R_C = some m.cls := findClass_of_methodNamed B.named
  have hlocks := B.notSynchronized
  have hin : meth.name = "<init>" := (name_of_methodNamed B.named B.method).1
  subst hsz
  have hD := hD0.self (sz := s.heap.size)
  have hA : ∀ q, s.heap.size ≤ q → va_A ([(h0, .inr (1, [.int 0, .null, .null, .null, .null, .null, .null, .null, .null]))]) s.heap.size q := fun q h => Or.inr h
  have hS : va_S (va_A ([(h0, .inr (1, [.int 0, .null, .null, .null, .null, .null, .null, .null, .null]))]) s.heap.size) s.heap s.heap [] := va_S.rf
  have hl := lv_entry ([.ref h0]) (n := 1) (Nat.le_of_ble_eq_true rfl)
  rw [lg_entry_eq]
  generalize (lg_sl ([.ref h0]) ++ List.replicate (1 - (lg_sl ([.ref h0])).length) Slot.unset).toArray = ls at hl ⊢
  have hl : lv_has ls 1 [(0, .ref h0)] := hl
  refine lv_aload_n hx hb d_C_init_0 rfl (lv_at hl 0 rfl) ?_
  refine W.objInit hx hb hown (hts _ k_18) (hts _ k_11) (hts _ k_12) rfl (by rw [hml]; exact hl.1) rfl d_C_init_1 (Nat.le_of_ble_eq_true rfl) (Nat.le_of_ble_eq_true rfl) ?_
  refine W.eq (g2 := F0 m 4 ls []) rfl ?_
  refine lv_aload_n hx hb d_C_init_4 rfl (lv_at hl 0 rfl) ?_
  refine lv_iconst (v := (nI 1)) hx hb d_C_init_5 (by decide +kernel) ?_
  refine va_put (D := D) (ci := 1) (v := .int (nI 1)) (ty := .int) (C := R_C) (T := F_C) (N := 9) hx hb hts u_in_C ft_C ft_C_ok n_C hown hK hP hD hS 0 rfl rfl 0 (by decide) (hts _ k_20) (fun _ h9 => h9) rfl (by decide +kernel) rfl rfl (Nat.le_of_ble_eq_true rfl) d_C_init_6 (fun H locs hP hD hS => ?_)
  have hP : va_P D classes ([(h0, .inr (1, [.int (nI 1), .null, .null, .null, .null, .null, .null, .null, .null]))]) H := hP
  have hD : va_D _ ([(h0, .inr (1, [.int (nI 1), .null, .null, .null, .null, .null, .null, .null, .null]))]) := hD
  refine lv_aload_n hx hb d_C_init_9 rfl (lv_at hl 0 rfl) ?_
  refine lv_sipush (v := (nI 512)) hx hb d_C_init_10 (by decide +kernel) ?_
  refine wt_newa (ty := .int) (c0 := cI) (N' := 512) (a0 := (512, .inl (fun _ => 0))) hx hb (hts _ k_55) rfl hK hP hD hS hA 0 rfl (fun _ h => by cases h) (fun _ => rfl) (by decide +kernel) (by decide +kernel) (by decide +kernel) (Nat.le_of_ble_eq_true rfl) (Nat.le_of_ble_eq_true rfl) d_C_init_13 (fun q1 H hP hD hS => ?_)
  have hP : va_P D classes ([(h0, .inr (1, [.int (nI 1), .null, .null, .null, .null, .null, .null, .null, .null])), (q1, .inl (cI, 512, .inl (fun _ => 0)))]) H := hP
  have hD : va_D _ ([(h0, .inr (1, [.int (nI 1), .null, .null, .null, .null, .null, .null, .null, .null])), (q1, .inl (cI, 512, .inl (fun _ => 0)))]) := hD
  refine W.cs (cells' := 1) (slots' := 512) rfl rfl ?_
  refine va_putF (D := D) (ci := 1) (v := .ref q1) (ty := .array .int) (C := R_C) (T := F_C) (N := 9) hx hb hts u_in_C ft_C ft_C_ok n_C hown hK hP hD hS 0 rfl rfl 1 (by decide) (hts _ k_22) (fun _ h9 => h9) rfl hin rfl (by decide +kernel) rfl rfl (Nat.le_of_ble_eq_true rfl) d_C_init_15 (fun H locs hP hD hS => ?_)
  have hP : va_P D classes ([(h0, .inr (1, [.int (nI 1), .ref q1, .null, .null, .null, .null, .null, .null, .null])), (q1, .inl (cI, 512, .inl (fun _ => 0)))]) H := hP
  have hD : va_D _ ([(h0, .inr (1, [.int (nI 1), .ref q1, .null, .null, .null, .null, .null, .null, .null])), (q1, .inl (cI, 512, .inl (fun _ => 0)))]) := hD
  refine lv_aload_n hx hb d_C_init_18 rfl (lv_at hl 0 rfl) ?_
  refine lv_sipush (v := (nI 512)) hx hb d_C_init_19 (by decide +kernel) ?_
  refine wt_newa (ty := .int) (c0 := cI) (N' := 512) (a0 := (512, .inl (fun _ => 0))) hx hb (hts _ k_55) rfl hK hP hD hS hA 0 rfl (fun _ h => by cases h) (fun _ => rfl) (by decide +kernel) (by decide +kernel) (by decide +kernel) (Nat.le_of_ble_eq_true rfl) (Nat.le_of_ble_eq_true rfl) d_C_init_22 (fun q2 H hP hD hS => ?_)
  have hP : va_P D classes ([(h0, .inr (1, [.int (nI 1), .ref q1, .null, .null, .null, .null, .null, .null, .null])), (q1, .inl (cI, 512, .inl (fun _ => 0))), (q2, .inl (cI, 512, .inl (fun _ => 0)))]) H := hP
  have hD : va_D _ ([(h0, .inr (1, [.int (nI 1), .ref q1, .null, .null, .null, .null, .null, .null, .null])), (q1, .inl (cI, 512, .inl (fun _ => 0))), (q2, .inl (cI, 512, .inl (fun _ => 0)))]) := hD
  refine W.cs (cells' := 2) (slots' := 1024) rfl rfl ?_
  refine va_putF (D := D) (ci := 1) (v := .ref q2) (ty := .array .int) (C := R_C) (T := F_C) (N := 9) hx hb hts u_in_C ft_C ft_C_ok n_C hown hK hP hD hS 0 rfl rfl 2 (by decide) (hts _ k_24) (fun _ h9 => h9) rfl hin rfl (by decide +kernel) rfl rfl (Nat.le_of_ble_eq_true rfl) d_C_init_24 (fun H locs hP hD hS => ?_)
  have hP : va_P D classes ([(h0, .inr (1, [.int (nI 1), .ref q1, .ref q2, .null, .null, .null, .null, .null, .null])), (q1, .inl (cI, 512, .inl (fun _ => 0))), (q2, .inl (cI, 512, .inl (fun _ => 0)))]) H := hP
  have hD : va_D _ ([(h0, .inr (1, [.int (nI 1), .ref q1, .ref q2, .null, .null, .null, .null, .null, .null])), (q1, .inl (cI, 512, .inl (fun _ => 0))), (q2, .inl (cI, 512, .inl (fun _ => 0)))]) := hD
  refine lv_aload_n hx hb d_C_init_27 rfl (lv_at hl 0 rfl) ?_
  refine lv_sipush (v := (nI 512)) hx hb d_C_init_28 (by decide +kernel) ?_
  refine wt_newa (ty := .int) (c0 := cI) (N' := 512) (a0 := (512, .inl (fun _ => 0))) hx hb (hts _ k_55) rfl hK hP hD hS hA 0 rfl (fun _ h => by cases h) (fun _ => rfl) (by decide +kernel) (by decide +kernel) (by decide +kernel) (Nat.le_of_ble_eq_true rfl) (Nat.le_of_ble_eq_true rfl) d_C_init_31 (fun q3 H hP hD hS => ?_)
  have hP : va_P D classes ([(h0, .inr (1, [.int (nI 1), .ref q1, .ref q2, .null, .null, .null, .null, .null, .null])), (q1, .inl (cI, 512, .inl (fun _ => 0))), (q2, .inl (cI, 512, .inl (fun _ => 0))), (q3, .inl (cI, 512, .inl (fun _ => 0)))]) H := hP
  have hD : va_D _ ([(h0, .inr (1, [.int (nI 1), .ref q1, .ref q2, .null, .null, .null, .null, .null, .null])), (q1, .inl (cI, 512, .inl (fun _ => 0))), (q2, .inl (cI, 512, .inl (fun _ => 0))), (q3, .inl (cI, 512, .inl (fun _ => 0)))]) := hD
  refine W.cs (cells' := 3) (slots' := 1536) rfl rfl ?_
  refine va_putF (D := D) (ci := 1) (v := .ref q3) (ty := .array .int) (C := R_C) (T := F_C) (N := 9) hx hb hts u_in_C ft_C ft_C_ok n_C hown hK hP hD hS 0 rfl rfl 3 (by decide) (hts _ k_26) (fun _ h9 => h9) rfl hin rfl (by decide +kernel) rfl rfl (Nat.le_of_ble_eq_true rfl) d_C_init_33 (fun H locs hP hD hS => ?_)
  have hP : va_P D classes ([(h0, .inr (1, [.int (nI 1), .ref q1, .ref q2, .ref q3, .null, .null, .null, .null, .null])), (q1, .inl (cI, 512, .inl (fun _ => 0))), (q2, .inl (cI, 512, .inl (fun _ => 0))), (q3, .inl (cI, 512, .inl (fun _ => 0)))]) H := hP
  have hD : va_D _ ([(h0, .inr (1, [.int (nI 1), .ref q1, .ref q2, .ref q3, .null, .null, .null, .null, .null])), (q1, .inl (cI, 512, .inl (fun _ => 0))), (q2, .inl (cI, 512, .inl (fun _ => 0))), (q3, .inl (cI, 512, .inl (fun _ => 0)))]) := hD
  refine lv_aload_n hx hb d_C_init_36 rfl (lv_at hl 0 rfl) ?_
  refine lv_sipush (v := (nI 512)) hx hb d_C_init_37 (by decide +kernel) ?_
  refine wt_newa (ty := .int) (c0 := cI) (N' := 512) (a0 := (512, .inl (fun _ => 0))) hx hb (hts _ k_55) rfl hK hP hD hS hA 0 rfl (fun _ h => by cases h) (fun _ => rfl) (by decide +kernel) (by decide +kernel) (by decide +kernel) (Nat.le_of_ble_eq_true rfl) (Nat.le_of_ble_eq_true rfl) d_C_init_40 (fun q4 H hP hD hS => ?_)
  have hP : va_P D classes ([(h0, .inr (1, [.int (nI 1), .ref q1, .ref q2, .ref q3, .null, .null, .null, .null, .null])), (q1, .inl (cI, 512, .inl (fun _ => 0))), (q2, .inl (cI, 512, .inl (fun _ => 0))), (q3, .inl (cI, 512, .inl (fun _ => 0))), (q4, .inl (cI, 512, .inl (fun _ => 0)))]) H := hP
  have hD : va_D _ ([(h0, .inr (1, [.int (nI 1), .ref q1, .ref q2, .ref q3, .null, .null, .null, .null, .null])), (q1, .inl (cI, 512, .inl (fun _ => 0))), (q2, .inl (cI, 512, .inl (fun _ => 0))), (q3, .inl (cI, 512, .inl (fun _ => 0))), (q4, .inl (cI, 512, .inl (fun _ => 0)))]) := hD
  refine W.cs (cells' := 4) (slots' := 2048) rfl rfl ?_
  refine va_putF (D := D) (ci := 1) (v := .ref q4) (ty := .array .int) (C := R_C) (T := F_C) (N := 9) hx hb hts u_in_C ft_C ft_C_ok n_C hown hK hP hD hS 0 rfl rfl 4 (by decide) (hts _ k_28) (fun _ h9 => h9) rfl hin rfl (by decide +kernel) rfl rfl (Nat.le_of_ble_eq_true rfl) d_C_init_42 (fun H locs hP hD hS => ?_)
  have hP : va_P D classes ([(h0, .inr (1, [.int (nI 1), .ref q1, .ref q2, .ref q3, .ref q4, .null, .null, .null, .null])), (q1, .inl (cI, 512, .inl (fun _ => 0))), (q2, .inl (cI, 512, .inl (fun _ => 0))), (q3, .inl (cI, 512, .inl (fun _ => 0))), (q4, .inl (cI, 512, .inl (fun _ => 0)))]) H := hP
  have hD : va_D _ ([(h0, .inr (1, [.int (nI 1), .ref q1, .ref q2, .ref q3, .ref q4, .null, .null, .null, .null])), (q1, .inl (cI, 512, .inl (fun _ => 0))), (q2, .inl (cI, 512, .inl (fun _ => 0))), (q3, .inl (cI, 512, .inl (fun _ => 0))), (q4, .inl (cI, 512, .inl (fun _ => 0)))]) := hD
  refine lv_aload_n hx hb d_C_init_45 rfl (lv_at hl 0 rfl) ?_
  refine lv_sipush (v := (nI 512)) hx hb d_C_init_46 (by decide +kernel) ?_
  refine wt_newa (ty := .int) (c0 := cI) (N' := 512) (a0 := (512, .inl (fun _ => 0))) hx hb (hts _ k_55) rfl hK hP hD hS hA 0 rfl (fun _ h => by cases h) (fun _ => rfl) (by decide +kernel) (by decide +kernel) (by decide +kernel) (Nat.le_of_ble_eq_true rfl) (Nat.le_of_ble_eq_true rfl) d_C_init_49 (fun q5 H hP hD hS => ?_)
  have hP : va_P D classes ([(h0, .inr (1, [.int (nI 1), .ref q1, .ref q2, .ref q3, .ref q4, .null, .null, .null, .null])), (q1, .inl (cI, 512, .inl (fun _ => 0))), (q2, .inl (cI, 512, .inl (fun _ => 0))), (q3, .inl (cI, 512, .inl (fun _ => 0))), (q4, .inl (cI, 512, .inl (fun _ => 0))), (q5, .inl (cI, 512, .inl (fun _ => 0)))]) H := hP
  have hD : va_D _ ([(h0, .inr (1, [.int (nI 1), .ref q1, .ref q2, .ref q3, .ref q4, .null, .null, .null, .null])), (q1, .inl (cI, 512, .inl (fun _ => 0))), (q2, .inl (cI, 512, .inl (fun _ => 0))), (q3, .inl (cI, 512, .inl (fun _ => 0))), (q4, .inl (cI, 512, .inl (fun _ => 0))), (q5, .inl (cI, 512, .inl (fun _ => 0)))]) := hD
  refine W.cs (cells' := 5) (slots' := 2560) rfl rfl ?_
  refine va_putF (D := D) (ci := 1) (v := .ref q5) (ty := .array .int) (C := R_C) (T := F_C) (N := 9) hx hb hts u_in_C ft_C ft_C_ok n_C hown hK hP hD hS 0 rfl rfl 5 (by decide) (hts _ k_30) (fun _ h9 => h9) rfl hin rfl (by decide +kernel) rfl rfl (Nat.le_of_ble_eq_true rfl) d_C_init_51 (fun H locs hP hD hS => ?_)
  have hP : va_P D classes ([(h0, .inr (1, [.int (nI 1), .ref q1, .ref q2, .ref q3, .ref q4, .ref q5, .null, .null, .null])), (q1, .inl (cI, 512, .inl (fun _ => 0))), (q2, .inl (cI, 512, .inl (fun _ => 0))), (q3, .inl (cI, 512, .inl (fun _ => 0))), (q4, .inl (cI, 512, .inl (fun _ => 0))), (q5, .inl (cI, 512, .inl (fun _ => 0)))]) H := hP
  have hD : va_D _ ([(h0, .inr (1, [.int (nI 1), .ref q1, .ref q2, .ref q3, .ref q4, .ref q5, .null, .null, .null])), (q1, .inl (cI, 512, .inl (fun _ => 0))), (q2, .inl (cI, 512, .inl (fun _ => 0))), (q3, .inl (cI, 512, .inl (fun _ => 0))), (q4, .inl (cI, 512, .inl (fun _ => 0))), (q5, .inl (cI, 512, .inl (fun _ => 0)))]) := hD
  refine lv_aload_n hx hb d_C_init_54 rfl (lv_at hl 0 rfl) ?_
  refine lv_sipush (v := (nI 512)) hx hb d_C_init_55 (by decide +kernel) ?_
  refine wt_newa (ty := .long) (c0 := cJ) (N' := 512) (a0 := (512, .inr (.inl (fun _ => 0)))) hx hb (hts _ k_56) rfl hK hP hD hS hA 1 rfl (fun _ h => by cases h) (fun _ => rfl) (by decide +kernel) (by decide +kernel) (by decide +kernel) (Nat.le_of_ble_eq_true rfl) (Nat.le_of_ble_eq_true rfl) d_C_init_58 (fun q6 H hP hD hS => ?_)
  have hP : va_P D classes ([(h0, .inr (1, [.int (nI 1), .ref q1, .ref q2, .ref q3, .ref q4, .ref q5, .null, .null, .null])), (q1, .inl (cI, 512, .inl (fun _ => 0))), (q2, .inl (cI, 512, .inl (fun _ => 0))), (q3, .inl (cI, 512, .inl (fun _ => 0))), (q4, .inl (cI, 512, .inl (fun _ => 0))), (q5, .inl (cI, 512, .inl (fun _ => 0))), (q6, .inl (cJ, 512, .inr (.inl (fun _ => 0))))]) H := hP
  have hD : va_D _ ([(h0, .inr (1, [.int (nI 1), .ref q1, .ref q2, .ref q3, .ref q4, .ref q5, .null, .null, .null])), (q1, .inl (cI, 512, .inl (fun _ => 0))), (q2, .inl (cI, 512, .inl (fun _ => 0))), (q3, .inl (cI, 512, .inl (fun _ => 0))), (q4, .inl (cI, 512, .inl (fun _ => 0))), (q5, .inl (cI, 512, .inl (fun _ => 0))), (q6, .inl (cJ, 512, .inr (.inl (fun _ => 0))))]) := hD
  refine W.cs (cells' := 6) (slots' := 3072) rfl rfl ?_
  refine va_putF (D := D) (ci := 1) (v := .ref q6) (ty := .array .long) (C := R_C) (T := F_C) (N := 9) hx hb hts u_in_C ft_C ft_C_ok n_C hown hK hP hD hS 0 rfl rfl 6 (by decide) (hts _ k_31) (fun _ h9 => h9) rfl hin rfl (by decide +kernel) rfl rfl (Nat.le_of_ble_eq_true rfl) d_C_init_60 (fun H locs hP hD hS => ?_)
  have hP : va_P D classes ([(h0, .inr (1, [.int (nI 1), .ref q1, .ref q2, .ref q3, .ref q4, .ref q5, .ref q6, .null, .null])), (q1, .inl (cI, 512, .inl (fun _ => 0))), (q2, .inl (cI, 512, .inl (fun _ => 0))), (q3, .inl (cI, 512, .inl (fun _ => 0))), (q4, .inl (cI, 512, .inl (fun _ => 0))), (q5, .inl (cI, 512, .inl (fun _ => 0))), (q6, .inl (cJ, 512, .inr (.inl (fun _ => 0))))]) H := hP
  have hD : va_D _ ([(h0, .inr (1, [.int (nI 1), .ref q1, .ref q2, .ref q3, .ref q4, .ref q5, .ref q6, .null, .null])), (q1, .inl (cI, 512, .inl (fun _ => 0))), (q2, .inl (cI, 512, .inl (fun _ => 0))), (q3, .inl (cI, 512, .inl (fun _ => 0))), (q4, .inl (cI, 512, .inl (fun _ => 0))), (q5, .inl (cI, 512, .inl (fun _ => 0))), (q6, .inl (cJ, 512, .inr (.inl (fun _ => 0))))]) := hD
  refine lv_aload_n hx hb d_C_init_63 rfl (lv_at hl 0 rfl) ?_
  refine lv_sipush (v := (nI 512)) hx hb d_C_init_64 (by decide +kernel) ?_
  refine wt_newa (ty := .boolean) (c0 := cZ) (N' := 512) (a0 := (512, .inl (fun _ => 0))) hx hb (hts _ k_57) rfl hK hP hD hS hA 2 rfl (fun _ h => by cases h) (fun _ => rfl) (by decide +kernel) (by decide +kernel) (by decide +kernel) (Nat.le_of_ble_eq_true rfl) (Nat.le_of_ble_eq_true rfl) d_C_init_67 (fun q7 H hP hD hS => ?_)
  have hP : va_P D classes ([(h0, .inr (1, [.int (nI 1), .ref q1, .ref q2, .ref q3, .ref q4, .ref q5, .ref q6, .null, .null])), (q1, .inl (cI, 512, .inl (fun _ => 0))), (q2, .inl (cI, 512, .inl (fun _ => 0))), (q3, .inl (cI, 512, .inl (fun _ => 0))), (q4, .inl (cI, 512, .inl (fun _ => 0))), (q5, .inl (cI, 512, .inl (fun _ => 0))), (q6, .inl (cJ, 512, .inr (.inl (fun _ => 0)))), (q7, .inl (cZ, 512, .inl (fun _ => 0)))]) H := hP
  have hD : va_D _ ([(h0, .inr (1, [.int (nI 1), .ref q1, .ref q2, .ref q3, .ref q4, .ref q5, .ref q6, .null, .null])), (q1, .inl (cI, 512, .inl (fun _ => 0))), (q2, .inl (cI, 512, .inl (fun _ => 0))), (q3, .inl (cI, 512, .inl (fun _ => 0))), (q4, .inl (cI, 512, .inl (fun _ => 0))), (q5, .inl (cI, 512, .inl (fun _ => 0))), (q6, .inl (cJ, 512, .inr (.inl (fun _ => 0)))), (q7, .inl (cZ, 512, .inl (fun _ => 0)))]) := hD
  refine W.cs (cells' := 7) (slots' := 3584) rfl rfl ?_
  refine va_putF (D := D) (ci := 1) (v := .ref q7) (ty := .array .boolean) (C := R_C) (T := F_C) (N := 9) hx hb hts u_in_C ft_C ft_C_ok n_C hown hK hP hD hS 0 rfl rfl 7 (by decide) (hts _ k_33) (fun _ h9 => h9) rfl hin rfl (by decide +kernel) rfl rfl (Nat.le_of_ble_eq_true rfl) d_C_init_69 (fun H locs hP hD hS => ?_)
  have hP : va_P D classes ([(h0, .inr (1, [.int (nI 1), .ref q1, .ref q2, .ref q3, .ref q4, .ref q5, .ref q6, .ref q7, .null])), (q1, .inl (cI, 512, .inl (fun _ => 0))), (q2, .inl (cI, 512, .inl (fun _ => 0))), (q3, .inl (cI, 512, .inl (fun _ => 0))), (q4, .inl (cI, 512, .inl (fun _ => 0))), (q5, .inl (cI, 512, .inl (fun _ => 0))), (q6, .inl (cJ, 512, .inr (.inl (fun _ => 0)))), (q7, .inl (cZ, 512, .inl (fun _ => 0)))]) H := hP
  have hD : va_D _ ([(h0, .inr (1, [.int (nI 1), .ref q1, .ref q2, .ref q3, .ref q4, .ref q5, .ref q6, .ref q7, .null])), (q1, .inl (cI, 512, .inl (fun _ => 0))), (q2, .inl (cI, 512, .inl (fun _ => 0))), (q3, .inl (cI, 512, .inl (fun _ => 0))), (q4, .inl (cI, 512, .inl (fun _ => 0))), (q5, .inl (cI, 512, .inl (fun _ => 0))), (q6, .inl (cJ, 512, .inr (.inl (fun _ => 0)))), (q7, .inl (cZ, 512, .inl (fun _ => 0)))]) := hD
  refine lv_aload_n hx hb d_C_init_72 rfl (lv_at hl 0 rfl) ?_
  refine lv_bipush (v := (nI 7)) hx hb d_C_init_73 (by decide +kernel) ?_
  refine wt_newa (ty := .int) (c0 := cI) (N' := 7) (a0 := (7, .inl (fun _ => 0))) hx hb (hts _ k_55) rfl hK hP hD hS hA 0 rfl (fun _ h => by cases h) (fun _ => rfl) (by decide +kernel) (by decide +kernel) (by decide +kernel) (Nat.le_of_ble_eq_true rfl) (Nat.le_of_ble_eq_true rfl) d_C_init_75 (fun q8 H hP hD hS => ?_)
  have hP : va_P D classes ([(h0, .inr (1, [.int (nI 1), .ref q1, .ref q2, .ref q3, .ref q4, .ref q5, .ref q6, .ref q7, .null])), (q1, .inl (cI, 512, .inl (fun _ => 0))), (q2, .inl (cI, 512, .inl (fun _ => 0))), (q3, .inl (cI, 512, .inl (fun _ => 0))), (q4, .inl (cI, 512, .inl (fun _ => 0))), (q5, .inl (cI, 512, .inl (fun _ => 0))), (q6, .inl (cJ, 512, .inr (.inl (fun _ => 0)))), (q7, .inl (cZ, 512, .inl (fun _ => 0))), (q8, .inl (cI, 7, .inl (fun _ => 0)))]) H := hP
  have hD : va_D _ ([(h0, .inr (1, [.int (nI 1), .ref q1, .ref q2, .ref q3, .ref q4, .ref q5, .ref q6, .ref q7, .null])), (q1, .inl (cI, 512, .inl (fun _ => 0))), (q2, .inl (cI, 512, .inl (fun _ => 0))), (q3, .inl (cI, 512, .inl (fun _ => 0))), (q4, .inl (cI, 512, .inl (fun _ => 0))), (q5, .inl (cI, 512, .inl (fun _ => 0))), (q6, .inl (cJ, 512, .inr (.inl (fun _ => 0)))), (q7, .inl (cZ, 512, .inl (fun _ => 0))), (q8, .inl (cI, 7, .inl (fun _ => 0)))]) := hD
  refine W.cs (cells' := 8) (slots' := 3591) rfl rfl ?_
  refine va_putF (D := D) (ci := 1) (v := .ref q8) (ty := .array .int) (C := R_C) (T := F_C) (N := 9) hx hb hts u_in_C ft_C ft_C_ok n_C hown hK hP hD hS 0 rfl rfl 8 (by decide) (hts _ k_35) (fun _ h9 => h9) rfl hin rfl (by decide +kernel) rfl rfl (Nat.le_of_ble_eq_true rfl) d_C_init_77 (fun H locs hP hD hS => ?_)
  have hP : va_P D classes ([(h0, .inr (1, [.int (nI 1), .ref q1, .ref q2, .ref q3, .ref q4, .ref q5, .ref q6, .ref q7, .ref q8])), (q1, .inl (cI, 512, .inl (fun _ => 0))), (q2, .inl (cI, 512, .inl (fun _ => 0))), (q3, .inl (cI, 512, .inl (fun _ => 0))), (q4, .inl (cI, 512, .inl (fun _ => 0))), (q5, .inl (cI, 512, .inl (fun _ => 0))), (q6, .inl (cJ, 512, .inr (.inl (fun _ => 0)))), (q7, .inl (cZ, 512, .inl (fun _ => 0))), (q8, .inl (cI, 7, .inl (fun _ => 0)))]) H := hP
  have hD : va_D _ ([(h0, .inr (1, [.int (nI 1), .ref q1, .ref q2, .ref q3, .ref q4, .ref q5, .ref q6, .ref q7, .ref q8])), (q1, .inl (cI, 512, .inl (fun _ => 0))), (q2, .inl (cI, 512, .inl (fun _ => 0))), (q3, .inl (cI, 512, .inl (fun _ => 0))), (q4, .inl (cI, 512, .inl (fun _ => 0))), (q5, .inl (cI, 512, .inl (fun _ => 0))), (q6, .inl (cJ, 512, .inr (.inl (fun _ => 0)))), (q7, .inl (cZ, 512, .inl (fun _ => 0))), (q8, .inl (cI, 7, .inl (fun _ => 0)))]) := hD
  refine lv_aload_n hx hb d_C_init_80 rfl (lv_at hl 0 rfl) ?_
  refine va_get (D := D) (ci := 1) (v := .ref q4) (C := R_C) (T := F_C) (N := 9) hx hb hts u_in_C hown hK hP 0 rfl rfl 4 (by decide) (hts _ k_28) (fun _ h9 => h9) rfl d_C_init_81 ?_
  refine lv_iconst (v := (nI 0)) hx hb d_C_init_84 (by decide +kernel) ?_
  refine lv_ldc (v := 32768) hx hb hown (hts _ k_19) d_C_init_85 ?_
  refine wt_top (v := nI 32768) (by decide +kernel) ?_
  refine wn_iast (ws' := [(h0, .inr (1, [.int (nI 1), .ref q1, .ref q2, .ref q3, .ref q4, .ref q5, .ref q6, .ref q7, .ref q8])), (q1, .inl (cI, 512, .inl (fun _ => 0))), (q2, .inl (cI, 512, .inl (fun _ => 0))), (q3, .inl (cI, 512, .inl (fun _ => 0))), (q4, .inl (cI, 512, .inl (ar_n (va_up (fun _ => 0) 0 32768)))), (q5, .inl (cI, 512, .inl (fun _ => 0))), (q6, .inl (cJ, 512, .inr (.inl (fun _ => 0)))), (q7, .inl (cZ, 512, .inl (fun _ => 0))), (q8, .inl (cI, 7, .inl (fun _ => 0)))]) (k := 0) hx hb hK hP hD hS 4 0 rfl rfl (by decide) (by decide) wt_tar0 rfl d_C_init_87 (fun H locs hP hD hS => ?_)
  refine lv_aload_n hx hb d_C_init_88 rfl (lv_at hl 0 rfl) ?_
  refine va_get (D := D) (ci := 1) (v := .ref q1) (C := R_C) (T := F_C) (N := 9) hx hb hts u_in_C hown hK hP 0 rfl rfl 1 (by decide) (hts _ k_22) (fun _ h9 => h9) rfl d_C_init_89 ?_
  refine lv_iconst (v := (nI 0)) hx hb d_C_init_92 (by decide +kernel) ?_
  refine lv_iconst (v := ((-1))) hx hb d_C_init_93 (by decide +kernel) ?_
  refine wn_iast (ws' := [(h0, .inr (1, [.int (nI 1), .ref q1, .ref q2, .ref q3, .ref q4, .ref q5, .ref q6, .ref q7, .ref q8])), (q1, .inl (cI, 512, .inl (ar_p (-1) (fun _ => 0)))), (q2, .inl (cI, 512, .inl (fun _ => 0))), (q3, .inl (cI, 512, .inl (fun _ => 0))), (q4, .inl (cI, 512, .inl (ar_n (va_up (fun _ => 0) 0 32768)))), (q5, .inl (cI, 512, .inl (fun _ => 0))), (q6, .inl (cJ, 512, .inr (.inl (fun _ => 0)))), (q7, .inl (cZ, 512, .inl (fun _ => 0))), (q8, .inl (cI, 7, .inl (fun _ => 0)))]) (k := 0) hx hb hK hP hD hS 1 0 rfl rfl (by decide) (by decide) (wt_par0 (-1)) rfl d_C_init_94 (fun H locs hP hD hS => ?_)
  exact mu_vret (fun k => [h0, q1, q2, q3, q4, q5, q6, q7, q8].getD k 0) hx hb hr hlocks hS hP hD rfl d_C_init_95
set_option maxHeartbeats 4000000 in
set_option maxRecDepth 100000 in
theorem c_T_init (l : Launch) (D : va_G) (cI cJ cZ : ClassId) (t sz : Nat) : Met l y_T_init (Cond.code y_T_init b_T_init 1 none :: wt_ws) ({ frames := 2, cells := 9, slots := 3600, locals := 32 } : Room) (mu_Pc [.ref t] D ([(t, .inr (0, [.null]))]) (wt_ty cI cJ cZ) sz) (mu_Qv (S := Nat → Nat) (fun _ => True) D (fun u => tr_ws t u cI cJ cZ 1 (fun _ => 0) (fun _ => 0) (va_up (fun _ => 0) 0 32768) (fun _ => 0) (fun _ => 0) (fun _ => 0) (fun _ => false) (fun _ => 0)) ([(t, .inr (0, [.null]))]) sz) 9 3600 (va_A ([(t, .inr (0, [.null]))]) sz) := by
  refine Met.ofW (cc := b_T_init) (maxL := 1) (ret := none) (by decide) rfl ?_
  intro pp ev s m args below meth c s₁ B hml hv
  obtain ⟨rfl, hsz, hP, hK, hD0⟩ := hv
  have hx := B.exec
  have hb := B.bytes
  have hr := B.returns
  have hts : ∀ w ∈ wt_ws, w.before ([.ref t] : List Value).toArray s = true := fun w hw => atoms_spec (ws := Cond.code y_T_init b_T_init 1 none :: wt_ws) B.pre w (List.mem_cons_of_mem _ hw)
  have hown : s.vm.findClass R_T = some m.cls := findClass_of_methodNamed B.named
  have hlocks := B.notSynchronized
  have hin : meth.name = "<init>" := (name_of_methodNamed B.named B.method).1
  subst hsz
  have hD := hD0.self (sz := s.heap.size)
  have hA : ∀ q, s.heap.size ≤ q → va_A ([(t, .inr (0, [.null]))]) s.heap.size q := fun q h => Or.inr h
  have hS : va_S (va_A ([(t, .inr (0, [.null]))]) s.heap.size) s.heap s.heap [] := va_S.rf
  have hl := lv_entry ([.ref t]) (n := 1) (Nat.le_of_ble_eq_true rfl)
  rw [lg_entry_eq]
  generalize (lg_sl ([.ref t]) ++ List.replicate (1 - (lg_sl ([.ref t])).length) Slot.unset).toArray = ls at hl ⊢
  have hl : lv_has ls 1 [(0, .ref t)] := hl
  refine lv_aload_n hx hb d_T_init_0 rfl (lv_at hl 0 rfl) ?_
  refine W.objInit hx hb hown (hts _ k_10) (hts _ k_11) (hts _ k_12) rfl (by rw [hml]; exact hl.1) rfl d_T_init_1 (Nat.le_of_ble_eq_true rfl) (Nat.le_of_ble_eq_true rfl) ?_
  refine W.eq (g2 := F0 m 4 ls []) rfl ?_
  refine lv_aload_n hx hb d_T_init_4 rfl (lv_at hl 0 rfl) ?_
  refine va_new (ci := 1) (fs := [.int 0, .null, .null, .null, .null, .null, .null, .null, .null]) (C := R_C) (T := F_C) (N := 9) hx hb hts u_in_C ft_C ft_C_ok hown (hts _ k_13) (hts _ k_14) (hts _ k_2) hK hP hD hS hA rfl (fun j hj => by rcases (show j = 0 ∨ j = 1 ∨ j = 2 ∨ j = 3 ∨ j = 4 ∨ j = 5 ∨ j = 6 ∨ j = 7 ∨ j = 8 by omega) with rfl | rfl | rfl | rfl | rfl | rfl | rfl | rfl | rfl <;> rfl) (Nat.le_of_ble_eq_true rfl) (Nat.le_of_ble_eq_true rfl) d_T_init_5 (fun q H hP hD hS => ?_)
  have hP : va_P D classes [(t, .inr (0, [.null])), (q, .inr (1, [.int 0, .null, .null, .null, .null, .null, .null, .null, .null]))] H := hP
  have hD : va_D _ [(t, .inr (0, [.null])), (q, .inr (1, [.int 0, .null, .null, .null, .null, .null, .null, .null, .null]))] := hD
  refine W.cs (cells' := 1) (slots' := 9) rfl rfl ?_
  refine lv_dup hx hb d_T_init_8 rfl ?_
  refine mu_callv (wc := [(q, .inr (1, [.int 0, .null, .null, .null, .null, .null, .null, .null, .null]))]) (wr := [(t, .inr (0, [.null]))]) (va_runI (As := []) (rest := [.ref q, .ref t]) ⟨hx, hb, hml, hown, hts⟩ (c_C_init l D cI cJ cZ q _) (wt_cwI 0 hts k_17 k_15 k_16 k_2 rfl rfl rfl (by decide +kernel) ⟨Nat.le_of_ble_eq_true rfl, Nat.le_of_ble_eq_true rfl⟩) (mu_preS hK (hP.sub (ws' := [(q, .inr (1, [.int 0, .null, .null, .null, .null, .null, .null, .null, .null]))]) [1] rfl) (hD.sub (ws' := [(q, .inr (1, [.int 0, .null, .null, .null, .null, .null, .null, .null, .null]))]) [1] (by decide) rfl)) rfl rfl hl.1 rfl (lv_room (Nat.le_of_ble_eq_true rfl)) d_T_init_9 ⟨Nat.le_of_ble_eq_true rfl, Nat.le_of_ble_eq_true rfl⟩) hS hA hP hD [1] [0] rfl rfl (by decide) (by decide) (fun u H locs hu hP1 hD1 hS1 => ?_)
  subst hu
  have hP : va_P D classes ((t, .inr (0, [.null])) :: ch_ws u cI cJ cZ 1 (fun _ => 0) (fun _ => 0) (va_up (fun _ => 0) 0 32768) (fun _ => 0) (fun _ => 0) (fun _ => 0) (fun _ => false) (fun _ => 0)) H := hP1
  have hD : va_D _ ((t, .inr (0, [.null])) :: ch_ws u cI cJ cZ 1 (fun _ => 0) (fun _ => 0) (va_up (fun _ => 0) 0 32768) (fun _ => 0) (fun _ => 0) (fun _ => 0) (fun _ => false) (fun _ => 0)) := hD1
  have hS := hS1
  refine W.cs (cells' := 9) (slots' := 3600) rfl rfl ?_
  refine va_putF (D := D) (ci := 0) (v := .ref (u 0)) (ty := .object "WorkTree$Chain") (C := R_T) (T := F_T) (N := 1) hx hb hts u_in_T ft_T ft_T_ok n_T hown hK hP hD hS 0 rfl rfl 0 (by decide) (hts _ k_58) (fun _ h9 => h9) rfl hin rfl (by decide +kernel) rfl rfl (Nat.le_of_ble_eq_true rfl) d_T_init_12 (fun H locs hP hD hS => ?_)
  have hP : va_P D classes (tr_ws t u cI cJ cZ 1 (fun _ => 0) (fun _ => 0) (va_up (fun _ => 0) 0 32768) (fun _ => 0) (fun _ => 0) (fun _ => 0) (fun _ => false) (fun _ => 0)) H := hP
  have hD : va_D _ (tr_ws t u cI cJ cZ 1 (fun _ => 0) (fun _ => 0) (va_up (fun _ => 0) 0 32768) (fun _ => 0) (fun _ => 0) (fun _ => 0) (fun _ => false) (fun _ => 0)) := hD
  exact mu_vret u hx hb hr hlocks hS hP hD trivial d_T_init_15
set_option maxHeartbeats 4000000 in
set_option maxRecDepth 100000 in
theorem c_M_init (l : Launch) (D : va_G) (cI cJ cZ : ClassId) (h0 sz : Nat) : Met l y_M_init (Cond.code y_M_init b_M_init 1 none :: wt_ws) ({ frames := 1, cells := 8, slots := 3591, locals := 12 } : Room) (mu_Pc [.ref h0] D ([(h0, .inr (2, [.null, .null, .null, .null, .null, .null, .null, .null, .int 0]))]) (wt_ty cI cJ cZ) sz) (mu_Qv (S := Nat → Nat) (fun u => u 0 = h0) D (fun u => mo_ws u cI cJ cZ 1 (fun _ => 0) (fun _ => 0) (va_up (fun _ => 0) 0 32768) (fun _ => 0) (fun _ => 0) (fun _ => 0) (fun _ => false) (fun _ => 0)) ([(h0, .inr (2, [.null, .null, .null, .null, .null, .null, .null, .null, .int 0]))]) sz) 8 3591 (va_A ([(h0, .inr (2, [.null, .null, .null, .null, .null, .null, .null, .null, .int 0]))]) sz) := by
  refine Met.ofW (cc := b_M_init) (maxL := 1) (ret := none) (by decide) rfl ?_
  intro pp ev s m args below meth c s₁ B hml hv
  obtain ⟨rfl, hsz, hP, hK, hD0⟩ := hv
  have hx := B.exec
  have hb := B.bytes
  have hr := B.returns
  have hts : ∀ w ∈ wt_ws, w.before ([.ref h0] : List Value).toArray s = true := fun w hw => atoms_spec (ws := Cond.code y_M_init b_M_init 1 none :: wt_ws) B.pre w (List.mem_cons_of_mem _ hw)
  have hown : s.vm.findClass R_M = some m.cls := findClass_of_methodNamed B.named
  have hlocks := B.notSynchronized
  have hin : meth.name = "<init>" := (name_of_methodNamed B.named B.method).1
  subst hsz
  have hD := hD0.self (sz := s.heap.size)
  have hA : ∀ q, s.heap.size ≤ q → va_A ([(h0, .inr (2, [.null, .null, .null, .null, .null, .null, .null, .null, .int 0]))]) s.heap.size q := fun q h => Or.inr h
  have hS : va_S (va_A ([(h0, .inr (2, [.null, .null, .null, .null, .null, .null, .null, .null, .int 0]))]) s.heap.size) s.heap s.heap [] := va_S.rf
  have hl := lv_entry ([.ref h0]) (n := 1) (Nat.le_of_ble_eq_true rfl)
  rw [lg_entry_eq]
  generalize (lg_sl ([.ref h0]) ++ List.replicate (1 - (lg_sl ([.ref h0])).length) Slot.unset).toArray = ls at hl ⊢
  have hl : lv_has ls 1 [(0, .ref h0)] := hl
  refine lv_aload_n hx hb d_M_init_0 rfl (lv_at hl 0 rfl) ?_
  refine W.objInit hx hb hown (hts _ k_158) (hts _ k_11) (hts _ k_12) rfl (by rw [hml]; exact hl.1) rfl d_M_init_1 (Nat.le_of_ble_eq_true rfl) (Nat.le_of_ble_eq_true rfl) ?_
  refine W.eq (g2 := F0 m 4 ls []) rfl ?_
  refine lv_aload_n hx hb d_M_init_4 rfl (lv_at hl 0 rfl) ?_
  refine lv_sipush (v := (nI 512)) hx hb d_M_init_5 (by decide +kernel) ?_
  refine wt_newa (ty := .int) (c0 := cI) (N' := 512) (a0 := (512, .inl (fun _ => 0))) hx hb (hts _ k_55) rfl hK hP hD hS hA 0 rfl (fun _ h => by cases h) (fun _ => rfl) (by decide +kernel) (by decide +kernel) (by decide +kernel) (Nat.le_of_ble_eq_true rfl) (Nat.le_of_ble_eq_true rfl) d_M_init_8 (fun q1 H hP hD hS => ?_)
  have hP : va_P D classes ([(h0, .inr (2, [.null, .null, .null, .null, .null, .null, .null, .null, .int 0])), (q1, .inl (cI, 512, .inl (fun _ => 0)))]) H := hP
  have hD : va_D _ ([(h0, .inr (2, [.null, .null, .null, .null, .null, .null, .null, .null, .int 0])), (q1, .inl (cI, 512, .inl (fun _ => 0)))]) := hD
  refine W.cs (cells' := 1) (slots' := 512) rfl rfl ?_
  refine va_putF (D := D) (ci := 2) (v := .ref q1) (ty := .array .int) (C := R_M) (T := F_M) (N := 9) hx hb hts u_in_M ft_M ft_M_ok n_M hown hK hP hD hS 0 rfl rfl 0 (by decide) (hts _ k_160) (fun _ h9 => h9) rfl hin rfl (by decide +kernel) rfl rfl (Nat.le_of_ble_eq_true rfl) d_M_init_10 (fun H locs hP hD hS => ?_)
  have hP : va_P D classes ([(h0, .inr (2, [.ref q1, .null, .null, .null, .null, .null, .null, .null, .int 0])), (q1, .inl (cI, 512, .inl (fun _ => 0)))]) H := hP
  have hD : va_D _ ([(h0, .inr (2, [.ref q1, .null, .null, .null, .null, .null, .null, .null, .int 0])), (q1, .inl (cI, 512, .inl (fun _ => 0)))]) := hD
  refine lv_aload_n hx hb d_M_init_13 rfl (lv_at hl 0 rfl) ?_
  refine lv_sipush (v := (nI 512)) hx hb d_M_init_14 (by decide +kernel) ?_
  refine wt_newa (ty := .int) (c0 := cI) (N' := 512) (a0 := (512, .inl (fun _ => 0))) hx hb (hts _ k_55) rfl hK hP hD hS hA 0 rfl (fun _ h => by cases h) (fun _ => rfl) (by decide +kernel) (by decide +kernel) (by decide +kernel) (Nat.le_of_ble_eq_true rfl) (Nat.le_of_ble_eq_true rfl) d_M_init_17 (fun q2 H hP hD hS => ?_)
  have hP : va_P D classes ([(h0, .inr (2, [.ref q1, .null, .null, .null, .null, .null, .null, .null, .int 0])), (q1, .inl (cI, 512, .inl (fun _ => 0))), (q2, .inl (cI, 512, .inl (fun _ => 0)))]) H := hP
  have hD : va_D _ ([(h0, .inr (2, [.ref q1, .null, .null, .null, .null, .null, .null, .null, .int 0])), (q1, .inl (cI, 512, .inl (fun _ => 0))), (q2, .inl (cI, 512, .inl (fun _ => 0)))]) := hD
  refine W.cs (cells' := 2) (slots' := 1024) rfl rfl ?_
  refine va_putF (D := D) (ci := 2) (v := .ref q2) (ty := .array .int) (C := R_M) (T := F_M) (N := 9) hx hb hts u_in_M ft_M ft_M_ok n_M hown hK hP hD hS 0 rfl rfl 1 (by decide) (hts _ k_161) (fun _ h9 => h9) rfl hin rfl (by decide +kernel) rfl rfl (Nat.le_of_ble_eq_true rfl) d_M_init_19 (fun H locs hP hD hS => ?_)
  have hP : va_P D classes ([(h0, .inr (2, [.ref q1, .ref q2, .null, .null, .null, .null, .null, .null, .int 0])), (q1, .inl (cI, 512, .inl (fun _ => 0))), (q2, .inl (cI, 512, .inl (fun _ => 0)))]) H := hP
  have hD : va_D _ ([(h0, .inr (2, [.ref q1, .ref q2, .null, .null, .null, .null, .null, .null, .int 0])), (q1, .inl (cI, 512, .inl (fun _ => 0))), (q2, .inl (cI, 512, .inl (fun _ => 0)))]) := hD
  refine lv_aload_n hx hb d_M_init_22 rfl (lv_at hl 0 rfl) ?_
  refine lv_sipush (v := (nI 512)) hx hb d_M_init_23 (by decide +kernel) ?_
  refine wt_newa (ty := .int) (c0 := cI) (N' := 512) (a0 := (512, .inl (fun _ => 0))) hx hb (hts _ k_55) rfl hK hP hD hS hA 0 rfl (fun _ h => by cases h) (fun _ => rfl) (by decide +kernel) (by decide +kernel) (by decide +kernel) (Nat.le_of_ble_eq_true rfl) (Nat.le_of_ble_eq_true rfl) d_M_init_26 (fun q3 H hP hD hS => ?_)
  have hP : va_P D classes ([(h0, .inr (2, [.ref q1, .ref q2, .null, .null, .null, .null, .null, .null, .int 0])), (q1, .inl (cI, 512, .inl (fun _ => 0))), (q2, .inl (cI, 512, .inl (fun _ => 0))), (q3, .inl (cI, 512, .inl (fun _ => 0)))]) H := hP
  have hD : va_D _ ([(h0, .inr (2, [.ref q1, .ref q2, .null, .null, .null, .null, .null, .null, .int 0])), (q1, .inl (cI, 512, .inl (fun _ => 0))), (q2, .inl (cI, 512, .inl (fun _ => 0))), (q3, .inl (cI, 512, .inl (fun _ => 0)))]) := hD
  refine W.cs (cells' := 3) (slots' := 1536) rfl rfl ?_
  refine va_putF (D := D) (ci := 2) (v := .ref q3) (ty := .array .int) (C := R_M) (T := F_M) (N := 9) hx hb hts u_in_M ft_M ft_M_ok n_M hown hK hP hD hS 0 rfl rfl 2 (by decide) (hts _ k_162) (fun _ h9 => h9) rfl hin rfl (by decide +kernel) rfl rfl (Nat.le_of_ble_eq_true rfl) d_M_init_28 (fun H locs hP hD hS => ?_)
  have hP : va_P D classes ([(h0, .inr (2, [.ref q1, .ref q2, .ref q3, .null, .null, .null, .null, .null, .int 0])), (q1, .inl (cI, 512, .inl (fun _ => 0))), (q2, .inl (cI, 512, .inl (fun _ => 0))), (q3, .inl (cI, 512, .inl (fun _ => 0)))]) H := hP
  have hD : va_D _ ([(h0, .inr (2, [.ref q1, .ref q2, .ref q3, .null, .null, .null, .null, .null, .int 0])), (q1, .inl (cI, 512, .inl (fun _ => 0))), (q2, .inl (cI, 512, .inl (fun _ => 0))), (q3, .inl (cI, 512, .inl (fun _ => 0)))]) := hD
  refine lv_aload_n hx hb d_M_init_31 rfl (lv_at hl 0 rfl) ?_
  refine lv_sipush (v := (nI 512)) hx hb d_M_init_32 (by decide +kernel) ?_
  refine wt_newa (ty := .int) (c0 := cI) (N' := 512) (a0 := (512, .inl (fun _ => 0))) hx hb (hts _ k_55) rfl hK hP hD hS hA 0 rfl (fun _ h => by cases h) (fun _ => rfl) (by decide +kernel) (by decide +kernel) (by decide +kernel) (Nat.le_of_ble_eq_true rfl) (Nat.le_of_ble_eq_true rfl) d_M_init_35 (fun q4 H hP hD hS => ?_)
  have hP : va_P D classes ([(h0, .inr (2, [.ref q1, .ref q2, .ref q3, .null, .null, .null, .null, .null, .int 0])), (q1, .inl (cI, 512, .inl (fun _ => 0))), (q2, .inl (cI, 512, .inl (fun _ => 0))), (q3, .inl (cI, 512, .inl (fun _ => 0))), (q4, .inl (cI, 512, .inl (fun _ => 0)))]) H := hP
  have hD : va_D _ ([(h0, .inr (2, [.ref q1, .ref q2, .ref q3, .null, .null, .null, .null, .null, .int 0])), (q1, .inl (cI, 512, .inl (fun _ => 0))), (q2, .inl (cI, 512, .inl (fun _ => 0))), (q3, .inl (cI, 512, .inl (fun _ => 0))), (q4, .inl (cI, 512, .inl (fun _ => 0)))]) := hD
  refine W.cs (cells' := 4) (slots' := 2048) rfl rfl ?_
  refine va_putF (D := D) (ci := 2) (v := .ref q4) (ty := .array .int) (C := R_M) (T := F_M) (N := 9) hx hb hts u_in_M ft_M ft_M_ok n_M hown hK hP hD hS 0 rfl rfl 3 (by decide) (hts _ k_163) (fun _ h9 => h9) rfl hin rfl (by decide +kernel) rfl rfl (Nat.le_of_ble_eq_true rfl) d_M_init_37 (fun H locs hP hD hS => ?_)
  have hP : va_P D classes ([(h0, .inr (2, [.ref q1, .ref q2, .ref q3, .ref q4, .null, .null, .null, .null, .int 0])), (q1, .inl (cI, 512, .inl (fun _ => 0))), (q2, .inl (cI, 512, .inl (fun _ => 0))), (q3, .inl (cI, 512, .inl (fun _ => 0))), (q4, .inl (cI, 512, .inl (fun _ => 0)))]) H := hP
  have hD : va_D _ ([(h0, .inr (2, [.ref q1, .ref q2, .ref q3, .ref q4, .null, .null, .null, .null, .int 0])), (q1, .inl (cI, 512, .inl (fun _ => 0))), (q2, .inl (cI, 512, .inl (fun _ => 0))), (q3, .inl (cI, 512, .inl (fun _ => 0))), (q4, .inl (cI, 512, .inl (fun _ => 0)))]) := hD
  refine lv_aload_n hx hb d_M_init_40 rfl (lv_at hl 0 rfl) ?_
  refine lv_sipush (v := (nI 512)) hx hb d_M_init_41 (by decide +kernel) ?_
  refine wt_newa (ty := .long) (c0 := cJ) (N' := 512) (a0 := (512, .inr (.inl (fun _ => 0)))) hx hb (hts _ k_56) rfl hK hP hD hS hA 1 rfl (fun _ h => by cases h) (fun _ => rfl) (by decide +kernel) (by decide +kernel) (by decide +kernel) (Nat.le_of_ble_eq_true rfl) (Nat.le_of_ble_eq_true rfl) d_M_init_44 (fun q5 H hP hD hS => ?_)
  have hP : va_P D classes ([(h0, .inr (2, [.ref q1, .ref q2, .ref q3, .ref q4, .null, .null, .null, .null, .int 0])), (q1, .inl (cI, 512, .inl (fun _ => 0))), (q2, .inl (cI, 512, .inl (fun _ => 0))), (q3, .inl (cI, 512, .inl (fun _ => 0))), (q4, .inl (cI, 512, .inl (fun _ => 0))), (q5, .inl (cJ, 512, .inr (.inl (fun _ => 0))))]) H := hP
  have hD : va_D _ ([(h0, .inr (2, [.ref q1, .ref q2, .ref q3, .ref q4, .null, .null, .null, .null, .int 0])), (q1, .inl (cI, 512, .inl (fun _ => 0))), (q2, .inl (cI, 512, .inl (fun _ => 0))), (q3, .inl (cI, 512, .inl (fun _ => 0))), (q4, .inl (cI, 512, .inl (fun _ => 0))), (q5, .inl (cJ, 512, .inr (.inl (fun _ => 0))))]) := hD
  refine W.cs (cells' := 5) (slots' := 2560) rfl rfl ?_
  refine va_putF (D := D) (ci := 2) (v := .ref q5) (ty := .array .long) (C := R_M) (T := F_M) (N := 9) hx hb hts u_in_M ft_M ft_M_ok n_M hown hK hP hD hS 0 rfl rfl 4 (by decide) (hts _ k_164) (fun _ h9 => h9) rfl hin rfl (by decide +kernel) rfl rfl (Nat.le_of_ble_eq_true rfl) d_M_init_46 (fun H locs hP hD hS => ?_)
  have hP : va_P D classes ([(h0, .inr (2, [.ref q1, .ref q2, .ref q3, .ref q4, .ref q5, .null, .null, .null, .int 0])), (q1, .inl (cI, 512, .inl (fun _ => 0))), (q2, .inl (cI, 512, .inl (fun _ => 0))), (q3, .inl (cI, 512, .inl (fun _ => 0))), (q4, .inl (cI, 512, .inl (fun _ => 0))), (q5, .inl (cJ, 512, .inr (.inl (fun _ => 0))))]) H := hP
  have hD : va_D _ ([(h0, .inr (2, [.ref q1, .ref q2, .ref q3, .ref q4, .ref q5, .null, .null, .null, .int 0])), (q1, .inl (cI, 512, .inl (fun _ => 0))), (q2, .inl (cI, 512, .inl (fun _ => 0))), (q3, .inl (cI, 512, .inl (fun _ => 0))), (q4, .inl (cI, 512, .inl (fun _ => 0))), (q5, .inl (cJ, 512, .inr (.inl (fun _ => 0))))]) := hD
  refine lv_aload_n hx hb d_M_init_49 rfl (lv_at hl 0 rfl) ?_
  refine lv_sipush (v := (nI 512)) hx hb d_M_init_50 (by decide +kernel) ?_
  refine wt_newa (ty := .int) (c0 := cI) (N' := 512) (a0 := (512, .inl (fun _ => 0))) hx hb (hts _ k_55) rfl hK hP hD hS hA 0 rfl (fun _ h => by cases h) (fun _ => rfl) (by decide +kernel) (by decide +kernel) (by decide +kernel) (Nat.le_of_ble_eq_true rfl) (Nat.le_of_ble_eq_true rfl) d_M_init_53 (fun q6 H hP hD hS => ?_)
  have hP : va_P D classes ([(h0, .inr (2, [.ref q1, .ref q2, .ref q3, .ref q4, .ref q5, .null, .null, .null, .int 0])), (q1, .inl (cI, 512, .inl (fun _ => 0))), (q2, .inl (cI, 512, .inl (fun _ => 0))), (q3, .inl (cI, 512, .inl (fun _ => 0))), (q4, .inl (cI, 512, .inl (fun _ => 0))), (q5, .inl (cJ, 512, .inr (.inl (fun _ => 0)))), (q6, .inl (cI, 512, .inl (fun _ => 0)))]) H := hP
  have hD : va_D _ ([(h0, .inr (2, [.ref q1, .ref q2, .ref q3, .ref q4, .ref q5, .null, .null, .null, .int 0])), (q1, .inl (cI, 512, .inl (fun _ => 0))), (q2, .inl (cI, 512, .inl (fun _ => 0))), (q3, .inl (cI, 512, .inl (fun _ => 0))), (q4, .inl (cI, 512, .inl (fun _ => 0))), (q5, .inl (cJ, 512, .inr (.inl (fun _ => 0)))), (q6, .inl (cI, 512, .inl (fun _ => 0)))]) := hD
  refine W.cs (cells' := 6) (slots' := 3072) rfl rfl ?_
  refine va_putF (D := D) (ci := 2) (v := .ref q6) (ty := .array .int) (C := R_M) (T := F_M) (N := 9) hx hb hts u_in_M ft_M ft_M_ok n_M hown hK hP hD hS 0 rfl rfl 5 (by decide) (hts _ k_165) (fun _ h9 => h9) rfl hin rfl (by decide +kernel) rfl rfl (Nat.le_of_ble_eq_true rfl) d_M_init_55 (fun H locs hP hD hS => ?_)
  have hP : va_P D classes ([(h0, .inr (2, [.ref q1, .ref q2, .ref q3, .ref q4, .ref q5, .ref q6, .null, .null, .int 0])), (q1, .inl (cI, 512, .inl (fun _ => 0))), (q2, .inl (cI, 512, .inl (fun _ => 0))), (q3, .inl (cI, 512, .inl (fun _ => 0))), (q4, .inl (cI, 512, .inl (fun _ => 0))), (q5, .inl (cJ, 512, .inr (.inl (fun _ => 0)))), (q6, .inl (cI, 512, .inl (fun _ => 0)))]) H := hP
  have hD : va_D _ ([(h0, .inr (2, [.ref q1, .ref q2, .ref q3, .ref q4, .ref q5, .ref q6, .null, .null, .int 0])), (q1, .inl (cI, 512, .inl (fun _ => 0))), (q2, .inl (cI, 512, .inl (fun _ => 0))), (q3, .inl (cI, 512, .inl (fun _ => 0))), (q4, .inl (cI, 512, .inl (fun _ => 0))), (q5, .inl (cJ, 512, .inr (.inl (fun _ => 0)))), (q6, .inl (cI, 512, .inl (fun _ => 0)))]) := hD
  refine lv_aload_n hx hb d_M_init_58 rfl (lv_at hl 0 rfl) ?_
  refine lv_sipush (v := (nI 512)) hx hb d_M_init_59 (by decide +kernel) ?_
  refine wt_newa (ty := .boolean) (c0 := cZ) (N' := 512) (a0 := (512, .inl (fun _ => 0))) hx hb (hts _ k_57) rfl hK hP hD hS hA 2 rfl (fun _ h => by cases h) (fun _ => rfl) (by decide +kernel) (by decide +kernel) (by decide +kernel) (Nat.le_of_ble_eq_true rfl) (Nat.le_of_ble_eq_true rfl) d_M_init_62 (fun q7 H hP hD hS => ?_)
  have hP : va_P D classes ([(h0, .inr (2, [.ref q1, .ref q2, .ref q3, .ref q4, .ref q5, .ref q6, .null, .null, .int 0])), (q1, .inl (cI, 512, .inl (fun _ => 0))), (q2, .inl (cI, 512, .inl (fun _ => 0))), (q3, .inl (cI, 512, .inl (fun _ => 0))), (q4, .inl (cI, 512, .inl (fun _ => 0))), (q5, .inl (cJ, 512, .inr (.inl (fun _ => 0)))), (q6, .inl (cI, 512, .inl (fun _ => 0))), (q7, .inl (cZ, 512, .inl (fun _ => 0)))]) H := hP
  have hD : va_D _ ([(h0, .inr (2, [.ref q1, .ref q2, .ref q3, .ref q4, .ref q5, .ref q6, .null, .null, .int 0])), (q1, .inl (cI, 512, .inl (fun _ => 0))), (q2, .inl (cI, 512, .inl (fun _ => 0))), (q3, .inl (cI, 512, .inl (fun _ => 0))), (q4, .inl (cI, 512, .inl (fun _ => 0))), (q5, .inl (cJ, 512, .inr (.inl (fun _ => 0)))), (q6, .inl (cI, 512, .inl (fun _ => 0))), (q7, .inl (cZ, 512, .inl (fun _ => 0)))]) := hD
  refine W.cs (cells' := 7) (slots' := 3584) rfl rfl ?_
  refine va_putF (D := D) (ci := 2) (v := .ref q7) (ty := .array .boolean) (C := R_M) (T := F_M) (N := 9) hx hb hts u_in_M ft_M ft_M_ok n_M hown hK hP hD hS 0 rfl rfl 6 (by decide) (hts _ k_166) (fun _ h9 => h9) rfl hin rfl (by decide +kernel) rfl rfl (Nat.le_of_ble_eq_true rfl) d_M_init_64 (fun H locs hP hD hS => ?_)
  have hP : va_P D classes ([(h0, .inr (2, [.ref q1, .ref q2, .ref q3, .ref q4, .ref q5, .ref q6, .ref q7, .null, .int 0])), (q1, .inl (cI, 512, .inl (fun _ => 0))), (q2, .inl (cI, 512, .inl (fun _ => 0))), (q3, .inl (cI, 512, .inl (fun _ => 0))), (q4, .inl (cI, 512, .inl (fun _ => 0))), (q5, .inl (cJ, 512, .inr (.inl (fun _ => 0)))), (q6, .inl (cI, 512, .inl (fun _ => 0))), (q7, .inl (cZ, 512, .inl (fun _ => 0)))]) H := hP
  have hD : va_D _ ([(h0, .inr (2, [.ref q1, .ref q2, .ref q3, .ref q4, .ref q5, .ref q6, .ref q7, .null, .int 0])), (q1, .inl (cI, 512, .inl (fun _ => 0))), (q2, .inl (cI, 512, .inl (fun _ => 0))), (q3, .inl (cI, 512, .inl (fun _ => 0))), (q4, .inl (cI, 512, .inl (fun _ => 0))), (q5, .inl (cJ, 512, .inr (.inl (fun _ => 0)))), (q6, .inl (cI, 512, .inl (fun _ => 0))), (q7, .inl (cZ, 512, .inl (fun _ => 0)))]) := hD
  refine lv_aload_n hx hb d_M_init_67 rfl (lv_at hl 0 rfl) ?_
  refine lv_bipush (v := (nI 7)) hx hb d_M_init_68 (by decide +kernel) ?_
  refine wt_newa (ty := .int) (c0 := cI) (N' := 7) (a0 := (7, .inl (fun _ => 0))) hx hb (hts _ k_55) rfl hK hP hD hS hA 0 rfl (fun _ h => by cases h) (fun _ => rfl) (by decide +kernel) (by decide +kernel) (by decide +kernel) (Nat.le_of_ble_eq_true rfl) (Nat.le_of_ble_eq_true rfl) d_M_init_70 (fun q8 H hP hD hS => ?_)
  have hP : va_P D classes ([(h0, .inr (2, [.ref q1, .ref q2, .ref q3, .ref q4, .ref q5, .ref q6, .ref q7, .null, .int 0])), (q1, .inl (cI, 512, .inl (fun _ => 0))), (q2, .inl (cI, 512, .inl (fun _ => 0))), (q3, .inl (cI, 512, .inl (fun _ => 0))), (q4, .inl (cI, 512, .inl (fun _ => 0))), (q5, .inl (cJ, 512, .inr (.inl (fun _ => 0)))), (q6, .inl (cI, 512, .inl (fun _ => 0))), (q7, .inl (cZ, 512, .inl (fun _ => 0))), (q8, .inl (cI, 7, .inl (fun _ => 0)))]) H := hP
  have hD : va_D _ ([(h0, .inr (2, [.ref q1, .ref q2, .ref q3, .ref q4, .ref q5, .ref q6, .ref q7, .null, .int 0])), (q1, .inl (cI, 512, .inl (fun _ => 0))), (q2, .inl (cI, 512, .inl (fun _ => 0))), (q3, .inl (cI, 512, .inl (fun _ => 0))), (q4, .inl (cI, 512, .inl (fun _ => 0))), (q5, .inl (cJ, 512, .inr (.inl (fun _ => 0)))), (q6, .inl (cI, 512, .inl (fun _ => 0))), (q7, .inl (cZ, 512, .inl (fun _ => 0))), (q8, .inl (cI, 7, .inl (fun _ => 0)))]) := hD
  refine W.cs (cells' := 8) (slots' := 3591) rfl rfl ?_
  refine va_putF (D := D) (ci := 2) (v := .ref q8) (ty := .array .int) (C := R_M) (T := F_M) (N := 9) hx hb hts u_in_M ft_M ft_M_ok n_M hown hK hP hD hS 0 rfl rfl 7 (by decide) (hts _ k_167) (fun _ h9 => h9) rfl hin rfl (by decide +kernel) rfl rfl (Nat.le_of_ble_eq_true rfl) d_M_init_72 (fun H locs hP hD hS => ?_)
  have hP : va_P D classes ([(h0, .inr (2, [.ref q1, .ref q2, .ref q3, .ref q4, .ref q5, .ref q6, .ref q7, .ref q8, .int 0])), (q1, .inl (cI, 512, .inl (fun _ => 0))), (q2, .inl (cI, 512, .inl (fun _ => 0))), (q3, .inl (cI, 512, .inl (fun _ => 0))), (q4, .inl (cI, 512, .inl (fun _ => 0))), (q5, .inl (cJ, 512, .inr (.inl (fun _ => 0)))), (q6, .inl (cI, 512, .inl (fun _ => 0))), (q7, .inl (cZ, 512, .inl (fun _ => 0))), (q8, .inl (cI, 7, .inl (fun _ => 0)))]) H := hP
  have hD : va_D _ ([(h0, .inr (2, [.ref q1, .ref q2, .ref q3, .ref q4, .ref q5, .ref q6, .ref q7, .ref q8, .int 0])), (q1, .inl (cI, 512, .inl (fun _ => 0))), (q2, .inl (cI, 512, .inl (fun _ => 0))), (q3, .inl (cI, 512, .inl (fun _ => 0))), (q4, .inl (cI, 512, .inl (fun _ => 0))), (q5, .inl (cJ, 512, .inr (.inl (fun _ => 0)))), (q6, .inl (cI, 512, .inl (fun _ => 0))), (q7, .inl (cZ, 512, .inl (fun _ => 0))), (q8, .inl (cI, 7, .inl (fun _ => 0)))]) := hD
  refine lv_aload_n hx hb d_M_init_75 rfl (lv_at hl 0 rfl) ?_
  refine lv_iconst (v := (nI 1)) hx hb d_M_init_76 (by decide +kernel) ?_
  refine va_put (D := D) (ci := 2) (v := .int (nI 1)) (ty := .int) (C := R_M) (T := F_M) (N := 9) hx hb hts u_in_M ft_M ft_M_ok n_M hown hK hP hD hS 0 rfl rfl 8 (by decide) (hts _ k_168) (fun _ h9 => h9) rfl (by decide +kernel) rfl rfl (Nat.le_of_ble_eq_true rfl) d_M_init_77 (fun H locs hP hD hS => ?_)
  have hP : va_P D classes ([(h0, .inr (2, [.ref q1, .ref q2, .ref q3, .ref q4, .ref q5, .ref q6, .ref q7, .ref q8, .int (nI 1)])), (q1, .inl (cI, 512, .inl (fun _ => 0))), (q2, .inl (cI, 512, .inl (fun _ => 0))), (q3, .inl (cI, 512, .inl (fun _ => 0))), (q4, .inl (cI, 512, .inl (fun _ => 0))), (q5, .inl (cJ, 512, .inr (.inl (fun _ => 0)))), (q6, .inl (cI, 512, .inl (fun _ => 0))), (q7, .inl (cZ, 512, .inl (fun _ => 0))), (q8, .inl (cI, 7, .inl (fun _ => 0)))]) H := hP
  have hD : va_D _ ([(h0, .inr (2, [.ref q1, .ref q2, .ref q3, .ref q4, .ref q5, .ref q6, .ref q7, .ref q8, .int (nI 1)])), (q1, .inl (cI, 512, .inl (fun _ => 0))), (q2, .inl (cI, 512, .inl (fun _ => 0))), (q3, .inl (cI, 512, .inl (fun _ => 0))), (q4, .inl (cI, 512, .inl (fun _ => 0))), (q5, .inl (cJ, 512, .inr (.inl (fun _ => 0)))), (q6, .inl (cI, 512, .inl (fun _ => 0))), (q7, .inl (cZ, 512, .inl (fun _ => 0))), (q8, .inl (cI, 7, .inl (fun _ => 0)))]) := hD
  refine lv_aload_n hx hb d_M_init_80 rfl (lv_at hl 0 rfl) ?_
  refine va_get (D := D) (ci := 2) (v := .ref q1) (C := R_M) (T := F_M) (N := 9) hx hb hts u_in_M hown hK hP 0 rfl rfl 0 (by decide) (hts _ k_160) (fun _ h9 => h9) rfl d_M_init_81 ?_
  refine lv_iconst (v := (nI 0)) hx hb d_M_init_84 (by decide +kernel) ?_
  refine lv_bipush (v := ((-2))) hx hb d_M_init_85 (by decide +kernel) ?_
  refine wn_iast (ws' := [(h0, .inr (2, [.ref q1, .ref q2, .ref q3, .ref q4, .ref q5, .ref q6, .ref q7, .ref q8, .int (nI 1)])), (q1, .inl (cI, 512, .inl (ar_p (-2) (fun _ => 0)))), (q2, .inl (cI, 512, .inl (fun _ => 0))), (q3, .inl (cI, 512, .inl (fun _ => 0))), (q4, .inl (cI, 512, .inl (fun _ => 0))), (q5, .inl (cJ, 512, .inr (.inl (fun _ => 0)))), (q6, .inl (cI, 512, .inl (fun _ => 0))), (q7, .inl (cZ, 512, .inl (fun _ => 0))), (q8, .inl (cI, 7, .inl (fun _ => 0)))]) (k := 0) hx hb hK hP hD hS 1 0 rfl rfl (by decide) (by decide) (wt_par0 (-2)) rfl d_M_init_87 (fun H locs hP hD hS => ?_)
  refine lv_aload_n hx hb d_M_init_88 rfl (lv_at hl 0 rfl) ?_
  refine va_get (D := D) (ci := 2) (v := .ref q4) (C := R_M) (T := F_M) (N := 9) hx hb hts u_in_M hown hK hP 0 rfl rfl 3 (by decide) (hts _ k_163) (fun _ h9 => h9) rfl d_M_init_89 ?_
  refine lv_iconst (v := (nI 0)) hx hb d_M_init_92 (by decide +kernel) ?_
  refine lv_ldc (v := 32768) hx hb hown (hts _ k_159) d_M_init_93 ?_
  refine wt_top (v := nI 32768) (by decide +kernel) ?_
  refine wn_iast (ws' := [(h0, .inr (2, [.ref q1, .ref q2, .ref q3, .ref q4, .ref q5, .ref q6, .ref q7, .ref q8, .int (nI 1)])), (q1, .inl (cI, 512, .inl (ar_p (-2) (fun _ => 0)))), (q2, .inl (cI, 512, .inl (fun _ => 0))), (q3, .inl (cI, 512, .inl (fun _ => 0))), (q4, .inl (cI, 512, .inl (ar_n (va_up (fun _ => 0) 0 32768)))), (q5, .inl (cJ, 512, .inr (.inl (fun _ => 0)))), (q6, .inl (cI, 512, .inl (fun _ => 0))), (q7, .inl (cZ, 512, .inl (fun _ => 0))), (q8, .inl (cI, 7, .inl (fun _ => 0)))]) (k := 0) hx hb hK hP hD hS 4 0 rfl rfl (by decide) (by decide) wt_tar0 rfl d_M_init_95 (fun H locs hP hD hS => ?_)
  exact mu_vret (fun k => [h0, q1, q2, q3, q4, q5, q6, q7, q8].getD k 0) hx hb hr hlocks hS hP hD rfl d_M_init_96
end
section
/-! the two worlds together: what holds between the calls of the law -/
def Inv (n : Nat) (pf ef gf : Nat → Nat) (rf xf : Nat → Bool) : Prop := 1 ≤ n ∧ n ≤ 512 ∧ Tr n pf ef ∧ Tg n gf ∧ Wr n pf rf xf ∧ ∀ k, n ≤ k → rf k = false
theorem Inv.start : Inv 1 (fun _ => 0) (fun _ => 0) (va_up (fun _ => 0) 0 32768) (fun _ => false) (fun _ => false) := by
  refine ⟨Nat.le_refl _, by decide, ⟨rfl, fun k h1 h2 => by omega⟩, fun k hk => ?_, ⟨rfl, fun k h1 h2 => by omega⟩, fun _ _ => rfl⟩
  obtain rfl : k = 0 := by omega
  rw [up_at]
  decide
theorem Inv.add {n : Nat} {pf ef gf : Nat → Nat} {tf af : Nat → Int32} {wf : Nat → Int64} {xf rf : Nat → Bool} {ts : Nat → Int32} {x ti ar : Int32} {r1 r2 : Int32} {u1 u2 : wt_S} (hI : Inv n pf ef gf rf xf) (e1 : (r1, u1) = wt_add wt_fwC n pf ef gf tf af wf xf ts x ti ar) (e2 : (r2, u2) = wt_add wt_fwM n pf ef gf tf af wf rf ts x ti ar) :
    r1 = r2 ∧ ∃ (n' : Nat) (pf' ef' gf' : Nat → Nat) (tf' af' : Nat → Int32) (wf' : Nat → Int64) (xf' : Nat → Bool) (ts' : Nat → Int32) (rf' : Nat → Bool), u1 = (n', pf', ef', gf', tf', af', wf', xf', ts') ∧ u2 = (n', pf', ef', gf', tf', af', wf', rf', ts') ∧ Inv n' pf' ef' gf' rf' xf' := by
  obtain ⟨h1, hn, hT, hg, hW, hr⟩ := hI
  by_cases h : 0 ≤ x.toInt ∧ x.toInt < n
  · obtain ⟨k, hk, rfl⟩ := wt_ix_in hn h
    by_cases hc : ti ≤ wt_medR pf tf k ts ∨ ar < 0
    · rw [wt_add_1 hn hk hc] at e1 e2
      obtain ⟨rfl, rfl⟩ := Prod.mk.inj e1
      obtain ⟨rfl, rfl⟩ := Prod.mk.inj e2
      exact ⟨rfl, _, _, _, _, _, _, _, _, _, _, rfl, rfl, h1, hn, hT, hg, hW, hr⟩
    · have hc1 : ¬ ti ≤ wt_medR pf tf k ts := fun q => hc (Or.inl q)
      have hc2 : ¬ ar < 0 := fun q => hc (Or.inr q)
      by_cases h3 : n = 512
      · rw [wt_add_2 hn hk hc1 hc2 h3] at e1 e2
        obtain ⟨rfl, rfl⟩ := Prod.mk.inj e1
        obtain ⟨rfl, rfl⟩ := Prod.mk.inj e2
        exact ⟨rfl, _, _, _, _, _, _, _, _, _, _, rfl, rfl, h1, hn, hT, hg, hW, hr⟩
      · rw [wt_add_3 hn hk hc1 hc2 h3] at e1 e2
        obtain ⟨rfl, rfl⟩ := Prod.mk.inj e1
        obtain ⟨rfl, rfl⟩ := Prod.mk.inj e2
        exact ⟨rfl, _, _, _, _, _, _, _, _, _, _, rfl, rfl, by omega, by omega, hT.up hk, hg.up (wt_due_in hg hk), Wr.up hT h1 hW (hr n (Nat.le_refl _)) hk, fun j hj => hr j (by omega)⟩
  · rw [wt_add_0 (wt_ix_none h)] at e1 e2
    obtain ⟨rfl, rfl⟩ := Prod.mk.inj e1
    obtain ⟨rfl, rfl⟩ := Prod.mk.inj e2
    exact ⟨rfl, _, _, _, _, _, _, _, _, _, _, rfl, rfl, h1, hn, hT, hg, hW, hr⟩
theorem Inv.refuse {n : Nat} {pf ef gf : Nat → Nat} {xf rf : Nat → Bool} (hI : Inv n pf ef gf rf xf) (x : Int32) : Inv n pf ef gf (wt_rfM n rf x) (wt_rfC n pf xf x) := by
  obtain ⟨h1, hn, hT, hg, hW, hr⟩ := hI
  by_cases h : 0 ≤ x.toInt ∧ x.toInt < n
  · obtain ⟨k, hk, rfl⟩ := wt_ix_in hn h
    by_cases hk0 : k = 0
    · have h2 : wt_ix (nI k) n = some 0 := by rw [wt_ix_some hk hn, hk0]
      rw [wt_rfM_0 (Or.inr h2), wt_rfC_0 (Or.inr h2)]
      exact ⟨h1, hn, hT, hg, hW, hr⟩
    · rw [wt_rfM_n hn (by omega) hk, wt_rfC_n hn (by omega) hk]
      exact ⟨h1, hn, hT, hg, wt_refused hT hW (by omega) hk, fun j hj => by rw [up_ne (by omega)]; exact hr j hj⟩
  · rw [wt_rfM_0 (Or.inl (wt_ix_none h)), wt_rfC_0 (Or.inl (wt_ix_none h))]
    exact ⟨h1, hn, hT, hg, hW, hr⟩
theorem wt_arr {args : Array Value} {s : State} {ty : FieldType} (hno : ∀ C, ty ≠ .object C) (h : (Cond.arrayClass ty).before args s = true) : ∃ cA : ClassId, ArrOfT s cA ty ∧ va_RA s cA ty := by
  obtain ⟨cA, kA, comp, f1, f2, f3⟩ := Cond.arrayClass_spec h
  refine ⟨cA, fun n z => ⟨fun k h => (by cases h), kA, f2, comp, f3⟩, ?_⟩
  cases ty with
  | object C => exact absurd rfl (hno C)
  | _ => exact f1
theorem wt_known {args : Array Value} {s : State} (hts : ∀ w ∈ wt_ws, w.before args s = true) : ∃ (D : va_G) (cI cJ cZ : ClassId), va_K D classes (wt_ty cI cJ cZ) s := by
  obtain ⟨cT, iT, hKT⟩ := u_known (N := 1) (n := 1) hts u_in_T (hts _ k_6)
  obtain ⟨cC, iC, hKC⟩ := u_known (N := 9) (n := 9) hts u_in_C (hts _ k_14)
  obtain ⟨cM, iM, hKM⟩ := u_known (N := 9) (n := 9) hts u_in_M (hts _ k_154)
  obtain ⟨cI, hI⟩ := wt_arr (fun _ h => by cases h) (hts _ k_55)
  obtain ⟨cJ, hJ⟩ := wt_arr (fun _ h => by cases h) (hts _ k_56)
  obtain ⟨cZ, hZ⟩ := wt_arr (fun _ h => by cases h) (hts _ k_57)
  refine ⟨(fun k => match k with | 0 => cT | 1 => cC | _ => cM, fun k => match k with | 0 => iT | 1 => iC | _ => iM), cI, cJ, cZ, fun c q hq => ?_, fun k q hk => ?_⟩
  · rcases c with _ | _ | _ | c
    · cases hq; exact hKT
    · cases hq; exact hKC
    · cases hq; exact hKM
    · exact absurd hq (by simp)
  · rcases k with _ | _ | _ | k
    · cases hk; exact hI
    · cases hk; exact hJ
    · cases hk; exact hZ
    · exact absurd hk (by simp)
section SLD
variable {p : Program} {l : Launch} {e : Env} {R : Room} {s : State} {m : MethodId} {args : Array Value} {below : List Frame} {meth : Method} {c : Code} {H : Heap} {locs : List Loc} {cells slots : Nat} {Q : State → Prop}
variable {cc : ByteArray} {pc : Nat} {ls : Array Slot} {rest : List Value} {A : Nat → Prop} {H0 : Heap}
theorem wn_sld (hexec : p.tables.exec = Jvm.exec) (hb : c.code = cc) {b L : Nat} {xs : Nat → Int32} (hX : va_X b L xs s H0) (hbl : b < H0.size) (hbA : ¬ A b) (hS : va_S A H0 H locs) {k : Nat} (hk : k < L) (hL : L < 2 ^ 31) (hdg : decode cc pc = .ok (.iaload, 1))
    (kk : W p l e R s m args below meth c H locs cells slots Q (F0 m (pc + 1) ls (.int (xs k) :: rest))) : W p l e R s m args below meth c H locs cells slots Q (F0 m pc ls (.int (nI k) :: .ref b :: rest)) :=
  va_sld hexec hb hX hbl hbA hS (vp_in_nI hk hL) hdg (by rw [nI_clamp (Nat.lt_trans hk hL)]; exact kk)
end SLD
theorem wt_more {i L : Nat} (hi : i < 2 ^ 30) (hL : L < 2 ^ 30) (h : ¬ nI L - nI 4 < nI i) : i + 4 ≤ L := by
  rw [Int32.lt_iff_toInt_lt, pk_sub_toInt hL (by omega), nI_toInt (by omega)] at h
  omega
end
section
def R_law : String := "WorkTreeLaw"
def lw_P (b : Addr) (xs : List Int32) (args : Array Value) (s : State) : Prop := args = #[.ref b] ∧ s.IntsAt b xs ∧ xs.length ≤ 2048 ∧ (Jvm.Cond.and given_1 narrow_1).before args s = true
def lw_Q (_ : Array Value) (s : State) (o : Outcome) (t : State) : Prop := o = .returned (some (.int 1)) ∧ Framed s o t [] 19 7201
def lw_Z (below : List Frame) (a : Array Value) (s : State) : State → Prop := fun t => ∃ o, t.status = .running ∧ Ended t below o ∧ lw_Q a s o t
/-- the law's own end, with 1 on the stack, nothing written that was there before, its room as the claim has it -/
theorem lw_ret {p : Program} {l : Launch} {e : Env} {s : State} {m : MethodId} {below : List Frame} {meth : Method} {c : Code} {b : Nat} (hx : p.tables.exec = Jvm.exec) (hb : c.code = code) (hr : meth.sig.returnType = ret) (hlocks : meth.locks = false) {pc : Nat} {H : Heap} {ls : Array Slot} (hdg : decode code pc = .ok (.ireturn, 1)) : W p l e room_1 s m #[Value.ref b] below meth c H [] 19 7201 (lw_Z below #[Value.ref b] s) (F0 m pc ls [.int 1]) := by
  intro T hT X
  obtain ⟨fs, hret, hrun, hended, hW, hframe⟩ := X.leave (v := some (.int 1)) (hlocks := hlocks) (fun h => by rw [hr] at h; cases h)
  have hmeth' : T.vm.method? m = some meth := X.method'
  refine ⟨T.setFrames fs, ?_, .returned (some (.int 1)), hrun, hended, rfl, ⟨_, rfl⟩, hW, hframe⟩
  jvm_step X.here [X.here.top, hx, hb, hdg, hmeth', hr, ret, narrow_b1]
  (try refine ⟨rfl, ?_⟩); (try refine ⟨rfl, ?_⟩)
  first | (intro acts; rw [hret _ acts rfl rfl rfl]) | rw [hret _ _ rfl rfl rfl]
  exact Steps.refl _
/-- what holds at the law's entry: the machine, the code, the tables' words (any of lw_tbl by 'hts w (by decide +kernel)'), the script of L ints xs at the cell b, what the Statement gives of the start (any of its parts by flat_of_before) -/
def lw_At (p : Program) (s : State) (m : MethodId) (meth : Method) (c : Code) (b L : Nat) (xs : Nat → Int32) : Prop :=
  p.tables.exec = Jvm.exec ∧ c.code = code ∧ meth.sig.returnType = ret ∧ c.maxLocals = 4 ∧ s.vm.findClass R_law = some m.cls ∧ (∀ w ∈ lw_tbl, w.before #[Value.ref b] s = true) ∧ va_X b L xs s s.heap ∧ b < s.heap.size ∧ meth.locks = false ∧ (Jvm.Cond.and given_1 narrow_1).before #[Value.ref b] s = true
def lw_A (s : State) : Nat → Prop := fun q => s.heap.size ≤ q
set_option maxHeartbeats 8000000 in
set_option maxRecDepth 100000 in
theorem whole_start {p : Program} {e : Env} {s : State} {m : MethodId} {below : List Frame} {meth : Method} {c : Code} (l : Launch) {b L : Nat} {xs : Nat → Int32} (hL : L ≤ 2048) (C0 : lw_At p s m meth c b L xs) : W p l e room_1 s m #[Value.ref b] below meth c s.heap [] 0 0 (lw_Z below #[Value.ref b] s) (entryFrame m ([Value.ref b] : List Value).toArray 4) := by
  obtain ⟨hx, hb, hr, hml, hown0, hts0, hX, hbl, hlocks, -⟩ := C0
  have hown : s.vm.findClass R_L = some m.cls := hown0
  have hts : ∀ w ∈ wt_ws, w.before #[Value.ref b] s = true := fun w hw => hts0 w (List.mem_filter.mp hw).1
  have hN : va_Nw wt_nest s := va_Nw.of rfl (hts0 _ k_nest)
  obtain ⟨D, cI, cJ, cZ, hK⟩ := wt_known hts
  have hA : ∀ q, s.heap.size ≤ q → lw_A s q := fun q h => h
  have hbA : ¬ lw_A s b := Nat.not_le.mpr hbl
  have hS : va_S (lw_A s) s.heap s.heap [] := va_S.rf
  have hP : va_P D classes [] s.heap := va_P_nil
  have hD : va_D (lw_A s) [] := ⟨fun i j p q h => by simp at h, fun k q h => by simp at h⟩
  have hl := lv_entry ([.ref b]) (n := 4) (Nat.le_of_ble_eq_true rfl)
  rw [lg_entry_eq]
  generalize (lg_sl ([.ref b]) ++ List.replicate (4 - (lg_sl ([.ref b])).length) Slot.unset).toArray = ls at hl ⊢
  have hl : lv_has ls 4 [(0, .ref b)] := hl
  refine va_new (ci := 0) (fs := [.null]) (C := R_T) (T := F_T) (N := 1) hx hb hts u_in_T ft_T ft_T_ok hown (hts _ k_5) (hts _ k_6) (hts _ k_1) hK hP hD hS hA rfl (fun j hj => by rcases (show j = 0 by omega) with rfl <;> rfl) (Nat.le_of_ble_eq_true rfl) (Nat.le_of_ble_eq_true rfl) d_law_0 (fun t H hP hD hS => ?_)
  have hP : va_P D classes ([(t, .inr (0, [.null]))]) H := hP
  have hD : va_D _ ([(t, .inr (0, [.null]))]) := hD
  refine W.cs (cells' := 1) (slots' := 1) rfl rfl ?_
  refine lv_dup hx hb d_law_3 rfl ?_
  refine mu_callv (wc := [(t, .inr (0, [.null]))]) (wr := []) (va_runI (As := []) (rest := [.ref t]) ⟨hx, hb, hml, hown, hts⟩ (c_T_init l D cI cJ cZ t _) (wt_cwI 0 hts k_9 k_7 k_8 k_1 rfl rfl rfl (by decide +kernel) ⟨Nat.le_of_ble_eq_true rfl, Nat.le_of_ble_eq_true rfl⟩) (mu_preS hK hP hD) rfl rfl hl.1 rfl (lv_room (Nat.le_of_ble_eq_true rfl)) d_law_4 ⟨Nat.le_of_ble_eq_true rfl, Nat.le_of_ble_eq_true rfl⟩) hS hA hP hD [0] [] rfl rfl (by decide) (by decide) (fun a H locs _ hP hD hS => ?_)
  have hP : va_P D classes (tr_ws t a cI cJ cZ 1 (fun _ => 0) (fun _ => 0) (va_up (fun _ => 0) 0 32768) (fun _ => 0) (fun _ => 0) (fun _ => 0) (fun _ => false) (fun _ => 0)) H := hP
  have hD : va_D _ (tr_ws t a cI cJ cZ 1 (fun _ => 0) (fun _ => 0) (va_up (fun _ => 0) 0 32768) (fun _ => 0) (fun _ => 0) (fun _ => 0) (fun _ => false) (fun _ => 0)) := hD
  refine W.cs (cells' := 10) (slots' := 3601) rfl rfl ?_
  refine lv_astore_n (lv' := [(1, .ref t), (0, .ref b)]) hx hb d_law_7 rfl hl (by decide) rfl (fun ls hl => ?_)
  refine va_new (ci := 2) (fs := [.null, .null, .null, .null, .null, .null, .null, .null, .int 0]) (C := R_M) (T := F_M) (N := 9) hx hb hts u_in_M ft_M ft_M_ok hown (hts _ k_153) (hts _ k_154) (hts _ k_3) hK hP hD hS hA rfl (fun j hj => by rcases (show j = 0 ∨ j = 1 ∨ j = 2 ∨ j = 3 ∨ j = 4 ∨ j = 5 ∨ j = 6 ∨ j = 7 ∨ j = 8 by omega) with rfl | rfl | rfl | rfl | rfl | rfl | rfl | rfl | rfl <;> rfl) (Nat.le_of_ble_eq_true rfl) (Nat.le_of_ble_eq_true rfl) d_law_8 (fun q H hP hD hS => ?_)
  have hP : va_P D classes (tr_ws t a cI cJ cZ 1 (fun _ => 0) (fun _ => 0) (va_up (fun _ => 0) 0 32768) (fun _ => 0) (fun _ => 0) (fun _ => 0) (fun _ => false) (fun _ => 0) ++ [(q, .inr (2, [.null, .null, .null, .null, .null, .null, .null, .null, .int 0]))]) H := hP
  have hD : va_D _ (tr_ws t a cI cJ cZ 1 (fun _ => 0) (fun _ => 0) (va_up (fun _ => 0) 0 32768) (fun _ => 0) (fun _ => 0) (fun _ => 0) (fun _ => false) (fun _ => 0) ++ [(q, .inr (2, [.null, .null, .null, .null, .null, .null, .null, .null, .int 0]))]) := hD
  refine W.cs (cells' := 11) (slots' := 3610) rfl rfl ?_
  refine lv_dup hx hb d_law_11 rfl ?_
  refine mu_callv (wc := [(q, .inr (2, [.null, .null, .null, .null, .null, .null, .null, .null, .int 0]))]) (wr := tr_ws t a cI cJ cZ 1 (fun _ => 0) (fun _ => 0) (va_up (fun _ => 0) 0 32768) (fun _ => 0) (fun _ => 0) (fun _ => 0) (fun _ => false) (fun _ => 0)) (va_runI (As := []) (rest := [.ref q]) ⟨hx, hb, hml, hown, hts⟩ (c_M_init l D cI cJ cZ q _) (wt_cwI 0 hts k_157 k_155 k_156 k_3 rfl rfl rfl (by decide +kernel) ⟨Nat.le_of_ble_eq_true rfl, Nat.le_of_ble_eq_true rfl⟩) (mu_preS hK (hP.sub (ws' := [(q, .inr (2, [.null, .null, .null, .null, .null, .null, .null, .null, .int 0]))]) [10] rfl) (hD.sub (ws' := [(q, .inr (2, [.null, .null, .null, .null, .null, .null, .null, .null, .int 0]))]) [10] (by decide) rfl)) rfl rfl hl.1 rfl (lv_room (Nat.le_of_ble_eq_true rfl)) d_law_12 ⟨Nat.le_of_ble_eq_true rfl, Nat.le_of_ble_eq_true rfl⟩) hS hA hP hD [10] [0, 1, 2, 3, 4, 5, 6, 7, 8, 9] rfl rfl (by decide) (by decide) (fun bm H locs hu hP1 hD1 hS1 => ?_)
  subst hu
  have hP : va_P D classes (tr_ws t a cI cJ cZ 1 (fun _ => 0) (fun _ => 0) (va_up (fun _ => 0) 0 32768) (fun _ => 0) (fun _ => 0) (fun _ => 0) (fun _ => false) (fun _ => 0) ++ mo_ws bm cI cJ cZ 1 (fun _ => 0) (fun _ => 0) (va_up (fun _ => 0) 0 32768) (fun _ => 0) (fun _ => 0) (fun _ => 0) (fun _ => false) (fun _ => 0)) H := hP1
  have hD : va_D _ (tr_ws t a cI cJ cZ 1 (fun _ => 0) (fun _ => 0) (va_up (fun _ => 0) 0 32768) (fun _ => 0) (fun _ => 0) (fun _ => 0) (fun _ => false) (fun _ => 0) ++ mo_ws bm cI cJ cZ 1 (fun _ => 0) (fun _ => 0) (va_up (fun _ => 0) 0 32768) (fun _ => 0) (fun _ => 0) (fun _ => 0) (fun _ => false) (fun _ => 0)) := hD1
  have hS := hS1
  refine W.cs (cells' := 19) (slots' := 7201) rfl rfl ?_
  refine lv_astore_n (lv' := [(2, .ref (bm 0)), (1, .ref t), (0, .ref b)]) hx hb d_law_15 rfl hl (by decide) rfl (fun ls hl => ?_)
  refine lv_iconst (v := (nI 0)) hx hb d_law_16 (by decide +kernel) ?_
  refine lv_istore_n (lv' := [(3, .int (nI 0)), (2, .ref (bm 0)), (1, .ref t), (0, .ref b)]) hx hb d_law_17 rfl hl (by decide) rfl (fun ls hl => ?_)
  have loop : ∀ (r i : Nat) (n : Nat) (pf ef gf : Nat → Nat) (tf af : Nat → Int32) (wf : Nat → Int64) (xf : Nat → Bool) (ts : Nat → Int32) (rf : Nat → Bool) (ls : Array Slot) (H : Heap) (locs : List Loc), L - i = r → i ≤ 2048 → Inv n pf ef gf rf xf → lv_has ls 4 [(3, .int (nI i)), (2, .ref (bm 0)), (1, .ref t), (0, .ref b)] → va_P D classes (tr_ws t a cI cJ cZ n pf ef gf tf af wf xf ts ++ mo_ws bm cI cJ cZ n pf ef gf tf af wf rf ts) H → va_D (lw_A s) (tr_ws t a cI cJ cZ n pf ef gf tf af wf xf ts ++ mo_ws bm cI cJ cZ n pf ef gf tf af wf rf ts) → va_S (lw_A s) s.heap H locs → W p l e room_1 s m #[Value.ref b] below meth c H locs 19 7201 (lw_Z below #[Value.ref b] s) (F0 m 18 ls []) := by
    intro r
    induction r using Nat.strongRecOn with
    | ind r ih =>
      intro i n pf ef gf tf af wf xf ts rf ls H locs hri hi hI hl hP hD hS
      obtain ⟨h1, hn, hT, hg, hW, hrf⟩ := id hI
      refine lv_iload_n hx hb d_law_18 rfl (lv_at hl 0 rfl) ?_
      refine lv_aload_n hx hb d_law_19 rfl (lv_at hl 3 rfl) ?_
      refine va_slen hx hb hX hbl hbA hS d_law_20 ?_
      refine wt_top (v := nI L) rfl ?_
      refine lv_iconst (v := (nI 4)) hx hb d_law_21 (by decide +kernel) ?_
      refine lv_isub hx hb d_law_22 ?_
      refine lv_icmp_gt (tgt := 328) hx hb d_law_23 (by decide) (fun hc23 => ?_) (fun hc23 => ?_)
      · refine lv_iconst (v := 1) hx hb d_law_328 (by decide +kernel) ?_
        exact va_forget (fun q hq => hS.2.2 q hq) (lw_ret hx hb hr hlocks d_law_329)
      · have hi4 := wt_more (by omega) (by omega) hc23
        refine lv_aload_n hx hb d_law_26 rfl (lv_at hl 3 rfl) ?_
        refine lv_iload_n hx hb d_law_27 rfl (lv_at hl 0 rfl) ?_
        refine wn_sld (k := i) hx hb hX hbl hbA hS (by omega) (by omega) d_law_28 ?_
        refine lv_bipush (v := (nI 15)) hx hb d_law_29 (by decide +kernel) ?_
        refine lv_iand hx hb d_law_31 ?_
        obtain ⟨j, hj, hjx⟩ := pk_andE (xs i) (m := nI 15) 4 (by decide +kernel)
        refine wt_top (v := nI j) hjx ?_
        rcases (show j = 0 ∨ j = 1 ∨ j = 2 ∨ j = 3 ∨ j = 4 ∨ j = 5 ∨ j = 6 ∨ j = 7 ∨ j = 8 ∨ j = 9 ∨ j = 10 ∨ j = 11 ∨ j = 12 ∨ j = 13 ∨ j = 14 ∨ j = 15 by omega) with rfl | rfl | rfl | rfl | rfl | rfl | rfl | rfl | rfl | rfl | rfl | rfl | rfl | rfl | rfl | rfl
        · refine lv_tableIn (off := 52) (tgt := 84) hx hb d_law_32 (by decide +kernel) (by decide +kernel) (by decide +kernel) (by decide) ?_
          refine lv_aload_n hx hb d_law_84 rfl (lv_at hl 2 rfl) ?_
          refine lv_aload_n hx hb d_law_85 rfl (lv_at hl 3 rfl) ?_
          refine lv_iload_n hx hb d_law_86 rfl (lv_at hl 0 rfl) ?_
          refine lv_iconst (v := (nI 1)) hx hb d_law_87 (by decide +kernel) ?_
          refine wn_iadd hx hb d_law_88 ?_
          refine wn_sld (k := i + 1) hx hb hX hbl hbA hS (by omega) (by omega) d_law_89 ?_
          refine lv_aload_n hx hb d_law_90 rfl (lv_at hl 3 rfl) ?_
          refine lv_iload_n hx hb d_law_91 rfl (lv_at hl 0 rfl) ?_
          refine lv_iconst (v := (nI 2)) hx hb d_law_92 (by decide +kernel) ?_
          refine wn_iadd hx hb d_law_93 ?_
          refine wn_sld (k := i + 2) hx hb hX hbl hbA hS (by omega) (by omega) d_law_94 ?_
          refine lv_aload_n hx hb d_law_95 rfl (lv_at hl 3 rfl) ?_
          refine lv_iload_n hx hb d_law_96 rfl (lv_at hl 0 rfl) ?_
          refine lv_iconst (v := (nI 3)) hx hb d_law_97 (by decide +kernel) ?_
          refine wn_iadd hx hb d_law_98 ?_
          refine wn_sld (k := i + 3) hx hb hX hbl hbA hS (by omega) (by omega) d_law_99 ?_
          refine mu_calli (wc := tr_ws t a cI cJ cZ n pf ef gf tf af wf xf ts) (wr := mo_ws bm cI cJ cZ n pf ef gf tf af wf rf ts) (va_runV (As := [.int (xs (i + 1)), .int (xs (i + 2)), .int (xs (i + 3))]) (rest := []) ⟨hx, hb, hml, hown, hts⟩ (c_T_add l D cI cJ cZ t a n pf ef gf tf af wf xf ts _ (xs (i + 1)) (xs (i + 2)) (xs (i + 3)) hT hg h1 hn) (wt_cwV 3 hts k_65 k_62 k_63 k_64 k_1 rfl rfl (by decide +kernel) ⟨Nat.le_of_ble_eq_true rfl, Nat.le_of_ble_eq_true rfl⟩) (mn_preV (q := (R_T, F_T, 1)) (ci := 0) hK hN (hP.sub (ws' := tr_ws t a cI cJ cZ n pf ef gf tf af wf xf ts) [0, 1, 2, 3, 4, 5, 6, 7, 8, 9] rfl) (hD.sub (ws' := tr_ws t a cI cJ cZ n pf ef gf tf af wf xf ts) [0, 1, 2, 3, 4, 5, 6, 7, 8, 9] (by decide) rfl) 0 rfl rfl) rfl rfl hl.1 rfl (lv_room (Nat.le_of_ble_eq_true rfl)) d_law_100 ⟨Nat.le_of_ble_eq_true rfl, Nat.le_of_ble_eq_true rfl⟩) hS hA hP hD [0, 1, 2, 3, 4, 5, 6, 7, 8, 9] [10, 11, 12, 13, 14, 15, 16, 17, 18] rfl rfl (by decide) (by decide) (fun r1 u1 H locs hr100 hP hD hS => ?_)
          have hP : va_P D classes (mo_ws bm cI cJ cZ n pf ef gf tf af wf rf ts ++ tr_u t a cI cJ cZ u1) H := hP
          have hD : va_D _ (mo_ws bm cI cJ cZ n pf ef gf tf af wf rf ts ++ tr_u t a cI cJ cZ u1) := hD
          refine W.cs (cells' := 19) (slots' := 7201) rfl rfl ?_
          refine lv_aload_n hx hb d_law_103 rfl (lv_at hl 1 rfl) ?_
          refine lv_aload_n hx hb d_law_104 rfl (lv_at hl 3 rfl) ?_
          refine lv_iload_n hx hb d_law_105 rfl (lv_at hl 0 rfl) ?_
          refine lv_iconst (v := (nI 1)) hx hb d_law_106 (by decide +kernel) ?_
          refine wn_iadd hx hb d_law_107 ?_
          refine wn_sld (k := i + 1) hx hb hX hbl hbA hS (by omega) (by omega) d_law_108 ?_
          refine lv_aload_n hx hb d_law_109 rfl (lv_at hl 3 rfl) ?_
          refine lv_iload_n hx hb d_law_110 rfl (lv_at hl 0 rfl) ?_
          refine lv_iconst (v := (nI 2)) hx hb d_law_111 (by decide +kernel) ?_
          refine wn_iadd hx hb d_law_112 ?_
          refine wn_sld (k := i + 2) hx hb hX hbl hbA hS (by omega) (by omega) d_law_113 ?_
          refine lv_aload_n hx hb d_law_114 rfl (lv_at hl 3 rfl) ?_
          refine lv_iload_n hx hb d_law_115 rfl (lv_at hl 0 rfl) ?_
          refine lv_iconst (v := (nI 3)) hx hb d_law_116 (by decide +kernel) ?_
          refine wn_iadd hx hb d_law_117 ?_
          refine wn_sld (k := i + 3) hx hb hX hbl hbA hS (by omega) (by omega) d_law_118 ?_
          refine mu_calli (wc := mo_ws bm cI cJ cZ n pf ef gf tf af wf rf ts) (wr := tr_u t a cI cJ cZ u1) (va_runV (As := [.int (xs (i + 1)), .int (xs (i + 2)), .int (xs (i + 3))]) (rest := [.int r1]) ⟨hx, hb, hml, hown, hts⟩ (c_M_add l D cI cJ cZ bm n pf ef gf tf af wf rf ts _ (xs (i + 1)) (xs (i + 2)) (xs (i + 3)) hT hg hn) (wt_cwV 3 hts k_191 k_188 k_189 k_190 k_3 rfl rfl (by decide +kernel) ⟨Nat.le_of_ble_eq_true rfl, Nat.le_of_ble_eq_true rfl⟩) (mu_preV (q := (R_M, F_M, 9)) (ci := 2) hK (hP.sub (ws' := mo_ws bm cI cJ cZ n pf ef gf tf af wf rf ts) [0, 1, 2, 3, 4, 5, 6, 7, 8] rfl) (hD.sub (ws' := mo_ws bm cI cJ cZ n pf ef gf tf af wf rf ts) [0, 1, 2, 3, 4, 5, 6, 7, 8] (by decide) rfl) 0 rfl rfl) rfl rfl hl.1 rfl (lv_room (Nat.le_of_ble_eq_true rfl)) d_law_119 ⟨Nat.le_of_ble_eq_true rfl, Nat.le_of_ble_eq_true rfl⟩) hS hA hP hD [0, 1, 2, 3, 4, 5, 6, 7, 8] [9, 10, 11, 12, 13, 14, 15, 16, 17, 18] rfl rfl (by decide) (by decide) (fun r2 u2 H locs hr119 hP hD hS => ?_)
          have hP : va_P D classes (tr_u t a cI cJ cZ u1 ++ mo_u bm cI cJ cZ u2) H := hP
          have hD : va_D _ (tr_u t a cI cJ cZ u1 ++ mo_u bm cI cJ cZ u2) := hD
          refine W.cs (cells' := 19) (slots' := 7201) rfl rfl ?_
          obtain ⟨hrr, n', pf', ef', gf', tf', af', wf', xf', ts', rf', hu1, hu2, hI'⟩ := Inv.add hI hr100 hr119
          rw [hu1, hu2] at hP hD
          have hP : va_P D classes (tr_ws t a cI cJ cZ n' pf' ef' gf' tf' af' wf' xf' ts' ++ mo_ws bm cI cJ cZ n' pf' ef' gf' tf' af' wf' rf' ts') H := hP
          have hD : va_D (lw_A s) (tr_ws t a cI cJ cZ n' pf' ef' gf' tf' af' wf' xf' ts' ++ mo_ws bm cI cJ cZ n' pf' ef' gf' tf' af' wf' rf' ts') := hD
          have hI := hI'
          refine lv_icmp_eq (tgt := 322) hx hb d_law_122 (by decide) (fun hc122 => ?_) (fun hc122 => ?_)
          · refine lv_iinc (k := 0) (v := (nI (i + 4))) (lv' := [(3, .int (nI (i + 4))), (2, .ref (bm 0)), (1, .ref t), (0, .ref b)]) hx hb d_law_322 hl rfl (wt_inc4 _) (by decide) rfl (fun ls hl => ?_)
            refine lv_goto (tgt := 18) hx hb d_law_325 (by decide) ?_
            have hl : lv_has ls 4 [(3, .int (nI (i + 4))), (2, .ref (bm 0)), (1, .ref t), (0, .ref b)] := lv_sub hl [0, 1, 2, 3] rfl
            exact ih (L - (i + 4)) (by omega) (i + 4) n' pf' ef' gf' tf' af' wf' xf' ts' rf' ls H locs rfl (by omega) hI hl hP hD hS
          · exact absurd hrr hc122
        · refine lv_tableIn (off := 95) (tgt := 127) hx hb d_law_32 (by decide +kernel) (by decide +kernel) (by decide +kernel) (by decide) ?_
          refine lv_aload_n hx hb d_law_127 rfl (lv_at hl 2 rfl) ?_
          refine lv_aload_n hx hb d_law_128 rfl (lv_at hl 3 rfl) ?_
          refine lv_iload_n hx hb d_law_129 rfl (lv_at hl 0 rfl) ?_
          refine lv_iconst (v := (nI 1)) hx hb d_law_130 (by decide +kernel) ?_
          refine wn_iadd hx hb d_law_131 ?_
          refine wn_sld (k := i + 1) hx hb hX hbl hbA hS (by omega) (by omega) d_law_132 ?_
          refine mu_calli (wc := tr_ws t a cI cJ cZ n pf ef gf tf af wf xf ts) (wr := mo_ws bm cI cJ cZ n pf ef gf tf af wf rf ts) (va_runV (As := [.int (xs (i + 1))]) (rest := []) ⟨hx, hb, hml, hown, hts⟩ (c_T_refuse l D cI cJ cZ t a n pf ef gf tf af wf xf ts _ (xs (i + 1)) hT h1 hn) (wt_cwV 1 hts k_104 k_101 k_102 k_103 k_1 rfl rfl (by decide +kernel) ⟨Nat.le_of_ble_eq_true rfl, Nat.le_of_ble_eq_true rfl⟩) (mu_preV (q := (R_T, F_T, 1)) (ci := 0) hK (hP.sub (ws' := tr_ws t a cI cJ cZ n pf ef gf tf af wf xf ts) [0, 1, 2, 3, 4, 5, 6, 7, 8, 9] rfl) (hD.sub (ws' := tr_ws t a cI cJ cZ n pf ef gf tf af wf xf ts) [0, 1, 2, 3, 4, 5, 6, 7, 8, 9] (by decide) rfl) 0 rfl rfl) rfl rfl hl.1 rfl (lv_room (Nat.le_of_ble_eq_true rfl)) d_law_133 ⟨Nat.le_of_ble_eq_true rfl, Nat.le_of_ble_eq_true rfl⟩) hS hA hP hD [0, 1, 2, 3, 4, 5, 6, 7, 8, 9] [10, 11, 12, 13, 14, 15, 16, 17, 18] rfl rfl (by decide) (by decide) (fun r1 u1 H locs hr133 hP hD hS => ?_)
          have hP : va_P D classes (mo_ws bm cI cJ cZ n pf ef gf tf af wf rf ts ++ tr_ws t a cI cJ cZ n pf ef gf tf af wf u1 ts) H := hP
          have hD : va_D _ (mo_ws bm cI cJ cZ n pf ef gf tf af wf rf ts ++ tr_ws t a cI cJ cZ n pf ef gf tf af wf u1 ts) := hD
          refine W.cs (cells' := 19) (slots' := 7201) rfl rfl ?_
          refine lv_aload_n hx hb d_law_136 rfl (lv_at hl 1 rfl) ?_
          refine lv_aload_n hx hb d_law_137 rfl (lv_at hl 3 rfl) ?_
          refine lv_iload_n hx hb d_law_138 rfl (lv_at hl 0 rfl) ?_
          refine lv_iconst (v := (nI 1)) hx hb d_law_139 (by decide +kernel) ?_
          refine wn_iadd hx hb d_law_140 ?_
          refine wn_sld (k := i + 1) hx hb hX hbl hbA hS (by omega) (by omega) d_law_141 ?_
          refine mu_calli (wc := mo_ws bm cI cJ cZ n pf ef gf tf af wf rf ts) (wr := tr_ws t a cI cJ cZ n pf ef gf tf af wf u1 ts) (va_runV (As := [.int (xs (i + 1))]) (rest := [.int r1]) ⟨hx, hb, hml, hown, hts⟩ (c_M_refuse l D cI cJ cZ bm n pf ef gf tf af wf rf ts xf _ (xs (i + 1)) hT h1 hn hW) (wt_cwV 1 hts k_213 k_210 k_211 k_212 k_3 rfl rfl (by decide +kernel) ⟨Nat.le_of_ble_eq_true rfl, Nat.le_of_ble_eq_true rfl⟩) (mu_preV (q := (R_M, F_M, 9)) (ci := 2) hK (hP.sub (ws' := mo_ws bm cI cJ cZ n pf ef gf tf af wf rf ts) [0, 1, 2, 3, 4, 5, 6, 7, 8] rfl) (hD.sub (ws' := mo_ws bm cI cJ cZ n pf ef gf tf af wf rf ts) [0, 1, 2, 3, 4, 5, 6, 7, 8] (by decide) rfl) 0 rfl rfl) rfl rfl hl.1 rfl (lv_room (Nat.le_of_ble_eq_true rfl)) d_law_142 ⟨Nat.le_of_ble_eq_true rfl, Nat.le_of_ble_eq_true rfl⟩) hS hA hP hD [0, 1, 2, 3, 4, 5, 6, 7, 8] [9, 10, 11, 12, 13, 14, 15, 16, 17, 18] rfl rfl (by decide) (by decide) (fun r2 u2 H locs hr142 hP hD hS => ?_)
          have hP : va_P D classes (tr_ws t a cI cJ cZ n pf ef gf tf af wf u1 ts ++ mo_ws bm cI cJ cZ n pf ef gf tf af wf u2 ts) H := hP
          have hD : va_D _ (tr_ws t a cI cJ cZ n pf ef gf tf af wf u1 ts ++ mo_ws bm cI cJ cZ n pf ef gf tf af wf u2 ts) := hD
          refine W.cs (cells' := 19) (slots' := 7201) rfl rfl ?_
          have hrr : r1 = r2 := hr133.1.trans hr142.1.symm
          rw [hr133.2, hr142.2] at hP hD
          have hP : va_P D classes (tr_ws t a cI cJ cZ n pf ef gf tf af wf (wt_rfC n pf xf (xs (i + 1))) ts ++ mo_ws bm cI cJ cZ n pf ef gf tf af wf (wt_rfM n rf (xs (i + 1))) ts) H := hP
          have hD : va_D (lw_A s) (tr_ws t a cI cJ cZ n pf ef gf tf af wf (wt_rfC n pf xf (xs (i + 1))) ts ++ mo_ws bm cI cJ cZ n pf ef gf tf af wf (wt_rfM n rf (xs (i + 1))) ts) := hD
          have hI := hI.refuse (xs (i + 1))
          refine lv_icmp_eq (tgt := 322) hx hb d_law_145 (by decide) (fun hc145 => ?_) (fun hc145 => ?_)
          · refine lv_iinc (k := 0) (v := (nI (i + 4))) (lv' := [(3, .int (nI (i + 4))), (2, .ref (bm 0)), (1, .ref t), (0, .ref b)]) hx hb d_law_322 hl rfl (wt_inc4 _) (by decide) rfl (fun ls hl => ?_)
            refine lv_goto (tgt := 18) hx hb d_law_325 (by decide) ?_
            have hl : lv_has ls 4 [(3, .int (nI (i + 4))), (2, .ref (bm 0)), (1, .ref t), (0, .ref b)] := lv_sub hl [0, 1, 2, 3] rfl
            exact ih (L - (i + 4)) (by omega) (i + 4) n pf ef gf tf af wf (wt_rfC n pf xf (xs (i + 1))) ts (wt_rfM n rf (xs (i + 1))) ls H locs rfl (by omega) hI hl hP hD hS
          · exact absurd hrr hc145
        · refine lv_tableIn (off := 118) (tgt := 150) hx hb d_law_32 (by decide +kernel) (by decide +kernel) (by decide +kernel) (by decide) ?_
          refine lv_aload_n hx hb d_law_150 rfl (lv_at hl 2 rfl) ?_
          refine ro_calli (ws := tr_ws t a cI cJ cZ n pf ef gf tf af wf xf ts ++ mo_ws bm cI cJ cZ n pf ef gf tf af wf rf ts) (va_runV (As := []) (rest := []) ⟨hx, hb, hml, hown, hts⟩ (c_T_best l D cI cJ cZ t a n pf ef gf tf af wf xf ts h1 hn) (wt_cwV 0 hts k_120 k_117 k_118 k_119 k_1 rfl rfl (by decide +kernel) ⟨Nat.le_of_ble_eq_true rfl, Nat.le_of_ble_eq_true rfl⟩) (ro_preV (q := (R_T, F_T, 1)) (ci := 0) hK (hP.sub (ws' := tr_ws t a cI cJ cZ n pf ef gf tf af wf xf ts) [0, 1, 2, 3, 4, 5, 6, 7, 8, 9] rfl) 0 rfl rfl) rfl rfl hl.1 rfl (lv_room (Nat.le_of_ble_eq_true rfl)) d_law_151 ⟨Nat.le_of_ble_eq_true rfl, Nat.le_of_ble_eq_true rfl⟩) hS hP (fun r H locs hr151 hP hS => ?_)
          subst hr151
          refine lv_aload_n hx hb d_law_154 rfl (lv_at hl 1 rfl) ?_
          refine ro_calli (ws := tr_ws t a cI cJ cZ n pf ef gf tf af wf xf ts ++ mo_ws bm cI cJ cZ n pf ef gf tf af wf rf ts) (va_runV (As := []) (rest := [.int (nI (wt_bt wf af xf (n - 1) 1 0))]) ⟨hx, hb, hml, hown, hts⟩ (c_M_best l D cI cJ cZ bm n pf ef gf tf af wf rf ts xf hT h1 hn hW) (wt_cwV 0 hts k_217 k_222 k_215 k_216 k_3 rfl rfl (by decide +kernel) ⟨Nat.le_of_ble_eq_true rfl, Nat.le_of_ble_eq_true rfl⟩) (ro_preV (q := (R_M, F_M, 9)) (ci := 2) hK (hP.sub (ws' := mo_ws bm cI cJ cZ n pf ef gf tf af wf rf ts) [10, 11, 12, 13, 14, 15, 16, 17, 18] rfl) 0 rfl rfl) rfl rfl hl.1 rfl (lv_room (Nat.le_of_ble_eq_true rfl)) d_law_155 ⟨Nat.le_of_ble_eq_true rfl, Nat.le_of_ble_eq_true rfl⟩) hS hP (fun r H locs hr155 hP hS => ?_)
          subst hr155
          refine lv_icmp_eq (tgt := 322) hx hb d_law_158 (by decide) (fun hc158 => ?_) (fun hc158 => ?_)
          · refine lv_iinc (k := 0) (v := (nI (i + 4))) (lv' := [(3, .int (nI (i + 4))), (2, .ref (bm 0)), (1, .ref t), (0, .ref b)]) hx hb d_law_322 hl rfl (wt_inc4 _) (by decide) rfl (fun ls hl => ?_)
            refine lv_goto (tgt := 18) hx hb d_law_325 (by decide) ?_
            have hl : lv_has ls 4 [(3, .int (nI (i + 4))), (2, .ref (bm 0)), (1, .ref t), (0, .ref b)] := lv_sub hl [0, 1, 2, 3] rfl
            exact ih (L - (i + 4)) (by omega) (i + 4) n pf ef gf tf af wf xf ts rf ls H locs rfl (by omega) hI hl hP hD hS
          · exact absurd rfl hc158
        · refine lv_tableIn (off := 131) (tgt := 163) hx hb d_law_32 (by decide +kernel) (by decide +kernel) (by decide +kernel) (by decide) ?_
          refine lv_aload_n hx hb d_law_163 rfl (lv_at hl 2 rfl) ?_
          refine lv_aload_n hx hb d_law_164 rfl (lv_at hl 3 rfl) ?_
          refine lv_iload_n hx hb d_law_165 rfl (lv_at hl 0 rfl) ?_
          refine lv_iconst (v := (nI 1)) hx hb d_law_166 (by decide +kernel) ?_
          refine wn_iadd hx hb d_law_167 ?_
          refine wn_sld (k := i + 1) hx hb hX hbl hbA hS (by omega) (by omega) d_law_168 ?_
          refine lv_aload_n hx hb d_law_169 rfl (lv_at hl 3 rfl) ?_
          refine lv_iload_n hx hb d_law_170 rfl (lv_at hl 0 rfl) ?_
          refine lv_iconst (v := (nI 2)) hx hb d_law_171 (by decide +kernel) ?_
          refine wn_iadd hx hb d_law_172 ?_
          refine wn_sld (k := i + 2) hx hb hX hbl hbA hS (by omega) (by omega) d_law_173 ?_
          refine ro_calli (ws := tr_ws t a cI cJ cZ n pf ef gf tf af wf xf ts ++ mo_ws bm cI cJ cZ n pf ef gf tf af wf rf ts) (va_runV (As := [.int (xs (i + 1)), .int (xs (i + 2))]) (rest := []) ⟨hx, hb, hml, hown, hts⟩ (c_T_fork l D cI cJ cZ t a n pf ef gf tf af wf xf ts (xs (i + 1)) (xs (i + 2)) hT h1 hn) (wt_cwV 2 hts k_124 k_121 k_122 k_123 k_1 rfl rfl (by decide +kernel) ⟨Nat.le_of_ble_eq_true rfl, Nat.le_of_ble_eq_true rfl⟩) (ro_preV (q := (R_T, F_T, 1)) (ci := 0) hK (hP.sub (ws' := tr_ws t a cI cJ cZ n pf ef gf tf af wf xf ts) [0, 1, 2, 3, 4, 5, 6, 7, 8, 9] rfl) 0 rfl rfl) rfl rfl hl.1 rfl (lv_room (Nat.le_of_ble_eq_true rfl)) d_law_174 ⟨Nat.le_of_ble_eq_true rfl, Nat.le_of_ble_eq_true rfl⟩) hS hP (fun r H locs hr174 hP hS => ?_)
          subst hr174
          refine lv_aload_n hx hb d_law_177 rfl (lv_at hl 1 rfl) ?_
          refine lv_aload_n hx hb d_law_178 rfl (lv_at hl 3 rfl) ?_
          refine lv_iload_n hx hb d_law_179 rfl (lv_at hl 0 rfl) ?_
          refine lv_iconst (v := (nI 1)) hx hb d_law_180 (by decide +kernel) ?_
          refine wn_iadd hx hb d_law_181 ?_
          refine wn_sld (k := i + 1) hx hb hX hbl hbA hS (by omega) (by omega) d_law_182 ?_
          refine lv_aload_n hx hb d_law_183 rfl (lv_at hl 3 rfl) ?_
          refine lv_iload_n hx hb d_law_184 rfl (lv_at hl 0 rfl) ?_
          refine lv_iconst (v := (nI 2)) hx hb d_law_185 (by decide +kernel) ?_
          refine wn_iadd hx hb d_law_186 ?_
          refine wn_sld (k := i + 2) hx hb hX hbl hbA hS (by omega) (by omega) d_law_187 ?_
          refine ro_calli (ws := tr_ws t a cI cJ cZ n pf ef gf tf af wf xf ts ++ mo_ws bm cI cJ cZ n pf ef gf tf af wf rf ts) (va_runV (As := [.int (xs (i + 1)), .int (xs (i + 2))]) (rest := [.int (wt_forkR n pf (xs (i + 1)) (xs (i + 2)))]) ⟨hx, hb, hml, hown, hts⟩ (c_M_fork l D cI cJ cZ bm n pf ef gf tf af wf rf ts (xs (i + 1)) (xs (i + 2)) hT hn) (wt_cwV 2 hts k_226 k_223 k_224 k_225 k_3 rfl rfl (by decide +kernel) ⟨Nat.le_of_ble_eq_true rfl, Nat.le_of_ble_eq_true rfl⟩) (ro_preV (q := (R_M, F_M, 9)) (ci := 2) hK (hP.sub (ws' := mo_ws bm cI cJ cZ n pf ef gf tf af wf rf ts) [10, 11, 12, 13, 14, 15, 16, 17, 18] rfl) 0 rfl rfl) rfl rfl hl.1 rfl (lv_room (Nat.le_of_ble_eq_true rfl)) d_law_188 ⟨Nat.le_of_ble_eq_true rfl, Nat.le_of_ble_eq_true rfl⟩) hS hP (fun r H locs hr188 hP hS => ?_)
          subst hr188
          refine lv_icmp_eq (tgt := 322) hx hb d_law_191 (by decide) (fun hc191 => ?_) (fun hc191 => ?_)
          · refine lv_iinc (k := 0) (v := (nI (i + 4))) (lv' := [(3, .int (nI (i + 4))), (2, .ref (bm 0)), (1, .ref t), (0, .ref b)]) hx hb d_law_322 hl rfl (wt_inc4 _) (by decide) rfl (fun ls hl => ?_)
            refine lv_goto (tgt := 18) hx hb d_law_325 (by decide) ?_
            have hl : lv_has ls 4 [(3, .int (nI (i + 4))), (2, .ref (bm 0)), (1, .ref t), (0, .ref b)] := lv_sub hl [0, 1, 2, 3] rfl
            exact ih (L - (i + 4)) (by omega) (i + 4) n pf ef gf tf af wf xf ts rf ls H locs rfl (by omega) hI hl hP hD hS
          · exact absurd rfl hc191
        · refine lv_tableIn (off := 164) (tgt := 196) hx hb d_law_32 (by decide +kernel) (by decide +kernel) (by decide +kernel) (by decide) ?_
          refine lv_aload_n hx hb d_law_196 rfl (lv_at hl 2 rfl) ?_
          refine lv_aload_n hx hb d_law_197 rfl (lv_at hl 3 rfl) ?_
          refine lv_iload_n hx hb d_law_198 rfl (lv_at hl 0 rfl) ?_
          refine lv_iconst (v := (nI 1)) hx hb d_law_199 (by decide +kernel) ?_
          refine wn_iadd hx hb d_law_200 ?_
          refine wn_sld (k := i + 1) hx hb hX hbl hbA hS (by omega) (by omega) d_law_201 ?_
          refine ro_calli (ws := tr_ws t a cI cJ cZ n pf ef gf tf af wf xf ts ++ mo_ws bm cI cJ cZ n pf ef gf tf af wf rf ts) (va_runV (As := [.int (xs (i + 1))]) (rest := []) ⟨hx, hb, hml, hown, hts⟩ (c_T_due l D cI cJ cZ t a n pf ef gf tf af wf xf ts (xs (i + 1)) hT hg h1 hn) (wt_cwV 1 hts k_132 k_129 k_130 k_131 k_1 rfl rfl (by decide +kernel) ⟨Nat.le_of_ble_eq_true rfl, Nat.le_of_ble_eq_true rfl⟩) (ro_preV (q := (R_T, F_T, 1)) (ci := 0) hK (hP.sub (ws' := tr_ws t a cI cJ cZ n pf ef gf tf af wf xf ts) [0, 1, 2, 3, 4, 5, 6, 7, 8, 9] rfl) 0 rfl rfl) rfl rfl hl.1 rfl (lv_room (Nat.le_of_ble_eq_true rfl)) d_law_202 ⟨Nat.le_of_ble_eq_true rfl, Nat.le_of_ble_eq_true rfl⟩) hS hP (fun r H locs hr202 hP hS => ?_)
          subst hr202
          refine lv_aload_n hx hb d_law_205 rfl (lv_at hl 1 rfl) ?_
          refine lv_aload_n hx hb d_law_206 rfl (lv_at hl 3 rfl) ?_
          refine lv_iload_n hx hb d_law_207 rfl (lv_at hl 0 rfl) ?_
          refine lv_iconst (v := (nI 1)) hx hb d_law_208 (by decide +kernel) ?_
          refine wn_iadd hx hb d_law_209 ?_
          refine wn_sld (k := i + 1) hx hb hX hbl hbA hS (by omega) (by omega) d_law_210 ?_
          refine ro_calli (ws := tr_ws t a cI cJ cZ n pf ef gf tf af wf xf ts ++ mo_ws bm cI cJ cZ n pf ef gf tf af wf rf ts) (va_runV (As := [.int (xs (i + 1))]) (rest := [.int (wt_dueR n pf ef gf tf (xs (i + 1)))]) ⟨hx, hb, hml, hown, hts⟩ (c_M_due l D cI cJ cZ bm n pf ef gf tf af wf rf ts (xs (i + 1)) hT hg hn) (wt_cwV 1 hts k_203 k_227 k_201 k_202 k_3 rfl rfl (by decide +kernel) ⟨Nat.le_of_ble_eq_true rfl, Nat.le_of_ble_eq_true rfl⟩) (ro_preV (q := (R_M, F_M, 9)) (ci := 2) hK (hP.sub (ws' := mo_ws bm cI cJ cZ n pf ef gf tf af wf rf ts) [10, 11, 12, 13, 14, 15, 16, 17, 18] rfl) 0 rfl rfl) rfl rfl hl.1 rfl (lv_room (Nat.le_of_ble_eq_true rfl)) d_law_211 ⟨Nat.le_of_ble_eq_true rfl, Nat.le_of_ble_eq_true rfl⟩) hS hP (fun r H locs hr211 hP hS => ?_)
          subst hr211
          refine lv_icmp_eq (tgt := 322) hx hb d_law_214 (by decide) (fun hc214 => ?_) (fun hc214 => ?_)
          · refine lv_iinc (k := 0) (v := (nI (i + 4))) (lv' := [(3, .int (nI (i + 4))), (2, .ref (bm 0)), (1, .ref t), (0, .ref b)]) hx hb d_law_322 hl rfl (wt_inc4 _) (by decide) rfl (fun ls hl => ?_)
            refine lv_goto (tgt := 18) hx hb d_law_325 (by decide) ?_
            have hl : lv_has ls 4 [(3, .int (nI (i + 4))), (2, .ref (bm 0)), (1, .ref t), (0, .ref b)] := lv_sub hl [0, 1, 2, 3] rfl
            exact ih (L - (i + 4)) (by omega) (i + 4) n pf ef gf tf af wf xf ts rf ls H locs rfl (by omega) hI hl hP hD hS
          · exact absurd rfl hc214
        · refine lv_tableIn (off := 187) (tgt := 219) hx hb d_law_32 (by decide +kernel) (by decide +kernel) (by decide +kernel) (by decide) ?_
          refine lv_aload_n hx hb d_law_219 rfl (lv_at hl 2 rfl) ?_
          refine lv_aload_n hx hb d_law_220 rfl (lv_at hl 3 rfl) ?_
          refine lv_iload_n hx hb d_law_221 rfl (lv_at hl 0 rfl) ?_
          refine lv_iconst (v := (nI 1)) hx hb d_law_222 (by decide +kernel) ?_
          refine wn_iadd hx hb d_law_223 ?_
          refine wn_sld (k := i + 1) hx hb hX hbl hbA hS (by omega) (by omega) d_law_224 ?_
          refine mu_calli (wc := tr_ws t a cI cJ cZ n pf ef gf tf af wf xf ts) (wr := mo_ws bm cI cJ cZ n pf ef gf tf af wf rf ts) (va_runV (As := [.int (xs (i + 1))]) (rest := []) ⟨hx, hb, hml, hown, hts⟩ (c_T_median l D cI cJ cZ t a n pf ef gf tf af wf xf ts _ (xs (i + 1)) hT h1 hn) (wt_cwV 1 hts k_137 k_134 k_135 k_136 k_1 rfl rfl (by decide +kernel) ⟨Nat.le_of_ble_eq_true rfl, Nat.le_of_ble_eq_true rfl⟩) (mn_preV (q := (R_T, F_T, 1)) (ci := 0) hK hN (hP.sub (ws' := tr_ws t a cI cJ cZ n pf ef gf tf af wf xf ts) [0, 1, 2, 3, 4, 5, 6, 7, 8, 9] rfl) (hD.sub (ws' := tr_ws t a cI cJ cZ n pf ef gf tf af wf xf ts) [0, 1, 2, 3, 4, 5, 6, 7, 8, 9] (by decide) rfl) 0 rfl rfl) rfl rfl hl.1 rfl (lv_room (Nat.le_of_ble_eq_true rfl)) d_law_225 ⟨Nat.le_of_ble_eq_true rfl, Nat.le_of_ble_eq_true rfl⟩) hS hA hP hD [0, 1, 2, 3, 4, 5, 6, 7, 8, 9] [10, 11, 12, 13, 14, 15, 16, 17, 18] rfl rfl (by decide) (by decide) (fun r1 u1 H locs hr225 hP hD hS => ?_)
          have hP : va_P D classes (mo_ws bm cI cJ cZ n pf ef gf tf af wf rf ts ++ tr_ws t a cI cJ cZ n pf ef gf tf af wf xf u1) H := hP
          have hD : va_D _ (mo_ws bm cI cJ cZ n pf ef gf tf af wf rf ts ++ tr_ws t a cI cJ cZ n pf ef gf tf af wf xf u1) := hD
          refine W.cs (cells' := 19) (slots' := 7201) rfl rfl ?_
          refine lv_aload_n hx hb d_law_228 rfl (lv_at hl 1 rfl) ?_
          refine lv_aload_n hx hb d_law_229 rfl (lv_at hl 3 rfl) ?_
          refine lv_iload_n hx hb d_law_230 rfl (lv_at hl 0 rfl) ?_
          refine lv_iconst (v := (nI 1)) hx hb d_law_231 (by decide +kernel) ?_
          refine wn_iadd hx hb d_law_232 ?_
          refine wn_sld (k := i + 1) hx hb hX hbl hbA hS (by omega) (by omega) d_law_233 ?_
          refine mu_calli (wc := mo_ws bm cI cJ cZ n pf ef gf tf af wf rf ts) (wr := tr_ws t a cI cJ cZ n pf ef gf tf af wf xf u1) (va_runV (As := [.int (xs (i + 1))]) (rest := [.int r1]) ⟨hx, hb, hml, hown, hts⟩ (c_M_median l D cI cJ cZ bm n pf ef gf tf af wf rf ts _ (xs (i + 1)) hT hn) (wt_cwV 1 hts k_199 k_228 k_197 k_198 k_3 rfl rfl (by decide +kernel) ⟨Nat.le_of_ble_eq_true rfl, Nat.le_of_ble_eq_true rfl⟩) (mu_preV (q := (R_M, F_M, 9)) (ci := 2) hK (hP.sub (ws' := mo_ws bm cI cJ cZ n pf ef gf tf af wf rf ts) [0, 1, 2, 3, 4, 5, 6, 7, 8] rfl) (hD.sub (ws' := mo_ws bm cI cJ cZ n pf ef gf tf af wf rf ts) [0, 1, 2, 3, 4, 5, 6, 7, 8] (by decide) rfl) 0 rfl rfl) rfl rfl hl.1 rfl (lv_room (Nat.le_of_ble_eq_true rfl)) d_law_234 ⟨Nat.le_of_ble_eq_true rfl, Nat.le_of_ble_eq_true rfl⟩) hS hA hP hD [0, 1, 2, 3, 4, 5, 6, 7, 8] [9, 10, 11, 12, 13, 14, 15, 16, 17, 18] rfl rfl (by decide) (by decide) (fun r2 u2 H locs hr234 hP hD hS => ?_)
          have hP : va_P D classes (tr_ws t a cI cJ cZ n pf ef gf tf af wf xf u1 ++ mo_ws bm cI cJ cZ n pf ef gf tf af wf rf u2) H := hP
          have hD : va_D _ (tr_ws t a cI cJ cZ n pf ef gf tf af wf xf u1 ++ mo_ws bm cI cJ cZ n pf ef gf tf af wf rf u2) := hD
          refine W.cs (cells' := 19) (slots' := 7201) rfl rfl ?_
          obtain ⟨hrr, hu⟩ := Prod.mk.inj (hr225.trans hr234.symm)
          rw [← hu] at hP hD
          have hP : va_P D classes (tr_ws t a cI cJ cZ n pf ef gf tf af wf xf u1 ++ mo_ws bm cI cJ cZ n pf ef gf tf af wf rf u1) H := hP
          have hD : va_D (lw_A s) (tr_ws t a cI cJ cZ n pf ef gf tf af wf xf u1 ++ mo_ws bm cI cJ cZ n pf ef gf tf af wf rf u1) := hD
          refine lv_icmp_eq (tgt := 322) hx hb d_law_237 (by decide) (fun hc237 => ?_) (fun hc237 => ?_)
          · refine lv_iinc (k := 0) (v := (nI (i + 4))) (lv' := [(3, .int (nI (i + 4))), (2, .ref (bm 0)), (1, .ref t), (0, .ref b)]) hx hb d_law_322 hl rfl (wt_inc4 _) (by decide) rfl (fun ls hl => ?_)
            refine lv_goto (tgt := 18) hx hb d_law_325 (by decide) ?_
            have hl : lv_has ls 4 [(3, .int (nI (i + 4))), (2, .ref (bm 0)), (1, .ref t), (0, .ref b)] := lv_sub hl [0, 1, 2, 3] rfl
            exact ih (L - (i + 4)) (by omega) (i + 4) n pf ef gf tf af wf xf u1 rf ls H locs rfl (by omega) hI hl hP hD hS
          · exact absurd hrr hc237
        · refine lv_tableIn (off := 210) (tgt := 242) hx hb d_law_32 (by decide +kernel) (by decide +kernel) (by decide +kernel) (by decide) ?_
          refine lv_aload_n hx hb d_law_242 rfl (lv_at hl 2 rfl) ?_
          refine lv_aload_n hx hb d_law_243 rfl (lv_at hl 3 rfl) ?_
          refine lv_iload_n hx hb d_law_244 rfl (lv_at hl 0 rfl) ?_
          refine lv_iconst (v := (nI 1)) hx hb d_law_245 (by decide +kernel) ?_
          refine wn_iadd hx hb d_law_246 ?_
          refine wn_sld (k := i + 1) hx hb hX hbl hbA hS (by omega) (by omega) d_law_247 ?_
          refine lv_aload_n hx hb d_law_248 rfl (lv_at hl 3 rfl) ?_
          refine lv_iload_n hx hb d_law_249 rfl (lv_at hl 0 rfl) ?_
          refine lv_iconst (v := (nI 2)) hx hb d_law_250 (by decide +kernel) ?_
          refine wn_iadd hx hb d_law_251 ?_
          refine wn_sld (k := i + 2) hx hb hX hbl hbA hS (by omega) (by omega) d_law_252 ?_
          refine ro_calli (ws := tr_ws t a cI cJ cZ n pf ef gf tf af wf xf ts ++ mo_ws bm cI cJ cZ n pf ef gf tf af wf rf ts) (va_runV (As := [.int (xs (i + 1)), .int (xs (i + 2))]) (rest := []) ⟨hx, hb, hml, hown, hts⟩ (c_T_ancestor l D cI cJ cZ t a n pf ef gf tf af wf xf ts (xs (i + 1)) (xs (i + 2)) hT h1 hn) (wt_cwV 2 hts k_141 k_138 k_139 k_140 k_1 rfl rfl (by decide +kernel) ⟨Nat.le_of_ble_eq_true rfl, Nat.le_of_ble_eq_true rfl⟩) (ro_preV (q := (R_T, F_T, 1)) (ci := 0) hK (hP.sub (ws' := tr_ws t a cI cJ cZ n pf ef gf tf af wf xf ts) [0, 1, 2, 3, 4, 5, 6, 7, 8, 9] rfl) 0 rfl rfl) rfl rfl hl.1 rfl (lv_room (Nat.le_of_ble_eq_true rfl)) d_law_253 ⟨Nat.le_of_ble_eq_true rfl, Nat.le_of_ble_eq_true rfl⟩) hS hP (fun r H locs hr253 hP hS => ?_)
          subst hr253
          refine lv_aload_n hx hb d_law_256 rfl (lv_at hl 1 rfl) ?_
          refine lv_aload_n hx hb d_law_257 rfl (lv_at hl 3 rfl) ?_
          refine lv_iload_n hx hb d_law_258 rfl (lv_at hl 0 rfl) ?_
          refine lv_iconst (v := (nI 1)) hx hb d_law_259 (by decide +kernel) ?_
          refine wn_iadd hx hb d_law_260 ?_
          refine wn_sld (k := i + 1) hx hb hX hbl hbA hS (by omega) (by omega) d_law_261 ?_
          refine lv_aload_n hx hb d_law_262 rfl (lv_at hl 3 rfl) ?_
          refine lv_iload_n hx hb d_law_263 rfl (lv_at hl 0 rfl) ?_
          refine lv_iconst (v := (nI 2)) hx hb d_law_264 (by decide +kernel) ?_
          refine wn_iadd hx hb d_law_265 ?_
          refine wn_sld (k := i + 2) hx hb hX hbl hbA hS (by omega) (by omega) d_law_266 ?_
          refine ro_calli (ws := tr_ws t a cI cJ cZ n pf ef gf tf af wf xf ts ++ mo_ws bm cI cJ cZ n pf ef gf tf af wf rf ts) (va_runV (As := [.int (xs (i + 1)), .int (xs (i + 2))]) (rest := [.int (wt_ancR n pf ef (xs (i + 1)) (xs (i + 2)))]) ⟨hx, hb, hml, hown, hts⟩ (c_M_ancestor l D cI cJ cZ bm n pf ef gf tf af wf rf ts (xs (i + 1)) (xs (i + 2)) hT hn) (wt_cwV 2 hts k_207 k_229 k_205 k_206 k_3 rfl rfl (by decide +kernel) ⟨Nat.le_of_ble_eq_true rfl, Nat.le_of_ble_eq_true rfl⟩) (ro_preV (q := (R_M, F_M, 9)) (ci := 2) hK (hP.sub (ws' := mo_ws bm cI cJ cZ n pf ef gf tf af wf rf ts) [10, 11, 12, 13, 14, 15, 16, 17, 18] rfl) 0 rfl rfl) rfl rfl hl.1 rfl (lv_room (Nat.le_of_ble_eq_true rfl)) d_law_267 ⟨Nat.le_of_ble_eq_true rfl, Nat.le_of_ble_eq_true rfl⟩) hS hP (fun r H locs hr267 hP hS => ?_)
          subst hr267
          refine lv_icmp_eq (tgt := 322) hx hb d_law_270 (by decide) (fun hc270 => ?_) (fun hc270 => ?_)
          · refine lv_iinc (k := 0) (v := (nI (i + 4))) (lv' := [(3, .int (nI (i + 4))), (2, .ref (bm 0)), (1, .ref t), (0, .ref b)]) hx hb d_law_322 hl rfl (wt_inc4 _) (by decide) rfl (fun ls hl => ?_)
            refine lv_goto (tgt := 18) hx hb d_law_325 (by decide) ?_
            have hl : lv_has ls 4 [(3, .int (nI (i + 4))), (2, .ref (bm 0)), (1, .ref t), (0, .ref b)] := lv_sub hl [0, 1, 2, 3] rfl
            exact ih (L - (i + 4)) (by omega) (i + 4) n pf ef gf tf af wf xf ts rf ls H locs rfl (by omega) hI hl hP hD hS
          · exact absurd rfl hc270
        · refine lv_tableIn (off := 243) (tgt := 275) hx hb d_law_32 (by decide +kernel) (by decide +kernel) (by decide +kernel) (by decide) ?_
          refine lv_aload_n hx hb d_law_275 rfl (lv_at hl 2 rfl) ?_
          refine lv_aload_n hx hb d_law_276 rfl (lv_at hl 3 rfl) ?_
          refine lv_iload_n hx hb d_law_277 rfl (lv_at hl 0 rfl) ?_
          refine lv_iconst (v := (nI 1)) hx hb d_law_278 (by decide +kernel) ?_
          refine wn_iadd hx hb d_law_279 ?_
          refine wn_sld (k := i + 1) hx hb hX hbl hbA hS (by omega) (by omega) d_law_280 ?_
          refine lv_aload_n hx hb d_law_281 rfl (lv_at hl 3 rfl) ?_
          refine lv_iload_n hx hb d_law_282 rfl (lv_at hl 0 rfl) ?_
          refine lv_iconst (v := (nI 2)) hx hb d_law_283 (by decide +kernel) ?_
          refine wn_iadd hx hb d_law_284 ?_
          refine wn_sld (k := i + 2) hx hb hX hbl hbA hS (by omega) (by omega) d_law_285 ?_
          refine ro_calll (ws := tr_ws t a cI cJ cZ n pf ef gf tf af wf xf ts ++ mo_ws bm cI cJ cZ n pf ef gf tf af wf rf ts) (va_runV (As := [.int (xs (i + 1)), .int (xs (i + 2))]) (rest := []) ⟨hx, hb, hml, hown, hts⟩ (c_T_look l D cI cJ cZ t a n pf ef gf tf af wf xf ts (xs (i + 1)) (xs (i + 2)) h1 hn) (wt_cwV 2 hts k_146 k_143 k_144 k_145 k_1 rfl rfl (by decide +kernel) ⟨Nat.le_of_ble_eq_true rfl, Nat.le_of_ble_eq_true rfl⟩) (ro_preV (q := (R_T, F_T, 1)) (ci := 0) hK (hP.sub (ws' := tr_ws t a cI cJ cZ n pf ef gf tf af wf xf ts) [0, 1, 2, 3, 4, 5, 6, 7, 8, 9] rfl) 0 rfl rfl) rfl rfl hl.1 rfl (lv_room (Nat.le_of_ble_eq_true rfl)) d_law_286 ⟨Nat.le_of_ble_eq_true rfl, Nat.le_of_ble_eq_true rfl⟩) hS hP (fun r H locs hr286 hP hS => ?_)
          subst hr286
          refine lv_aload_n hx hb d_law_289 rfl (lv_at hl 1 rfl) ?_
          refine lv_aload_n hx hb d_law_290 rfl (lv_at hl 3 rfl) ?_
          refine lv_iload_n hx hb d_law_291 rfl (lv_at hl 0 rfl) ?_
          refine lv_iconst (v := (nI 1)) hx hb d_law_292 (by decide +kernel) ?_
          refine wn_iadd hx hb d_law_293 ?_
          refine wn_sld (k := i + 1) hx hb hX hbl hbA hS (by omega) (by omega) d_law_294 ?_
          refine lv_aload_n hx hb d_law_295 rfl (lv_at hl 3 rfl) ?_
          refine lv_iload_n hx hb d_law_296 rfl (lv_at hl 0 rfl) ?_
          refine lv_iconst (v := (nI 2)) hx hb d_law_297 (by decide +kernel) ?_
          refine wn_iadd hx hb d_law_298 ?_
          refine wn_sld (k := i + 2) hx hb hX hbl hbA hS (by omega) (by omega) d_law_299 ?_
          refine ro_calll (ws := tr_ws t a cI cJ cZ n pf ef gf tf af wf xf ts ++ mo_ws bm cI cJ cZ n pf ef gf tf af wf rf ts) (va_runV (As := [.int (xs (i + 1)), .int (xs (i + 2))]) (rest := [.long (wt_lookR n pf ef gf tf wf xf (xs (i + 1)) (xs (i + 2)))]) ⟨hx, hb, hml, hown, hts⟩ (c_M_look l D cI cJ cZ bm n pf ef gf tf af wf rf ts xf (xs (i + 1)) (xs (i + 2)) hT hn hW) (wt_cwV 2 hts k_233 k_230 k_231 k_232 k_3 rfl rfl (by decide +kernel) ⟨Nat.le_of_ble_eq_true rfl, Nat.le_of_ble_eq_true rfl⟩) (ro_preV (q := (R_M, F_M, 9)) (ci := 2) hK (hP.sub (ws' := mo_ws bm cI cJ cZ n pf ef gf tf af wf rf ts) [10, 11, 12, 13, 14, 15, 16, 17, 18] rfl) 0 rfl rfl) rfl rfl hl.1 rfl (lv_room (Nat.le_of_ble_eq_true rfl)) d_law_300 ⟨Nat.le_of_ble_eq_true rfl, Nat.le_of_ble_eq_true rfl⟩) hS hP (fun r H locs hr300 hP hS => ?_)
          subst hr300
          refine W.lcmp hx hb d_law_303 ?_
          refine lv_if_eq (tgt := 322) hx hb d_law_304 (by decide) (fun hc304 => ?_) (fun hc304 => ?_)
          · refine lv_iinc (k := 0) (v := (nI (i + 4))) (lv' := [(3, .int (nI (i + 4))), (2, .ref (bm 0)), (1, .ref t), (0, .ref b)]) hx hb d_law_322 hl rfl (wt_inc4 _) (by decide) rfl (fun ls hl => ?_)
            refine lv_goto (tgt := 18) hx hb d_law_325 (by decide) ?_
            have hl : lv_has ls 4 [(3, .int (nI (i + 4))), (2, .ref (bm 0)), (1, .ref t), (0, .ref b)] := lv_sub hl [0, 1, 2, 3] rfl
            exact ih (L - (i + 4)) (by omega) (i + 4) n pf ef gf tf af wf xf ts rf ls H locs rfl (by omega) hI hl hP hD hS
          · exact absurd (wt_cmp0.mpr rfl) hc304
        · refine lv_tableIn (off := 277) (tgt := 309) hx hb d_law_32 (by decide +kernel) (by decide +kernel) (by decide +kernel) (by decide) ?_
          refine lv_aload_n hx hb d_law_309 rfl (lv_at hl 2 rfl) ?_
          refine ro_calli (ws := tr_ws t a cI cJ cZ n pf ef gf tf af wf xf ts ++ mo_ws bm cI cJ cZ n pf ef gf tf af wf rf ts) (va_runV (As := []) (rest := []) ⟨hx, hb, hml, hown, hts⟩ (c_T_blocks l D cI cJ cZ t a n pf ef gf tf af wf xf ts ) (wt_cwV 0 hts k_152 k_149 k_150 k_151 k_1 rfl rfl (by decide +kernel) ⟨Nat.le_of_ble_eq_true rfl, Nat.le_of_ble_eq_true rfl⟩) (ro_preV (q := (R_T, F_T, 1)) (ci := 0) hK (hP.sub (ws' := tr_ws t a cI cJ cZ n pf ef gf tf af wf xf ts) [0, 1, 2, 3, 4, 5, 6, 7, 8, 9] rfl) 0 rfl rfl) rfl rfl hl.1 rfl (lv_room (Nat.le_of_ble_eq_true rfl)) d_law_310 ⟨Nat.le_of_ble_eq_true rfl, Nat.le_of_ble_eq_true rfl⟩) hS hP (fun r H locs hr310 hP hS => ?_)
          subst hr310
          refine lv_aload_n hx hb d_law_313 rfl (lv_at hl 1 rfl) ?_
          refine ro_calli (ws := tr_ws t a cI cJ cZ n pf ef gf tf af wf xf ts ++ mo_ws bm cI cJ cZ n pf ef gf tf af wf rf ts) (va_runV (As := []) (rest := [.int (nI n)]) ⟨hx, hb, hml, hown, hts⟩ (c_M_blocks l D cI cJ cZ bm n pf ef gf tf af wf rf ts ) (wt_cwV 0 hts k_239 k_236 k_237 k_238 k_3 rfl rfl (by decide +kernel) ⟨Nat.le_of_ble_eq_true rfl, Nat.le_of_ble_eq_true rfl⟩) (ro_preV (q := (R_M, F_M, 9)) (ci := 2) hK (hP.sub (ws' := mo_ws bm cI cJ cZ n pf ef gf tf af wf rf ts) [10, 11, 12, 13, 14, 15, 16, 17, 18] rfl) 0 rfl rfl) rfl rfl hl.1 rfl (lv_room (Nat.le_of_ble_eq_true rfl)) d_law_314 ⟨Nat.le_of_ble_eq_true rfl, Nat.le_of_ble_eq_true rfl⟩) hS hP (fun r H locs hr314 hP hS => ?_)
          subst hr314
          refine lv_icmp_eq (tgt := 322) hx hb d_law_317 (by decide) (fun hc317 => ?_) (fun hc317 => ?_)
          · refine lv_iinc (k := 0) (v := (nI (i + 4))) (lv' := [(3, .int (nI (i + 4))), (2, .ref (bm 0)), (1, .ref t), (0, .ref b)]) hx hb d_law_322 hl rfl (wt_inc4 _) (by decide) rfl (fun ls hl => ?_)
            refine lv_goto (tgt := 18) hx hb d_law_325 (by decide) ?_
            have hl : lv_has ls 4 [(3, .int (nI (i + 4))), (2, .ref (bm 0)), (1, .ref t), (0, .ref b)] := lv_sub hl [0, 1, 2, 3] rfl
            exact ih (L - (i + 4)) (by omega) (i + 4) n pf ef gf tf af wf xf ts rf ls H locs rfl (by omega) hI hl hP hD hS
          · exact absurd rfl hc317
        · refine lv_tableOut (tgt := 322) hx hb d_law_32 (by decide +kernel) (by decide) ?_
          refine lv_iinc (k := 0) (v := (nI (i + 4))) (lv' := [(3, .int (nI (i + 4))), (2, .ref (bm 0)), (1, .ref t), (0, .ref b)]) hx hb d_law_322 hl rfl (wt_inc4 _) (by decide) rfl (fun ls hl => ?_)
          refine lv_goto (tgt := 18) hx hb d_law_325 (by decide) ?_
          have hl : lv_has ls 4 [(3, .int (nI (i + 4))), (2, .ref (bm 0)), (1, .ref t), (0, .ref b)] := lv_sub hl [0, 1, 2, 3] rfl
          exact ih (L - (i + 4)) (by omega) (i + 4) n pf ef gf tf af wf xf ts rf ls H locs rfl (by omega) hI hl hP hD hS
        · refine lv_tableOut (tgt := 322) hx hb d_law_32 (by decide +kernel) (by decide) ?_
          refine lv_iinc (k := 0) (v := (nI (i + 4))) (lv' := [(3, .int (nI (i + 4))), (2, .ref (bm 0)), (1, .ref t), (0, .ref b)]) hx hb d_law_322 hl rfl (wt_inc4 _) (by decide) rfl (fun ls hl => ?_)
          refine lv_goto (tgt := 18) hx hb d_law_325 (by decide) ?_
          have hl : lv_has ls 4 [(3, .int (nI (i + 4))), (2, .ref (bm 0)), (1, .ref t), (0, .ref b)] := lv_sub hl [0, 1, 2, 3] rfl
          exact ih (L - (i + 4)) (by omega) (i + 4) n pf ef gf tf af wf xf ts rf ls H locs rfl (by omega) hI hl hP hD hS
        · refine lv_tableOut (tgt := 322) hx hb d_law_32 (by decide +kernel) (by decide) ?_
          refine lv_iinc (k := 0) (v := (nI (i + 4))) (lv' := [(3, .int (nI (i + 4))), (2, .ref (bm 0)), (1, .ref t), (0, .ref b)]) hx hb d_law_322 hl rfl (wt_inc4 _) (by decide) rfl (fun ls hl => ?_)
          refine lv_goto (tgt := 18) hx hb d_law_325 (by decide) ?_
          have hl : lv_has ls 4 [(3, .int (nI (i + 4))), (2, .ref (bm 0)), (1, .ref t), (0, .ref b)] := lv_sub hl [0, 1, 2, 3] rfl
          exact ih (L - (i + 4)) (by omega) (i + 4) n pf ef gf tf af wf xf ts rf ls H locs rfl (by omega) hI hl hP hD hS
        · refine lv_tableOut (tgt := 322) hx hb d_law_32 (by decide +kernel) (by decide) ?_
          refine lv_iinc (k := 0) (v := (nI (i + 4))) (lv' := [(3, .int (nI (i + 4))), (2, .ref (bm 0)), (1, .ref t), (0, .ref b)]) hx hb d_law_322 hl rfl (wt_inc4 _) (by decide) rfl (fun ls hl => ?_)
          refine lv_goto (tgt := 18) hx hb d_law_325 (by decide) ?_
          have hl : lv_has ls 4 [(3, .int (nI (i + 4))), (2, .ref (bm 0)), (1, .ref t), (0, .ref b)] := lv_sub hl [0, 1, 2, 3] rfl
          exact ih (L - (i + 4)) (by omega) (i + 4) n pf ef gf tf af wf xf ts rf ls H locs rfl (by omega) hI hl hP hD hS
        · refine lv_tableOut (tgt := 322) hx hb d_law_32 (by decide +kernel) (by decide) ?_
          refine lv_iinc (k := 0) (v := (nI (i + 4))) (lv' := [(3, .int (nI (i + 4))), (2, .ref (bm 0)), (1, .ref t), (0, .ref b)]) hx hb d_law_322 hl rfl (wt_inc4 _) (by decide) rfl (fun ls hl => ?_)
          refine lv_goto (tgt := 18) hx hb d_law_325 (by decide) ?_
          have hl : lv_has ls 4 [(3, .int (nI (i + 4))), (2, .ref (bm 0)), (1, .ref t), (0, .ref b)] := lv_sub hl [0, 1, 2, 3] rfl
          exact ih (L - (i + 4)) (by omega) (i + 4) n pf ef gf tf af wf xf ts rf ls H locs rfl (by omega) hI hl hP hD hS
        · refine lv_tableOut (tgt := 322) hx hb d_law_32 (by decide +kernel) (by decide) ?_
          refine lv_iinc (k := 0) (v := (nI (i + 4))) (lv' := [(3, .int (nI (i + 4))), (2, .ref (bm 0)), (1, .ref t), (0, .ref b)]) hx hb d_law_322 hl rfl (wt_inc4 _) (by decide) rfl (fun ls hl => ?_)
          refine lv_goto (tgt := 18) hx hb d_law_325 (by decide) ?_
          have hl : lv_has ls 4 [(3, .int (nI (i + 4))), (2, .ref (bm 0)), (1, .ref t), (0, .ref b)] := lv_sub hl [0, 1, 2, 3] rfl
          exact ih (L - (i + 4)) (by omega) (i + 4) n pf ef gf tf af wf xf ts rf ls H locs rfl (by omega) hI hl hP hD hS
        · refine lv_tableOut (tgt := 322) hx hb d_law_32 (by decide +kernel) (by decide) ?_
          refine lv_iinc (k := 0) (v := (nI (i + 4))) (lv' := [(3, .int (nI (i + 4))), (2, .ref (bm 0)), (1, .ref t), (0, .ref b)]) hx hb d_law_322 hl rfl (wt_inc4 _) (by decide) rfl (fun ls hl => ?_)
          refine lv_goto (tgt := 18) hx hb d_law_325 (by decide) ?_
          have hl : lv_has ls 4 [(3, .int (nI (i + 4))), (2, .ref (bm 0)), (1, .ref t), (0, .ref b)] := lv_sub hl [0, 1, 2, 3] rfl
          exact ih (L - (i + 4)) (by omega) (i + 4) n pf ef gf tf af wf xf ts rf ls H locs rfl (by omega) hI hl hP hD hS
  have hl : lv_has ls 4 [(3, .int (nI 0)), (2, .ref (bm 0)), (1, .ref t), (0, .ref b)] := lv_sub hl [0, 1, 2, 3] rfl
  exact loop (L - 0) 0 1 (fun _ => 0) (fun _ => 0) (va_up (fun _ => 0) 0 32768) (fun _ => 0) (fun _ => 0) (fun _ => 0) (fun _ => false) (fun _ => 0) (fun _ => false) ls H locs rfl (by omega) Inv.start hl hP hD hS
end
section
set_option maxHeartbeats 4000000 in
theorem lw_walk (l : Launch) (b : Addr) (xs : List Int32) : MetFree l x (headSpec (Jvm.Cond.code x code maxLocals ret :: tables_1) room_1) (lw_P b xs) (fun _ _ _ _ _ => True) lw_Q := by
  refine MetFree.of_bodyS (code := code) (maxLocals := maxLocals) (ret := ret) (by decide) ?_ ?_
  · intro args s m h hn
    obtain ⟨meth, c, h1, h2, h3, h4, h5, h6, -, -⟩ := Cond.code_spec hn (atoms_spec (ws := Jvm.Cond.code x code maxLocals ret :: tables_1) h _ List.mem_cons_self)
    exact ⟨meth, c, h1, h2, h3, h4, h5, h6⟩
  · intro p e s m args below meth c s₁ B hml0 hP _
    obtain ⟨rfl, hx, hbd, hgv⟩ := hP
    obtain ⟨scr, harrAt, hlist, hof, hsmall⟩ := hx
    obtain ⟨hcb, hkn, -, -⟩ := State.arrayAt?_spec harrAt
    have hown : s.vm.findClass R_law = some m.cls := findClass_of_methodNamed B.named
    have hts0 : ∀ c ∈ (Jvm.Cond.code x code maxLocals ret :: tables_1), c.before #[Value.ref b] s = true := atoms_spec (ws := Jvm.Cond.code x code maxLocals ret :: tables_1) B.pre
    have hts : ∀ w ∈ lw_tbl, w.before #[Value.ref b] s = true := k2_hts_sels lw_privs (fun w hw => hts0 w (List.mem_cons_of_mem _ hw)) lw_privs_ok
    have hml : c.maxLocals = 4 := B.maxLocals_eq (hts0 _ List.mem_cons_self)
    have X₀ : Stand p l e room_1 s m #[Value.ref b] below meth c s₁ [] 0 0 := Stand.of_body B
    have hh0 : s₁.heap = s.heap := by rw [B.state]; rfl
    have hsz : scr.slots.size = xs.length := by rw [← Array.length_toList, hlist, List.length_map]
    have hval : ∀ j : Nat, j < xs.length → scr.slots[j]? = some (.int (xs.getD j 0)) := fun j hj => by
      rw [← Array.getElem?_toList, hlist]
      simp [hj]
    have hbl : b < s.heap.size := (Array.getElem?_eq_some_iff.mp hcb).1
    have hX : va_X b xs.length (fun j => xs.getD j 0) s s.heap := ⟨scr, hcb, hof, hkn, hsz, hval⟩
    have K : W p l e room_1 s m #[Value.ref b] below meth c s₁.heap [] 0 0 (lw_Z below #[Value.ref b] s) (entryFrame m ([Value.ref b] : List Value).toArray 4) := by
      rw [hh0]
      exact whole_start l hbd ⟨B.exec, B.bytes, B.returns, hml, hown, hts, hX, hbl, B.notSynchronized, hgv⟩
    obtain ⟨t, a1, o, b1, b2, b3⟩ := K s₁ rfl X₀
    exact ⟨t, o, a1, b1, b2, b3⟩
theorem lw_pre_spec {args : Array Value} {s : State} (h : (Jvm.Cond.and given_1 narrow_1).before args s = true) (hr : rest_1_c.before args s = true) : ∃ (b : Addr) (xs : List Int32), lw_P b xs args s := by
  have hs := flat_of_before _ h
  have hq := flat_of_before _ hr
  have hc : (Cond.count 1).before args s = true := hs _ (by decide +kernel)
  have harr : (Cond.arrayOf (.arg 0) .int).before args s = true := hs _ (by decide +kernel)
  have hle : (Cond.le (.length (.arg 0)) (.int 2048)).before args s = true := hs _ (by decide +kernel)
  have hlen : (Cond.isInt (.length (.arg 0))).before args s = true := hq _ (by decide +kernel)
  have hall : (Cond.all (.arg 0) (.isInt (.elem (.arg 0) (.index 0)))).before args s = true := hq _ (by decide +kernel)
  obtain ⟨b, xs, hb, hx⟩ := State.ints_of_pre rfl harr hlen hall
  have hsm : xs.length < 2 ^ 31 := hx.choose_spec.2.2.2
  have hev : (Term.length (.arg 0)).eval args s none [] s = some (.int xs.length.toInt32) := hx.length_eval hb
  have hv := Cond.le_ints hev (show (Term.int 2048).eval args s none [] s = some (.int 2048) from rfl)
  have hd : xs.length.toInt32 ≤ 2048 := by
    simpa [Cond.before, Cond.holds, hv] using hle
  have hN : xs.length ≤ 2048 := (Int32.ofNat_le_ofNat hsm (by decide)).mp (show Int32.ofNat xs.length ≤ Int32.ofNat 2048 from hd)
  exact ⟨b, xs, Cond.one_arg hc (show args[0]? = some (.ref b) from hb), hx, hN, h⟩
theorem lw_comes (l : Launch) : Comes l x (Jvm.Cond.code x code maxLocals ret :: tables_1) room_1 (fun tb e args s => Calls_1 tb e args s ∧ rest_1 tb e args s ∧ Pre_1 tb e args s)
    (fun _ _ args s o t => lw_Q args s o t) := by
  intro p e ha hc hk s m args below hf hfit hheap happ hpre
  obtain ⟨b, xs, hP⟩ := lw_pre_spec hpre.2.2 hpre.2.1
  obtain ⟨k, o, h1, h2, h3, hQ⟩ := lw_walk l b xs p e ha hc hk s m args below hf ((Spec.applies_iff_loose hf).mp happ).1 hP trivial
  exact ⟨k, o, h1, h2, h3, hQ⟩
theorem lw_frame {s t : State} {o : Outcome} {args : Array Value} (h : Framed s o t [] 19 7201) :
    Framed s o t (fieldLocs frame_1_writes args s ++ arrayLocs frame_1_arrays args s ++ staticLocs frame_1_statics s) 19 7201 := h
theorem lw_limb (L : Cond) (hL : ∀ (args : Array Value) (s t : State), L.after args s (.returned (some (.int 1))) t = true) :
    ArmFor flags0 classFile x code maxLocals ret World_1 tables_1 room_1 Calls_1 rest_1 Pre_1
      (fun tb e a s o t => postC L tb e a s o t ∧ Framed s o t (fieldLocs frame_1_writes a s ++ arrayLocs frame_1_arrays a s ++ staticLocs frame_1_statics s) 19 7201) := by
  intro l _ _ _ p e ha hc hk s m args below hf hfit hheap happ hpre
  obtain ⟨k, o, h1, h2, h3, rfl, hF⟩ := lw_comes l p e ha hc hk s m args below hf hfit hheap happ hpre
  exact ⟨k, _, h1, h2, h3, hL args s _, lw_frame hF⟩
theorem i_vc : Claimed_1_1 ∧ Claimed_1_2 := ⟨lw_limb limb_1_1 (fun args s t => by simp [limb_1_1, Cond.after, Cond.holds, Cond.value]), lw_limb limb_1_2 (fun args s t => Cond.after_iff.mpr (by
  first | (rw [show limb_1_2 = Cond.eq .result (.int 1) from rfl, Cond.eq_ints (x := 1) (y := 1) rfl rfl]; simp; done) | (simp [limb_1_2, Cond.value, Term.eval]; done)))⟩
end
