section
-- ===== PART A: goes FIRST, ahead of the names: the tables' words, and 'selects' of the private methods out of them =====
/-- a private method of a class that the tables say can be made, by its rows of tables_1 -/
def lw_okq (q : MethodName × Nat) : Prop := (q.1.cls ≠ "java/lang/invoke/MethodHandle" ∧ q.1.cls ≠ "java/lang/invoke/VarHandle") ∧ Cond.instantiable q.1.cls q.2 ∈ tables_1 ∧ Cond.privateMethod q.1 ∈ tables_1 ∧ Cond.instanceMethod q.1 ∈ tables_1
theorem lw_p0 : lw_okq (⟨"java/util/StringTokenizer", "setMaxDelimCodePoint", "()V"⟩, 10) := ⟨⟨by decide +kernel, by decide +kernel⟩, List.mem_of_getElem? (i := 56) (by decide +kernel), List.mem_of_getElem? (i := 73) (by decide +kernel), List.mem_of_getElem? (i := 74) (by decide +kernel)⟩
theorem lw_p1 : lw_okq (⟨"java/util/StringTokenizer", "skipDelimiters", "(I)I"⟩, 10) := ⟨⟨by decide +kernel, by decide +kernel⟩, List.mem_of_getElem? (i := 56) (by decide +kernel), List.mem_of_getElem? (i := 356) (by decide +kernel), List.mem_of_getElem? (i := 357) (by decide +kernel)⟩
theorem lw_p2 : lw_okq (⟨"java/util/StringTokenizer", "isDelimiter", "(I)Z"⟩, 10) := ⟨⟨by decide +kernel, by decide +kernel⟩, List.mem_of_getElem? (i := 56) (by decide +kernel), List.mem_of_getElem? (i := 414) (by decide +kernel), List.mem_of_getElem? (i := 415) (by decide +kernel)⟩
theorem lw_p3 : lw_okq (⟨"java/util/StringTokenizer", "scanToken", "(I)I"⟩, 10) := ⟨⟨by decide +kernel, by decide +kernel⟩, List.mem_of_getElem? (i := 56) (by decide +kernel), List.mem_of_getElem? (i := 426) (by decide +kernel), List.mem_of_getElem? (i := 427) (by decide +kernel)⟩
def lw_privs_1 : List (MethodName × Nat) := [(⟨"java/util/StringTokenizer", "setMaxDelimCodePoint", "()V"⟩, 10), (⟨"java/util/StringTokenizer", "skipDelimiters", "(I)I"⟩, 10), (⟨"java/util/StringTokenizer", "isDelimiter", "(I)Z"⟩, 10), (⟨"java/util/StringTokenizer", "scanToken", "(I)I"⟩, 10)]
theorem lw_r1 : ∀ q ∈ lw_privs_1, lw_okq q := List.forall_mem_cons.mpr ⟨lw_p0, List.forall_mem_cons.mpr ⟨lw_p1, List.forall_mem_cons.mpr ⟨lw_p2, List.forall_mem_cons.mpr ⟨lw_p3, fun _ h => absurd h List.not_mem_nil⟩⟩⟩⟩
def lw_privs : List (MethodName × Nat) := lw_privs_1
def lw_tbl : List Cond := k2_sels lw_privs ++ tables_1
theorem lw_privs_ok : ∀ q ∈ lw_privs, lw_okq q := lw_r1
/-- a private method of a superclass, called on an object of a class below it: the call goes to it -/
theorem sx_selects {y : MethodName} {C : String} {s : State} {args : Array Value} {n : Nat} (hy : y.cls ≠ "java/lang/invoke/MethodHandle" ∧ y.cls ≠ "java/lang/invoke/VarHandle")
    (hins : (Cond.instantiable C n).before args s = true) (hsame : (Cond.sameMethod y.cls y.cls y.name y.desc).before args s = true) (hpriv : (Cond.privateMethod y).before args s = true) (hinst : (Cond.instanceMethod y).before args s = true) :
    (Cond.selects C y y).before args s = true := by
  obtain ⟨c, k, hc, hk, -, -, -, -⟩ := Cond.instantiable_spec hins
  obtain ⟨mk, methM, hnamed, hmethM, -, -⟩ := Cond.instanceMethod_spec hinst
  have hfound : s.methodFound? y.cls y.name y.desc = some mk := State.methodFound?_of_named hnamed hy
  obtain ⟨cn, ck, r1, hcn, hck, hni, hf, hn1⟩ := Cond.sameMethod_found hsame
  have hcls : mk.cls = cn := Option.some.inj ((findClass_of_methodNamed hnamed).symm.trans hcn)
  have hsel : selectMethod {} s.vm c mk = .method mk := selectMethod_private hmethM (Cond.privateMethod_at hpriv mk methM hnamed hmethM)
  simp only [Cond.before, Cond.holds, Cond.value, hc, hfound, hnamed, hsel, hcls, hck]
  simp; exact hni
def y_ASB_ensure : MethodName := ⟨"java/lang/AbstractStringBuilder", "ensureCapacityInternal", "(I)V"⟩
def y_ASB_newCap : MethodName := ⟨"java/lang/AbstractStringBuilder", "newCapacity", "(I)I"⟩
def y_ASB_putStr : MethodName := ⟨"java/lang/AbstractStringBuilder", "putStringAt", "(ILjava/lang/String;)V"⟩
def y_ASB_infl : MethodName := ⟨"java/lang/AbstractStringBuilder", "inflateIfNeededFor", "(Ljava/lang/String;)V"⟩
def sx_sels : List Cond := [Cond.selects "java/lang/StringBuilder" y_ASB_ensure y_ASB_ensure, Cond.selects "java/lang/StringBuilder" y_ASB_newCap y_ASB_newCap, Cond.selects "java/lang/StringBuilder" y_ASB_putStr y_ASB_putStr, Cond.selects "java/lang/StringBuilder" y_ASB_infl y_ASB_infl]
def sx_isArr : Cond → Bool
  | .arrayClass _ => true
  | _ => false
def sx_ok (w : Cond) : Bool := (w.onTables && w.keeps) || sx_isArr w
def tb0 : List Cond := sx_sels ++ lw_tbl
/-- all the words that a method of this system may ask -/
def tb : List Cond := tb0.filter sx_ok
theorem tb_i {w : Cond} (i : Nat) (h : tb0[i]? = some w) (hk : sx_ok w = true) : w ∈ tb := List.mem_filter.mpr ⟨List.mem_of_getElem? h, hk⟩
theorem tb_good : ∀ w ∈ tb, (w.onTables && w.keeps) = true ∨ ∃ ty, w = .arrayClass ty := by
  intro w hw
  have h : ((w.onTables && w.keeps) || sx_isArr w) = true := (List.mem_filter.mp hw).2
  rcases Bool.or_eq_true _ _ ▸ h with h | h
  · exact Or.inl h
  · cases w <;> first | (simp [sx_isArr] at h; done) | exact Or.inr ⟨_, rfl⟩
theorem k_0 : Cond.initialized "TokenDrillLaw" ∈ tb := tb_i 8 (by decide +kernel) rfl
theorem k_1 : Cond.initialized "TokenDrill" ∈ tb := tb_i 9 (by decide +kernel) rfl
theorem k_2 : Cond.initialized "java/lang/AbstractStringBuilder" ∈ tb := tb_i 10 (by decide +kernel) rfl
theorem k_3 : Cond.initialized "java/lang/StringBuilder" ∈ tb := tb_i 11 (by decide +kernel) rfl
theorem k_4 : Cond.initialized "java/lang/String" ∈ tb := tb_i 12 (by decide +kernel) rfl
theorem k_6 : Cond.initialized "java/util/StringTokenizer" ∈ tb := tb_i 14 (by decide +kernel) rfl
theorem k_7 : Cond.initialized "java/lang/StringLatin1" ∈ tb := tb_i 15 (by decide +kernel) rfl
theorem k_8 : Cond.initialized "jdk/internal/util/Preconditions" ∈ tb := tb_i 16 (by decide +kernel) rfl
theorem k_9 : Cond.initialized "java/lang/Character" ∈ tb := tb_i 17 (by decide +kernel) rfl
theorem k_10 : Cond.initialized "jdk/internal/util/ArraysSupport" ∈ tb := tb_i 18 (by decide +kernel) rfl
theorem k_11 : Cond.initialized "java/lang/Math" ∈ tb := tb_i 19 (by decide +kernel) rfl
theorem k_12 : Cond.initialized "java/util/Arrays" ∈ tb := tb_i 20 (by decide +kernel) rfl
theorem k_13 : Cond.initialized "java/lang/System" ∈ tb := tb_i 21 (by decide +kernel) rfl
theorem k_14 : Cond.classLink "TokenDrillLaw" (26 : Nat) "TokenDrill" ∈ tb := tb_i 22 (by decide +kernel) rfl
theorem k_15 : Cond.instantiable "TokenDrill" (2 : Nat) ∈ tb := tb_i 23 (by decide +kernel) rfl
theorem k_16 : Cond.methodLink "TokenDrillLaw" (28 : Nat) ({ cls := "TokenDrill", name := "<init>", desc := "()V" } : MethodName) ∈ tb := tb_i 24 (by decide +kernel) rfl
theorem k_17 : Cond.instanceMethod ({ cls := "TokenDrill", name := "<init>", desc := "()V" } : MethodName) ∈ tb := tb_i 25 (by decide +kernel) rfl
set_option maxRecDepth 20000 in
theorem k_18 : Cond.code ({ cls := "TokenDrill", name := "<init>", desc := "()V" } : MethodName) prog_1_method_1_code (1 : Nat) (Option.none : Option FieldType) ∈ tb := tb_i 26 rfl rfl
theorem k_19 : Cond.methodLink "TokenDrill" (1 : Nat) ({ cls := "java/lang/Object", name := "<init>", desc := "()V" } : MethodName) ∈ tb := tb_i 27 (by decide +kernel) rfl
theorem k_20 : Cond.instanceMethod ({ cls := "java/lang/Object", name := "<init>", desc := "()V" } : MethodName) ∈ tb := tb_i 28 (by decide +kernel) rfl
set_option maxRecDepth 20000 in
theorem k_21 : Cond.code ({ cls := "java/lang/Object", name := "<init>", desc := "()V" } : MethodName) object_method_1_code (1 : Nat) (Option.none : Option FieldType) ∈ tb := tb_i 29 rfl rfl
theorem k_22 : Cond.classLink "TokenDrill" (7 : Nat) "java/lang/StringBuilder" ∈ tb := tb_i 30 (by decide +kernel) rfl
theorem k_23 : Cond.instantiable "java/lang/StringBuilder" (4 : Nat) ∈ tb := tb_i 31 (by decide +kernel) rfl
theorem k_24 : Cond.methodLink "TokenDrill" (9 : Nat) ({ cls := "java/lang/StringBuilder", name := "<init>", desc := "()V" } : MethodName) ∈ tb := tb_i 32 (by decide +kernel) rfl
theorem k_25 : Cond.instanceMethod ({ cls := "java/lang/StringBuilder", name := "<init>", desc := "()V" } : MethodName) ∈ tb := tb_i 33 (by decide +kernel) rfl
set_option maxRecDepth 20000 in
theorem k_26 : Cond.code ({ cls := "java/lang/StringBuilder", name := "<init>", desc := "()V" } : MethodName) prog_8_method_1_code (1 : Nat) (Option.none : Option FieldType) ∈ tb := tb_i 34 rfl rfl
theorem k_27 : Cond.methodLink "java/lang/StringBuilder" (1 : Nat) ({ cls := "java/lang/AbstractStringBuilder", name := "<init>", desc := "(I)V" } : MethodName) ∈ tb := tb_i 35 (by decide +kernel) rfl
theorem k_28 : Cond.instanceMethod ({ cls := "java/lang/AbstractStringBuilder", name := "<init>", desc := "(I)V" } : MethodName) ∈ tb := tb_i 36 (by decide +kernel) rfl
set_option maxRecDepth 20000 in
theorem k_29 : Cond.code ({ cls := "java/lang/AbstractStringBuilder", name := "<init>", desc := "(I)V" } : MethodName) prog_3_method_2_code (2 : Nat) (Option.none : Option FieldType) ∈ tb := tb_i 37 rfl rfl
theorem k_30 : Cond.methodLink "java/lang/AbstractStringBuilder" (3 : Nat) ({ cls := "java/lang/Object", name := "<init>", desc := "()V" } : MethodName) ∈ tb := tb_i 38 (by decide +kernel) rfl
theorem k_31 : Cond.fieldLink "java/lang/AbstractStringBuilder" (18 : Nat) "java/lang/String" "COMPACT_STRINGS" "Z" ∈ tb := tb_i 39 (by decide +kernel) rfl
theorem k_40 : Cond.fieldLink "java/lang/AbstractStringBuilder" (15 : Nat) "java/lang/AbstractStringBuilder" "value" "[B" ∈ tb := tb_i 48 (by decide +kernel) rfl
theorem k_41 : Cond.fieldLink "java/lang/AbstractStringBuilder" (22 : Nat) "java/lang/AbstractStringBuilder" "coder" "B" ∈ tb := tb_i 49 (by decide +kernel) rfl
theorem k_42 : Cond.fieldLink "java/lang/AbstractStringBuilder" (73 : Nat) "java/lang/AbstractStringBuilder" "maybeLatin1" "Z" ∈ tb := tb_i 50 (by decide +kernel) rfl
theorem k_43 : Cond.fieldLink "java/lang/String" (1048 : Nat) "java/lang/AbstractStringBuilder" "maybeLatin1" "Z" ∈ tb := tb_i 51 (by decide +kernel) rfl
theorem k_44 : Cond.fieldLink "java/lang/AbstractStringBuilder" (79 : Nat) "java/lang/AbstractStringBuilder" "count" "I" ∈ tb := tb_i 52 (by decide +kernel) rfl
theorem k_45 : Cond.lays "java/lang/StringBuilder" "java/lang/AbstractStringBuilder" "value" "[B" ∈ tb := tb_i 53 (by decide +kernel) rfl
theorem k_47 : Cond.lays "java/lang/StringBuilder" "java/lang/AbstractStringBuilder" "coder" "B" ∈ tb := tb_i 55 (by decide +kernel) rfl
theorem k_49 : Cond.lays "java/lang/StringBuilder" "java/lang/AbstractStringBuilder" "maybeLatin1" "Z" ∈ tb := tb_i 57 (by decide +kernel) rfl
theorem k_51 : Cond.lays "java/lang/StringBuilder" "java/lang/AbstractStringBuilder" "count" "I" ∈ tb := tb_i 59 (by decide +kernel) rfl
theorem k_53 : Cond.superclass "java/lang/StringBuilder" "java/lang/AbstractStringBuilder" ∈ tb := tb_i 61 (by decide +kernel) rfl
theorem k_54 : Cond.arrayClass FieldType.byte ∈ tb := tb_i 62 (by decide +kernel) rfl
theorem k_55 : Cond.classLink "TokenDrill" (16 : Nat) "java/util/StringTokenizer" ∈ tb := tb_i 63 (by decide +kernel) rfl
theorem k_56 : Cond.instantiable "java/util/StringTokenizer" (10 : Nat) ∈ tb := tb_i 64 (by decide +kernel) rfl
theorem k_59 : Cond.methodLink "TokenDrill" (22 : Nat) ({ cls := "java/util/StringTokenizer", name := "<init>", desc := "(Ljava/lang/String;Ljava/lang/String;Z)V" } : MethodName) ∈ tb := tb_i 67 (by decide +kernel) rfl
theorem k_60 : Cond.instanceMethod ({ cls := "java/util/StringTokenizer", name := "<init>", desc := "(Ljava/lang/String;Ljava/lang/String;Z)V" } : MethodName) ∈ tb := tb_i 68 (by decide +kernel) rfl
set_option maxRecDepth 20000 in
theorem k_61 : Cond.code ({ cls := "java/util/StringTokenizer", name := "<init>", desc := "(Ljava/lang/String;Ljava/lang/String;Z)V" } : MethodName) prog_13_method_2_code (4 : Nat) (Option.none : Option FieldType) ∈ tb := tb_i 69 rfl rfl
theorem k_62 : Cond.methodLink "java/util/StringTokenizer" (40 : Nat) ({ cls := "java/lang/Object", name := "<init>", desc := "()V" } : MethodName) ∈ tb := tb_i 70 (by decide +kernel) rfl
theorem k_63 : Cond.methodLink "java/util/StringTokenizer" (11 : Nat) ({ cls := "java/lang/String", name := "length", desc := "()I" } : MethodName) ∈ tb := tb_i 71 (by decide +kernel) rfl
theorem k_64 : Cond.instanceMethod ({ cls := "java/lang/String", name := "length", desc := "()I" } : MethodName) ∈ tb := tb_i 72 (by decide +kernel) rfl
theorem k_65 : Cond.selects "java/lang/String" ({ cls := "java/lang/String", name := "length", desc := "()I" } : MethodName) ({ cls := "java/lang/String", name := "length", desc := "()I" } : MethodName) ∈ tb := tb_i 73 (by decide +kernel) rfl
set_option maxRecDepth 20000 in
theorem k_66 : Cond.code ({ cls := "java/lang/String", name := "length", desc := "()I" } : MethodName) prog_7_method_54_code (1 : Nat) (Option.some FieldType.int) ∈ tb := tb_i 74 rfl rfl
theorem k_67 : Cond.methodLink "java/lang/String" (335 : Nat) ({ cls := "java/lang/String", name := "coder", desc := "()B" } : MethodName) ∈ tb := tb_i 75 (by decide +kernel) rfl
theorem k_68 : Cond.instanceMethod ({ cls := "java/lang/String", name := "coder", desc := "()B" } : MethodName) ∈ tb := tb_i 76 (by decide +kernel) rfl
theorem k_69 : Cond.selects "java/lang/String" ({ cls := "java/lang/String", name := "coder", desc := "()B" } : MethodName) ({ cls := "java/lang/String", name := "coder", desc := "()B" } : MethodName) ∈ tb := tb_i 77 (by decide +kernel) rfl
set_option maxRecDepth 20000 in
theorem k_70 : Cond.code ({ cls := "java/lang/String", name := "coder", desc := "()B" } : MethodName) prog_7_method_152_code (1 : Nat) (Option.some FieldType.byte) ∈ tb := tb_i 78 rfl rfl
theorem k_71 : Cond.fieldLink "java/lang/String" (38 : Nat) "java/lang/String" "COMPACT_STRINGS" "Z" ∈ tb := tb_i 79 (by decide +kernel) rfl
theorem k_72 : Cond.methodLink "java/util/StringTokenizer" (64 : Nat) ({ cls := "java/util/StringTokenizer", name := "setMaxDelimCodePoint", desc := "()V" } : MethodName) ∈ tb := tb_i 80 (by decide +kernel) rfl
theorem k_74 : Cond.instanceMethod ({ cls := "java/util/StringTokenizer", name := "setMaxDelimCodePoint", desc := "()V" } : MethodName) ∈ tb := tb_i 82 (by decide +kernel) rfl
set_option maxRecDepth 20000 in
theorem k_75 : Cond.code ({ cls := "java/util/StringTokenizer", name := "setMaxDelimCodePoint", desc := "()V" } : MethodName) prog_13_method_1_code (6 : Nat) (Option.none : Option FieldType) ∈ tb := tb_i 83 rfl rfl
theorem k_76 : Cond.methodLink "java/util/StringTokenizer" (17 : Nat) ({ cls := "java/lang/String", name := "charAt", desc := "(I)C" } : MethodName) ∈ tb := tb_i 84 (by decide +kernel) rfl
theorem k_77 : Cond.instanceMethod ({ cls := "java/lang/String", name := "charAt", desc := "(I)C" } : MethodName) ∈ tb := tb_i 85 (by decide +kernel) rfl
theorem k_78 : Cond.selects "java/lang/String" ({ cls := "java/lang/String", name := "charAt", desc := "(I)C" } : MethodName) ({ cls := "java/lang/String", name := "charAt", desc := "(I)C" } : MethodName) ∈ tb := tb_i 86 (by decide +kernel) rfl
set_option maxRecDepth 20000 in
theorem k_79 : Cond.code ({ cls := "java/lang/String", name := "charAt", desc := "(I)C" } : MethodName) prog_7_method_56_code (2 : Nat) (Option.some FieldType.char) ∈ tb := tb_i 87 rfl rfl
theorem k_80 : Cond.methodLink "java/lang/String" (492 : Nat) ({ cls := "java/lang/String", name := "isLatin1", desc := "()Z" } : MethodName) ∈ tb := tb_i 88 (by decide +kernel) rfl
theorem k_81 : Cond.instanceMethod ({ cls := "java/lang/String", name := "isLatin1", desc := "()Z" } : MethodName) ∈ tb := tb_i 89 (by decide +kernel) rfl
theorem k_82 : Cond.selects "java/lang/String" ({ cls := "java/lang/String", name := "isLatin1", desc := "()Z" } : MethodName) ({ cls := "java/lang/String", name := "isLatin1", desc := "()Z" } : MethodName) ∈ tb := tb_i 90 (by decide +kernel) rfl
set_option maxRecDepth 20000 in
theorem k_83 : Cond.code ({ cls := "java/lang/String", name := "isLatin1", desc := "()Z" } : MethodName) prog_7_method_154_code (1 : Nat) (Option.some FieldType.boolean) ∈ tb := tb_i 91 rfl rfl
theorem k_84 : Cond.methodLink "java/lang/String" (495 : Nat) ({ cls := "java/lang/StringLatin1", name := "charAt", desc := "([BI)C" } : MethodName) ∈ tb := tb_i 92 (by decide +kernel) rfl
theorem k_85 : Cond.static ({ cls := "java/lang/StringLatin1", name := "charAt", desc := "([BI)C" } : MethodName) ∈ tb := tb_i 93 (by decide +kernel) rfl
set_option maxRecDepth 20000 in
theorem k_86 : Cond.code ({ cls := "java/lang/StringLatin1", name := "charAt", desc := "([BI)C" } : MethodName) prog_9_method_2_code (2 : Nat) (Option.some FieldType.char) ∈ tb := tb_i 94 rfl rfl
theorem k_87 : Cond.methodLink "java/lang/StringLatin1" (9 : Nat) ({ cls := "java/lang/String", name := "checkIndex", desc := "(II)V" } : MethodName) ∈ tb := tb_i 95 (by decide +kernel) rfl
theorem k_88 : Cond.static ({ cls := "java/lang/String", name := "checkIndex", desc := "(II)V" } : MethodName) ∈ tb := tb_i 96 (by decide +kernel) rfl
set_option maxRecDepth 20000 in
theorem k_89 : Cond.code ({ cls := "java/lang/String", name := "checkIndex", desc := "(II)V" } : MethodName) prog_7_method_155_code (2 : Nat) (Option.none : Option FieldType) ∈ tb := tb_i 97 rfl rfl
theorem k_90 : Cond.fieldLink "java/lang/String" (1053 : Nat) "jdk/internal/util/Preconditions" "SIOOBE_FORMATTER" "Ljava/util/function/BiFunction;" ∈ tb := tb_i 98 (by decide +kernel) rfl
theorem k_92 : Cond.methodLink "java/lang/String" (1059 : Nat) ({ cls := "jdk/internal/util/Preconditions", name := "checkIndex", desc := "(IILjava/util/function/BiFunction;)I" } : MethodName) ∈ tb := tb_i 100 (by decide +kernel) rfl
theorem k_93 : Cond.static ({ cls := "jdk/internal/util/Preconditions", name := "checkIndex", desc := "(IILjava/util/function/BiFunction;)I" } : MethodName) ∈ tb := tb_i 101 (by decide +kernel) rfl
set_option maxRecDepth 20000 in
theorem k_94 : Cond.code ({ cls := "jdk/internal/util/Preconditions", name := "checkIndex", desc := "(IILjava/util/function/BiFunction;)I" } : MethodName) prog_15_method_11_code (3 : Nat) (Option.some FieldType.int) ∈ tb := tb_i 102 rfl rfl
theorem k_114 : Cond.constant "java/util/StringTokenizer" (23 : Nat) (55296 : Int32) ∈ tb := tb_i 122 (by decide +kernel) rfl
theorem k_115 : Cond.constant "java/util/StringTokenizer" (24 : Nat) (57343 : Int32) ∈ tb := tb_i 123 (by decide +kernel) rfl
theorem k_116 : Cond.methodLink "java/util/StringTokenizer" (25 : Nat) ({ cls := "java/lang/String", name := "codePointAt", desc := "(I)I" } : MethodName) ∈ tb := tb_i 124 (by decide +kernel) rfl
theorem k_117 : Cond.instanceMethod ({ cls := "java/lang/String", name := "codePointAt", desc := "(I)I" } : MethodName) ∈ tb := tb_i 125 (by decide +kernel) rfl
theorem k_118 : Cond.selects "java/lang/String" ({ cls := "java/lang/String", name := "codePointAt", desc := "(I)I" } : MethodName) ({ cls := "java/lang/String", name := "codePointAt", desc := "(I)I" } : MethodName) ∈ tb := tb_i 126 (by decide +kernel) rfl
set_option maxRecDepth 20000 in
theorem k_119 : Cond.code ({ cls := "java/lang/String", name := "codePointAt", desc := "(I)I" } : MethodName) prog_7_method_57_code (3 : Nat) (Option.some FieldType.int) ∈ tb := tb_i 127 rfl rfl
theorem k_120 : Cond.methodLink "java/lang/String" (499 : Nat) ({ cls := "java/lang/String", name := "checkIndex", desc := "(II)V" } : MethodName) ∈ tb := tb_i 128 (by decide +kernel) rfl
theorem k_128 : Cond.static ({ cls := "java/lang/Character", name := "isHighSurrogate", desc := "(C)Z" } : MethodName) ∈ tb := tb_i 136 (by decide +kernel) rfl
set_option maxRecDepth 20000 in
theorem k_129 : Cond.code ({ cls := "java/lang/Character", name := "isHighSurrogate", desc := "(C)Z" } : MethodName) prog_4_method_14_code (1 : Nat) (Option.some FieldType.boolean) ∈ tb := tb_i 137 rfl rfl
theorem k_130 : Cond.constant "java/lang/Character" (75 : Nat) (55296 : Int32) ∈ tb := tb_i 138 (by decide +kernel) rfl
theorem k_131 : Cond.constant "java/lang/Character" (76 : Nat) (56320 : Int32) ∈ tb := tb_i 139 (by decide +kernel) rfl
theorem k_133 : Cond.static ({ cls := "java/lang/Character", name := "isLowSurrogate", desc := "(C)Z" } : MethodName) ∈ tb := tb_i 141 (by decide +kernel) rfl
set_option maxRecDepth 20000 in
theorem k_134 : Cond.code ({ cls := "java/lang/Character", name := "isLowSurrogate", desc := "(C)Z" } : MethodName) prog_4_method_15_code (1 : Nat) (Option.some FieldType.boolean) ∈ tb := tb_i 142 rfl rfl
theorem k_135 : Cond.constant "java/lang/Character" (77 : Nat) (57344 : Int32) ∈ tb := tb_i 143 (by decide +kernel) rfl
theorem k_137 : Cond.static ({ cls := "java/lang/Character", name := "toCodePoint", desc := "(CC)I" } : MethodName) ∈ tb := tb_i 145 (by decide +kernel) rfl
set_option maxRecDepth 20000 in
theorem k_138 : Cond.code ({ cls := "java/lang/Character", name := "toCodePoint", desc := "(CC)I" } : MethodName) prog_4_method_19_code (2 : Nat) (Option.some FieldType.int) ∈ tb := tb_i 146 rfl rfl
theorem k_139 : Cond.constant "java/lang/Character" (85 : Nat) (-56613888 : Int32) ∈ tb := tb_i 147 (by decide +kernel) rfl
theorem k_140 : Cond.methodLink "java/util/StringTokenizer" (33 : Nat) ({ cls := "java/lang/Character", name := "charCount", desc := "(I)I" } : MethodName) ∈ tb := tb_i 148 (by decide +kernel) rfl
theorem k_141 : Cond.static ({ cls := "java/lang/Character", name := "charCount", desc := "(I)I" } : MethodName) ∈ tb := tb_i 149 (by decide +kernel) rfl
set_option maxRecDepth 20000 in
theorem k_142 : Cond.code ({ cls := "java/lang/Character", name := "charCount", desc := "(I)I" } : MethodName) prog_4_method_18_code (1 : Nat) (Option.some FieldType.int) ∈ tb := tb_i 150 rfl rfl
theorem k_143 : Cond.constant "java/lang/Character" (73 : Nat) (65536 : Int32) ∈ tb := tb_i 151 (by decide +kernel) rfl
theorem k_144 : Cond.fieldLink "java/util/StringTokenizer" (46 : Nat) "java/util/StringTokenizer" "currentPosition" "I" ∈ tb := tb_i 152 (by decide +kernel) rfl
theorem k_145 : Cond.fieldLink "java/util/StringTokenizer" (49 : Nat) "java/util/StringTokenizer" "newPosition" "I" ∈ tb := tb_i 153 (by decide +kernel) rfl
theorem k_146 : Cond.fieldLink "java/util/StringTokenizer" (58 : Nat) "java/util/StringTokenizer" "maxPosition" "I" ∈ tb := tb_i 154 (by decide +kernel) rfl
theorem k_147 : Cond.fieldLink "java/util/StringTokenizer" (55 : Nat) "java/util/StringTokenizer" "str" "Ljava/lang/String;" ∈ tb := tb_i 155 (by decide +kernel) rfl
theorem k_148 : Cond.fieldLink "java/util/StringTokenizer" (1 : Nat) "java/util/StringTokenizer" "delimiters" "Ljava/lang/String;" ∈ tb := tb_i 156 (by decide +kernel) rfl
theorem k_149 : Cond.fieldLink "java/util/StringTokenizer" (61 : Nat) "java/util/StringTokenizer" "retDelims" "Z" ∈ tb := tb_i 157 (by decide +kernel) rfl
theorem k_150 : Cond.fieldLink "java/util/StringTokenizer" (52 : Nat) "java/util/StringTokenizer" "delimsChanged" "Z" ∈ tb := tb_i 158 (by decide +kernel) rfl
theorem k_151 : Cond.fieldLink "java/util/StringTokenizer" (7 : Nat) "java/util/StringTokenizer" "maxDelimCodePoint" "I" ∈ tb := tb_i 159 (by decide +kernel) rfl
theorem k_152 : Cond.fieldLink "java/util/StringTokenizer" (29 : Nat) "java/util/StringTokenizer" "hasSurrogates" "Z" ∈ tb := tb_i 160 (by decide +kernel) rfl
theorem k_153 : Cond.fieldLink "java/util/StringTokenizer" (36 : Nat) "java/util/StringTokenizer" "delimiterCodePoints" "[I" ∈ tb := tb_i 161 (by decide +kernel) rfl
theorem k_154 : Cond.lays "java/util/StringTokenizer" "java/util/StringTokenizer" "currentPosition" "I" ∈ tb := tb_i 162 (by decide +kernel) rfl
theorem k_156 : Cond.lays "java/util/StringTokenizer" "java/util/StringTokenizer" "newPosition" "I" ∈ tb := tb_i 164 (by decide +kernel) rfl
theorem k_158 : Cond.lays "java/util/StringTokenizer" "java/util/StringTokenizer" "maxPosition" "I" ∈ tb := tb_i 166 (by decide +kernel) rfl
theorem k_160 : Cond.lays "java/util/StringTokenizer" "java/util/StringTokenizer" "str" "Ljava/lang/String;" ∈ tb := tb_i 168 (by decide +kernel) rfl
theorem k_162 : Cond.lays "java/util/StringTokenizer" "java/util/StringTokenizer" "delimiters" "Ljava/lang/String;" ∈ tb := tb_i 170 (by decide +kernel) rfl
theorem k_164 : Cond.lays "java/util/StringTokenizer" "java/util/StringTokenizer" "retDelims" "Z" ∈ tb := tb_i 172 (by decide +kernel) rfl
theorem k_166 : Cond.lays "java/util/StringTokenizer" "java/util/StringTokenizer" "delimsChanged" "Z" ∈ tb := tb_i 174 (by decide +kernel) rfl
theorem k_168 : Cond.lays "java/util/StringTokenizer" "java/util/StringTokenizer" "maxDelimCodePoint" "I" ∈ tb := tb_i 176 (by decide +kernel) rfl
theorem k_170 : Cond.lays "java/util/StringTokenizer" "java/util/StringTokenizer" "hasSurrogates" "Z" ∈ tb := tb_i 178 (by decide +kernel) rfl
theorem k_172 : Cond.lays "java/util/StringTokenizer" "java/util/StringTokenizer" "delimiterCodePoints" "[I" ∈ tb := tb_i 180 (by decide +kernel) rfl
theorem k_174 : Cond.superclass "java/util/StringTokenizer" "java/lang/Object" ∈ tb := tb_i 182 (by decide +kernel) rfl
theorem k_175 : Cond.arrayClass FieldType.int ∈ tb := tb_i 183 (by decide +kernel) rfl
theorem k_176 : Cond.fieldLink "TokenDrill" (10 : Nat) "TokenDrill" "text" "Ljava/lang/StringBuilder;" ∈ tb := tb_i 184 (by decide +kernel) rfl
theorem k_177 : Cond.fieldLink "TokenDrill" (25 : Nat) "TokenDrill" "cut" "Ljava/util/StringTokenizer;" ∈ tb := tb_i 185 (by decide +kernel) rfl
theorem k_178 : Cond.laysFinal "TokenDrill" "TokenDrill" "text" "Ljava/lang/StringBuilder;" ∈ tb := tb_i 186 (by decide +kernel) rfl
theorem k_180 : Cond.lays "TokenDrill" "TokenDrill" "cut" "Ljava/util/StringTokenizer;" ∈ tb := tb_i 188 (by decide +kernel) rfl
theorem k_182 : Cond.superclass "TokenDrill" "java/lang/Object" ∈ tb := tb_i 190 (by decide +kernel) rfl
theorem k_183 : Cond.methodLink "TokenDrillLaw" (66 : Nat) ({ cls := "TokenDrill", name := "type", desc := "(C)V" } : MethodName) ∈ tb := tb_i 191 (by decide +kernel) rfl
theorem k_184 : Cond.instanceMethod ({ cls := "TokenDrill", name := "type", desc := "(C)V" } : MethodName) ∈ tb := tb_i 192 (by decide +kernel) rfl
theorem k_185 : Cond.selects "TokenDrill" ({ cls := "TokenDrill", name := "type", desc := "(C)V" } : MethodName) ({ cls := "TokenDrill", name := "type", desc := "(C)V" } : MethodName) ∈ tb := tb_i 193 (by decide +kernel) rfl
set_option maxRecDepth 20000 in
theorem k_186 : Cond.code ({ cls := "TokenDrill", name := "type", desc := "(C)V" } : MethodName) prog_1_method_2_code (2 : Nat) (Option.none : Option FieldType) ∈ tb := tb_i 194 rfl rfl
theorem k_187 : Cond.methodLink "TokenDrill" (29 : Nat) ({ cls := "java/lang/StringBuilder", name := "append", desc := "(C)Ljava/lang/StringBuilder;" } : MethodName) ∈ tb := tb_i 195 (by decide +kernel) rfl
theorem k_188 : Cond.instanceMethod ({ cls := "java/lang/StringBuilder", name := "append", desc := "(C)Ljava/lang/StringBuilder;" } : MethodName) ∈ tb := tb_i 196 (by decide +kernel) rfl
theorem k_189 : Cond.selects "java/lang/StringBuilder" ({ cls := "java/lang/StringBuilder", name := "append", desc := "(C)Ljava/lang/StringBuilder;" } : MethodName) ({ cls := "java/lang/StringBuilder", name := "append", desc := "(C)Ljava/lang/StringBuilder;" } : MethodName) ∈ tb := tb_i 197 (by decide +kernel) rfl
set_option maxRecDepth 20000 in
theorem k_190 : Cond.code ({ cls := "java/lang/StringBuilder", name := "append", desc := "(C)Ljava/lang/StringBuilder;" } : MethodName) prog_8_method_14_code (2 : Nat) (Option.some (FieldType.object "java/lang/StringBuilder")) ∈ tb := tb_i 198 rfl rfl
theorem k_191 : Cond.methodLink "java/lang/StringBuilder" (50 : Nat) ({ cls := "java/lang/AbstractStringBuilder", name := "append", desc := "(C)Ljava/lang/AbstractStringBuilder;" } : MethodName) ∈ tb := tb_i 199 (by decide +kernel) rfl
theorem k_192 : Cond.instanceMethod ({ cls := "java/lang/AbstractStringBuilder", name := "append", desc := "(C)Ljava/lang/AbstractStringBuilder;" } : MethodName) ∈ tb := tb_i 200 (by decide +kernel) rfl
set_option maxRecDepth 20000 in
theorem k_193 : Cond.code ({ cls := "java/lang/AbstractStringBuilder", name := "append", desc := "(C)Ljava/lang/AbstractStringBuilder;" } : MethodName) prog_3_method_31_code (2 : Nat) (Option.some (FieldType.object "java/lang/AbstractStringBuilder")) ∈ tb := tb_i 201 rfl rfl
theorem k_194 : Cond.methodLink "java/lang/AbstractStringBuilder" (100 : Nat) ({ cls := "java/lang/AbstractStringBuilder", name := "ensureCapacityInternal", desc := "(I)V" } : MethodName) ∈ tb := tb_i 202 (by decide +kernel) rfl
theorem k_196 : Cond.instanceMethod ({ cls := "java/lang/AbstractStringBuilder", name := "ensureCapacityInternal", desc := "(I)V" } : MethodName) ∈ tb := tb_i 204 (by decide +kernel) rfl
set_option maxRecDepth 20000 in
theorem k_197 : Cond.code ({ cls := "java/lang/AbstractStringBuilder", name := "ensureCapacityInternal", desc := "(I)V" } : MethodName) prog_3_method_9_code (3 : Nat) (Option.none : Option FieldType) ∈ tb := tb_i 205 rfl rfl
theorem k_198 : Cond.methodLink "java/lang/AbstractStringBuilder" (104 : Nat) ({ cls := "java/lang/AbstractStringBuilder", name := "newCapacity", desc := "(I)I" } : MethodName) ∈ tb := tb_i 206 (by decide +kernel) rfl
theorem k_200 : Cond.instanceMethod ({ cls := "java/lang/AbstractStringBuilder", name := "newCapacity", desc := "(I)I" } : MethodName) ∈ tb := tb_i 208 (by decide +kernel) rfl
set_option maxRecDepth 20000 in
theorem k_201 : Cond.code ({ cls := "java/lang/AbstractStringBuilder", name := "newCapacity", desc := "(I)I" } : MethodName) prog_3_method_10_code (6 : Nat) (Option.some FieldType.int) ∈ tb := tb_i 209 rfl rfl
theorem k_202 : Cond.methodLink "java/lang/AbstractStringBuilder" (114 : Nat) ({ cls := "jdk/internal/util/ArraysSupport", name := "newLength", desc := "(III)I" } : MethodName) ∈ tb := tb_i 210 (by decide +kernel) rfl
theorem k_203 : Cond.static ({ cls := "jdk/internal/util/ArraysSupport", name := "newLength", desc := "(III)I" } : MethodName) ∈ tb := tb_i 211 (by decide +kernel) rfl
set_option maxRecDepth 20000 in
theorem k_204 : Cond.code ({ cls := "jdk/internal/util/ArraysSupport", name := "newLength", desc := "(III)I" } : MethodName) prog_14_method_27_code (4 : Nat) (Option.some FieldType.int) ∈ tb := tb_i 212 rfl rfl
theorem k_205 : Cond.methodLink "jdk/internal/util/ArraysSupport" (194 : Nat) ({ cls := "java/lang/Math", name := "max", desc := "(II)I" } : MethodName) ∈ tb := tb_i 213 (by decide +kernel) rfl
theorem k_206 : Cond.static ({ cls := "java/lang/Math", name := "max", desc := "(II)I" } : MethodName) ∈ tb := tb_i 214 (by decide +kernel) rfl
set_option maxRecDepth 20000 in
theorem k_207 : Cond.code ({ cls := "java/lang/Math", name := "max", desc := "(II)I" } : MethodName) prog_6_method_65_code (2 : Nat) (Option.some FieldType.int) ∈ tb := tb_i 215 rfl rfl
theorem k_208 : Cond.constant "jdk/internal/util/ArraysSupport" (200 : Nat) (2147483639 : Int32) ∈ tb := tb_i 216 (by decide +kernel) rfl
theorem k_209 : Cond.methodLink "jdk/internal/util/ArraysSupport" (201 : Nat) ({ cls := "jdk/internal/util/ArraysSupport", name := "hugeLength", desc := "(II)I" } : MethodName) ∈ tb := tb_i 217 (by decide +kernel) rfl
theorem k_210 : Cond.static ({ cls := "jdk/internal/util/ArraysSupport", name := "hugeLength", desc := "(II)I" } : MethodName) ∈ tb := tb_i 218 (by decide +kernel) rfl
set_option maxRecDepth 20000 in
theorem k_211 : Cond.code ({ cls := "jdk/internal/util/ArraysSupport", name := "hugeLength", desc := "(II)I" } : MethodName) prog_14_method_28_code (3 : Nat) (Option.some FieldType.int) ∈ tb := tb_i 219 rfl rfl
theorem k_212 : Cond.constant "java/lang/AbstractStringBuilder" (39 : Nat) (2147483647 : Int32) ∈ tb := tb_i 220 (by decide +kernel) rfl
theorem k_213 : Cond.methodLink "java/lang/AbstractStringBuilder" (108 : Nat) ({ cls := "java/util/Arrays", name := "copyOf", desc := "([BI)[B" } : MethodName) ∈ tb := tb_i 221 (by decide +kernel) rfl
theorem k_214 : Cond.static ({ cls := "java/util/Arrays", name := "copyOf", desc := "([BI)[B" } : MethodName) ∈ tb := tb_i 222 (by decide +kernel) rfl
set_option maxRecDepth 20000 in
theorem k_215 : Cond.code ({ cls := "java/util/Arrays", name := "copyOf", desc := "([BI)[B" } : MethodName) prog_12_method_121_code (3 : Nat) (Option.some (FieldType.array FieldType.byte)) ∈ tb := tb_i 223 rfl rfl
theorem k_216 : Cond.methodLink "java/util/Arrays" (310 : Nat) ({ cls := "[B", name := "clone", desc := "()Ljava/lang/Object;" } : MethodName) ∈ tb := tb_i 224 (by decide +kernel) rfl
theorem k_217 : Cond.sameMethod "[B" "java/lang/Object" "clone" "()Ljava/lang/Object;" ∈ tb := tb_i 225 (by decide +kernel) rfl
theorem k_218 : Cond.native ({ cls := "java/lang/Object", name := "clone", desc := "()Ljava/lang/Object;" } : MethodName) ∈ tb := tb_i 226 (by decide +kernel) rfl
theorem k_219 : Cond.instanceMethod ({ cls := "java/lang/Object", name := "clone", desc := "()Ljava/lang/Object;" } : MethodName) ∈ tb := tb_i 227 (by decide +kernel) rfl
theorem k_220 : Cond.selects "[B" ({ cls := "[B", name := "clone", desc := "()Ljava/lang/Object;" } : MethodName) ({ cls := "java/lang/Object", name := "clone", desc := "()Ljava/lang/Object;" } : MethodName) ∈ tb := tb_i 228 (by decide +kernel) rfl
theorem k_222 : Cond.classLink "java/util/Arrays" (311 : Nat) "[B" ∈ tb := tb_i 230 (by decide +kernel) rfl
theorem k_223 : Cond.methodLink "java/util/Arrays" (304 : Nat) ({ cls := "java/lang/Math", name := "min", desc := "(II)I" } : MethodName) ∈ tb := tb_i 231 (by decide +kernel) rfl
theorem k_224 : Cond.static ({ cls := "java/lang/Math", name := "min", desc := "(II)I" } : MethodName) ∈ tb := tb_i 232 (by decide +kernel) rfl
set_option maxRecDepth 20000 in
theorem k_225 : Cond.code ({ cls := "java/lang/Math", name := "min", desc := "(II)I" } : MethodName) prog_6_method_69_code (2 : Nat) (Option.some FieldType.int) ∈ tb := tb_i 233 rfl rfl
theorem k_226 : Cond.methodLink "java/util/Arrays" (150 : Nat) ({ cls := "java/lang/System", name := "arraycopy", desc := "(Ljava/lang/Object;ILjava/lang/Object;II)V" } : MethodName) ∈ tb := tb_i 234 (by decide +kernel) rfl
theorem k_227 : Cond.static ({ cls := "java/lang/System", name := "arraycopy", desc := "(Ljava/lang/Object;ILjava/lang/Object;II)V" } : MethodName) ∈ tb := tb_i 235 (by decide +kernel) rfl
theorem k_228 : Cond.native ({ cls := "java/lang/System", name := "arraycopy", desc := "(Ljava/lang/Object;ILjava/lang/Object;II)V" } : MethodName) ∈ tb := tb_i 236 (by decide +kernel) rfl
theorem k_229 : Cond.methodLink "java/lang/AbstractStringBuilder" (83 : Nat) ({ cls := "java/lang/AbstractStringBuilder", name := "isLatin1", desc := "()Z" } : MethodName) ∈ tb := tb_i 237 (by decide +kernel) rfl
theorem k_230 : Cond.instanceMethod ({ cls := "java/lang/AbstractStringBuilder", name := "isLatin1", desc := "()Z" } : MethodName) ∈ tb := tb_i 238 (by decide +kernel) rfl
theorem k_231 : Cond.sameMethod "java/lang/AbstractStringBuilder" "java/lang/AbstractStringBuilder" "isLatin1" "()Z" ∈ tb := tb_i 239 (by decide +kernel) rfl
theorem k_232 : Cond.selects "java/lang/StringBuilder" ({ cls := "java/lang/AbstractStringBuilder", name := "isLatin1", desc := "()Z" } : MethodName) ({ cls := "java/lang/AbstractStringBuilder", name := "isLatin1", desc := "()Z" } : MethodName) ∈ tb := tb_i 240 (by decide +kernel) rfl
set_option maxRecDepth 20000 in
theorem k_233 : Cond.code ({ cls := "java/lang/AbstractStringBuilder", name := "isLatin1", desc := "()Z" } : MethodName) prog_3_method_68_code (1 : Nat) (Option.some FieldType.boolean) ∈ tb := tb_i 241 rfl rfl
theorem k_234 : Cond.methodLink "java/lang/AbstractStringBuilder" (191 : Nat) ({ cls := "java/lang/StringLatin1", name := "canEncode", desc := "(C)Z" } : MethodName) ∈ tb := tb_i 242 (by decide +kernel) rfl
theorem k_235 : Cond.static ({ cls := "java/lang/StringLatin1", name := "canEncode", desc := "(C)Z" } : MethodName) ∈ tb := tb_i 243 (by decide +kernel) rfl
set_option maxRecDepth 20000 in
theorem k_236 : Cond.code ({ cls := "java/lang/StringLatin1", name := "canEncode", desc := "(C)Z" } : MethodName) prog_9_method_3_code (1 : Nat) (Option.some FieldType.boolean) ∈ tb := tb_i 244 rfl rfl
theorem k_237 : Cond.methodLink "java/lang/AbstractStringBuilder" (195 : Nat) ({ cls := "java/lang/AbstractStringBuilder", name := "inflate", desc := "()V" } : MethodName) ∈ tb := tb_i 245 (by decide +kernel) rfl
theorem k_239 : Cond.instanceMethod ({ cls := "java/lang/AbstractStringBuilder", name := "inflate", desc := "()V" } : MethodName) ∈ tb := tb_i 247 (by decide +kernel) rfl
set_option maxRecDepth 20000 in
theorem k_240 : Cond.code ({ cls := "java/lang/AbstractStringBuilder", name := "inflate", desc := "()V" } : MethodName) prog_3_method_11_code (2 : Nat) (Option.none : Option FieldType) ∈ tb := tb_i 248 rfl rfl
theorem k_241 : Cond.methodLink "java/lang/AbstractStringBuilder" (125 : Nat) ({ cls := "java/lang/StringLatin1", name := "inflate", desc := "([BI[BII)V" } : MethodName) ∈ tb := tb_i 249 (by decide +kernel) rfl
theorem k_242 : Cond.static ({ cls := "java/lang/StringLatin1", name := "inflate", desc := "([BI[BII)V" } : MethodName) ∈ tb := tb_i 250 (by decide +kernel) rfl
set_option maxRecDepth 20000 in
theorem k_243 : Cond.code ({ cls := "java/lang/StringLatin1", name := "inflate", desc := "([BI[BII)V" } : MethodName) prog_9_method_50_code (5 : Nat) (Option.none : Option FieldType) ∈ tb := tb_i 251 rfl rfl
theorem k_251 : Cond.static ({ cls := "java/lang/String", name := "checkBoundsOffCount", desc := "(III)I" } : MethodName) ∈ tb := tb_i 259 (by decide +kernel) rfl
set_option maxRecDepth 20000 in
theorem k_252 : Cond.code ({ cls := "java/lang/String", name := "checkBoundsOffCount", desc := "(III)I" } : MethodName) prog_7_method_157_code (3 : Nat) (Option.some FieldType.int) ∈ tb := tb_i 260 rfl rfl
theorem k_253 : Cond.methodLink "java/lang/String" (1065 : Nat) ({ cls := "jdk/internal/util/Preconditions", name := "checkFromIndexSize", desc := "(IIILjava/util/function/BiFunction;)I" } : MethodName) ∈ tb := tb_i 261 (by decide +kernel) rfl
theorem k_254 : Cond.static ({ cls := "jdk/internal/util/Preconditions", name := "checkFromIndexSize", desc := "(IIILjava/util/function/BiFunction;)I" } : MethodName) ∈ tb := tb_i 262 (by decide +kernel) rfl
set_option maxRecDepth 20000 in
theorem k_255 : Cond.code ({ cls := "jdk/internal/util/Preconditions", name := "checkFromIndexSize", desc := "(IIILjava/util/function/BiFunction;)I" } : MethodName) prog_15_method_13_code (4 : Nat) (Option.some FieldType.int) ∈ tb := tb_i 263 rfl rfl
theorem k_262 : Cond.methodLink "TokenDrillLaw" (39 : Nat) ({ cls := "TokenDrill", name := "clear", desc := "()V" } : MethodName) ∈ tb := tb_i 270 (by decide +kernel) rfl
theorem k_263 : Cond.instanceMethod ({ cls := "TokenDrill", name := "clear", desc := "()V" } : MethodName) ∈ tb := tb_i 271 (by decide +kernel) rfl
theorem k_264 : Cond.selects "TokenDrill" ({ cls := "TokenDrill", name := "clear", desc := "()V" } : MethodName) ({ cls := "TokenDrill", name := "clear", desc := "()V" } : MethodName) ∈ tb := tb_i 272 (by decide +kernel) rfl
set_option maxRecDepth 20000 in
theorem k_265 : Cond.code ({ cls := "TokenDrill", name := "clear", desc := "()V" } : MethodName) prog_1_method_3_code (1 : Nat) (Option.none : Option FieldType) ∈ tb := tb_i 273 rfl rfl
theorem k_266 : Cond.methodLink "TokenDrill" (33 : Nat) ({ cls := "java/lang/StringBuilder", name := "setLength", desc := "(I)V" } : MethodName) ∈ tb := tb_i 274 (by decide +kernel) rfl
theorem k_267 : Cond.instanceMethod ({ cls := "java/lang/StringBuilder", name := "setLength", desc := "(I)V" } : MethodName) ∈ tb := tb_i 275 (by decide +kernel) rfl
theorem k_268 : Cond.selects "java/lang/StringBuilder" ({ cls := "java/lang/StringBuilder", name := "setLength", desc := "(I)V" } : MethodName) ({ cls := "java/lang/StringBuilder", name := "setLength", desc := "(I)V" } : MethodName) ∈ tb := tb_i 276 (by decide +kernel) rfl
set_option maxRecDepth 20000 in
theorem k_269 : Cond.code ({ cls := "java/lang/StringBuilder", name := "setLength", desc := "(I)V" } : MethodName) prog_8_method_89_code (2 : Nat) (Option.none : Option FieldType) ∈ tb := tb_i 277 rfl rfl
theorem k_270 : Cond.methodLink "java/lang/StringBuilder" (333 : Nat) ({ cls := "java/lang/AbstractStringBuilder", name := "setLength", desc := "(I)V" } : MethodName) ∈ tb := tb_i 278 (by decide +kernel) rfl
theorem k_271 : Cond.instanceMethod ({ cls := "java/lang/AbstractStringBuilder", name := "setLength", desc := "(I)V" } : MethodName) ∈ tb := tb_i 279 (by decide +kernel) rfl
set_option maxRecDepth 20000 in
theorem k_272 : Cond.code ({ cls := "java/lang/AbstractStringBuilder", name := "setLength", desc := "(I)V" } : MethodName) prog_3_method_13_code (2 : Nat) (Option.none : Option FieldType) ∈ tb := tb_i 280 rfl rfl
theorem k_273 : Cond.methodLink "java/lang/AbstractStringBuilder" (133 : Nat) ({ cls := "java/lang/StringLatin1", name := "fillNull", desc := "([BII)V" } : MethodName) ∈ tb := tb_i 281 (by decide +kernel) rfl
theorem k_274 : Cond.static ({ cls := "java/lang/StringLatin1", name := "fillNull", desc := "([BII)V" } : MethodName) ∈ tb := tb_i 282 (by decide +kernel) rfl
set_option maxRecDepth 20000 in
theorem k_275 : Cond.code ({ cls := "java/lang/StringLatin1", name := "fillNull", desc := "([BII)V" } : MethodName) prog_9_method_48_code (3 : Nat) (Option.none : Option FieldType) ∈ tb := tb_i 283 rfl rfl
theorem k_276 : Cond.methodLink "java/lang/StringLatin1" (236 : Nat) ({ cls := "java/util/Arrays", name := "fill", desc := "([BIIB)V" } : MethodName) ∈ tb := tb_i 284 (by decide +kernel) rfl
theorem k_277 : Cond.static ({ cls := "java/util/Arrays", name := "fill", desc := "([BIIB)V" } : MethodName) ∈ tb := tb_i 285 (by decide +kernel) rfl
set_option maxRecDepth 20000 in
theorem k_278 : Cond.code ({ cls := "java/util/Arrays", name := "fill", desc := "([BIIB)V" } : MethodName) prog_12_method_110_code (5 : Nat) (Option.none : Option FieldType) ∈ tb := tb_i 286 rfl rfl
theorem k_279 : Cond.methodLink "java/util/Arrays" (13 : Nat) ({ cls := "java/util/Arrays", name := "rangeCheck", desc := "(III)V" } : MethodName) ∈ tb := tb_i 287 (by decide +kernel) rfl
theorem k_280 : Cond.static ({ cls := "java/util/Arrays", name := "rangeCheck", desc := "(III)V" } : MethodName) ∈ tb := tb_i 288 (by decide +kernel) rfl
set_option maxRecDepth 20000 in
theorem k_281 : Cond.code ({ cls := "java/util/Arrays", name := "rangeCheck", desc := "(III)V" } : MethodName) prog_12_method_30_code (3 : Nat) (Option.none : Option FieldType) ∈ tb := tb_i 289 rfl rfl
theorem k_286 : Cond.methodLink "TokenDrillLaw" (35 : Nat) ({ cls := "TokenDrill", name := "begin", desc := "(Ljava/lang/String;Z)V" } : MethodName) ∈ tb := tb_i 294 (by decide +kernel) rfl
theorem k_287 : Cond.instanceMethod ({ cls := "TokenDrill", name := "begin", desc := "(Ljava/lang/String;Z)V" } : MethodName) ∈ tb := tb_i 295 (by decide +kernel) rfl
theorem k_288 : Cond.selects "TokenDrill" ({ cls := "TokenDrill", name := "begin", desc := "(Ljava/lang/String;Z)V" } : MethodName) ({ cls := "TokenDrill", name := "begin", desc := "(Ljava/lang/String;Z)V" } : MethodName) ∈ tb := tb_i 296 (by decide +kernel) rfl
set_option maxRecDepth 20000 in
theorem k_289 : Cond.code ({ cls := "TokenDrill", name := "begin", desc := "(Ljava/lang/String;Z)V" } : MethodName) prog_1_method_4_code (3 : Nat) (Option.none : Option FieldType) ∈ tb := tb_i 297 rfl rfl
theorem k_290 : Cond.methodLink "TokenDrill" (37 : Nat) ({ cls := "java/lang/StringBuilder", name := "toString", desc := "()Ljava/lang/String;" } : MethodName) ∈ tb := tb_i 298 (by decide +kernel) rfl
theorem k_291 : Cond.instanceMethod ({ cls := "java/lang/StringBuilder", name := "toString", desc := "()Ljava/lang/String;" } : MethodName) ∈ tb := tb_i 299 (by decide +kernel) rfl
theorem k_292 : Cond.selects "java/lang/StringBuilder" ({ cls := "java/lang/StringBuilder", name := "toString", desc := "()Ljava/lang/String;" } : MethodName) ({ cls := "java/lang/StringBuilder", name := "toString", desc := "()Ljava/lang/String;" } : MethodName) ∈ tb := tb_i 300 (by decide +kernel) rfl
set_option maxRecDepth 20000 in
theorem k_293 : Cond.code ({ cls := "java/lang/StringBuilder", name := "toString", desc := "()Ljava/lang/String;" } : MethodName) prog_8_method_42_code (1 : Nat) (Option.some (FieldType.object "java/lang/String")) ∈ tb := tb_i 301 rfl rfl
theorem k_294 : Cond.classLink "java/lang/StringBuilder" (18 : Nat) "java/lang/String" ∈ tb := tb_i 302 (by decide +kernel) rfl
theorem k_295 : Cond.instantiable "java/lang/String" (4 : Nat) ∈ tb := tb_i 303 (by decide +kernel) rfl
theorem k_296 : Cond.methodLink "java/lang/StringBuilder" (137 : Nat) ({ cls := "java/lang/String", name := "<init>", desc := "(Ljava/lang/StringBuilder;)V" } : MethodName) ∈ tb := tb_i 304 (by decide +kernel) rfl
theorem k_297 : Cond.instanceMethod ({ cls := "java/lang/String", name := "<init>", desc := "(Ljava/lang/StringBuilder;)V" } : MethodName) ∈ tb := tb_i 305 (by decide +kernel) rfl
set_option maxRecDepth 20000 in
theorem k_298 : Cond.code ({ cls := "java/lang/String", name := "<init>", desc := "(Ljava/lang/StringBuilder;)V" } : MethodName) prog_7_method_53_code (2 : Nat) (Option.none : Option FieldType) ∈ tb := tb_i 306 rfl rfl
theorem k_299 : Cond.methodLink "java/lang/String" (489 : Nat) ({ cls := "java/lang/String", name := "<init>", desc := "(Ljava/lang/AbstractStringBuilder;Ljava/lang/Void;)V" } : MethodName) ∈ tb := tb_i 307 (by decide +kernel) rfl
theorem k_300 : Cond.instanceMethod ({ cls := "java/lang/String", name := "<init>", desc := "(Ljava/lang/AbstractStringBuilder;Ljava/lang/Void;)V" } : MethodName) ∈ tb := tb_i 308 (by decide +kernel) rfl
set_option maxRecDepth 20000 in
theorem k_301 : Cond.code ({ cls := "java/lang/String", name := "<init>", desc := "(Ljava/lang/AbstractStringBuilder;Ljava/lang/Void;)V" } : MethodName) prog_7_method_150_code (5 : Nat) (Option.none : Option FieldType) ∈ tb := tb_i 309 rfl rfl
theorem k_302 : Cond.methodLink "java/lang/String" (1 : Nat) ({ cls := "java/lang/Object", name := "<init>", desc := "()V" } : MethodName) ∈ tb := tb_i 310 (by decide +kernel) rfl
theorem k_303 : Cond.methodLink "java/lang/String" (552 : Nat) ({ cls := "java/lang/AbstractStringBuilder", name := "getValue", desc := "()[B" } : MethodName) ∈ tb := tb_i 311 (by decide +kernel) rfl
theorem k_304 : Cond.instanceMethod ({ cls := "java/lang/AbstractStringBuilder", name := "getValue", desc := "()[B" } : MethodName) ∈ tb := tb_i 312 (by decide +kernel) rfl
theorem k_305 : Cond.sameMethod "java/lang/AbstractStringBuilder" "java/lang/AbstractStringBuilder" "getValue" "()[B" ∈ tb := tb_i 313 (by decide +kernel) rfl
theorem k_306 : Cond.selects "java/lang/StringBuilder" ({ cls := "java/lang/AbstractStringBuilder", name := "getValue", desc := "()[B" } : MethodName) ({ cls := "java/lang/AbstractStringBuilder", name := "getValue", desc := "()[B" } : MethodName) ∈ tb := tb_i 314 (by decide +kernel) rfl
set_option maxRecDepth 20000 in
theorem k_307 : Cond.code ({ cls := "java/lang/AbstractStringBuilder", name := "getValue", desc := "()[B" } : MethodName) prog_3_method_64_code (1 : Nat) (Option.some (FieldType.array FieldType.byte)) ∈ tb := tb_i 315 rfl rfl
theorem k_308 : Cond.methodLink "java/lang/String" (549 : Nat) ({ cls := "java/lang/AbstractStringBuilder", name := "length", desc := "()I" } : MethodName) ∈ tb := tb_i 316 (by decide +kernel) rfl
theorem k_309 : Cond.instanceMethod ({ cls := "java/lang/AbstractStringBuilder", name := "length", desc := "()I" } : MethodName) ∈ tb := tb_i 317 (by decide +kernel) rfl
theorem k_310 : Cond.sameMethod "java/lang/AbstractStringBuilder" "java/lang/AbstractStringBuilder" "length" "()I" ∈ tb := tb_i 318 (by decide +kernel) rfl
theorem k_311 : Cond.selects "java/lang/StringBuilder" ({ cls := "java/lang/AbstractStringBuilder", name := "length", desc := "()I" } : MethodName) ({ cls := "java/lang/StringBuilder", name := "length", desc := "()I" } : MethodName) ∈ tb := tb_i 319 (by decide +kernel) rfl
theorem k_312 : Cond.instanceMethod ({ cls := "java/lang/StringBuilder", name := "length", desc := "()I" } : MethodName) ∈ tb := tb_i 320 (by decide +kernel) rfl
set_option maxRecDepth 20000 in
theorem k_313 : Cond.code ({ cls := "java/lang/StringBuilder", name := "length", desc := "()I" } : MethodName) prog_8_method_93_code (1 : Nat) (Option.some FieldType.int) ∈ tb := tb_i 321 rfl rfl
theorem k_314 : Cond.methodLink "java/lang/StringBuilder" (343 : Nat) ({ cls := "java/lang/AbstractStringBuilder", name := "length", desc := "()I" } : MethodName) ∈ tb := tb_i 322 (by decide +kernel) rfl
set_option maxRecDepth 20000 in
theorem k_315 : Cond.code ({ cls := "java/lang/AbstractStringBuilder", name := "length", desc := "()I" } : MethodName) prog_3_method_6_code (1 : Nat) (Option.some FieldType.int) ∈ tb := tb_i 323 rfl rfl
theorem k_316 : Cond.methodLink "java/lang/String" (1047 : Nat) ({ cls := "java/lang/AbstractStringBuilder", name := "isLatin1", desc := "()Z" } : MethodName) ∈ tb := tb_i 324 (by decide +kernel) rfl
theorem k_317 : Cond.methodLink "java/lang/String" (54 : Nat) ({ cls := "java/util/Arrays", name := "copyOfRange", desc := "([BII)[B" } : MethodName) ∈ tb := tb_i 325 (by decide +kernel) rfl
theorem k_318 : Cond.static ({ cls := "java/util/Arrays", name := "copyOfRange", desc := "([BII)[B" } : MethodName) ∈ tb := tb_i 326 (by decide +kernel) rfl
set_option maxRecDepth 20000 in
theorem k_319 : Cond.code ({ cls := "java/util/Arrays", name := "copyOfRange", desc := "([BII)[B" } : MethodName) prog_12_method_132_code (3 : Nat) (Option.some (FieldType.array FieldType.byte)) ∈ tb := tb_i 327 rfl rfl
theorem k_320 : Cond.methodLink "java/util/Arrays" (339 : Nat) ({ cls := "java/util/Arrays", name := "copyOfRangeByte", desc := "([BII)[B" } : MethodName) ∈ tb := tb_i 328 (by decide +kernel) rfl
theorem k_321 : Cond.static ({ cls := "java/util/Arrays", name := "copyOfRangeByte", desc := "([BII)[B" } : MethodName) ∈ tb := tb_i 329 (by decide +kernel) rfl
set_option maxRecDepth 20000 in
theorem k_322 : Cond.code ({ cls := "java/util/Arrays", name := "copyOfRangeByte", desc := "([BII)[B" } : MethodName) prog_12_method_133_code (5 : Nat) (Option.some (FieldType.array FieldType.byte)) ∈ tb := tb_i 330 rfl rfl
theorem k_323 : Cond.methodLink "java/util/Arrays" (343 : Nat) ({ cls := "java/util/Arrays", name := "checkLength", desc := "(II)V" } : MethodName) ∈ tb := tb_i 331 (by decide +kernel) rfl
theorem k_324 : Cond.static ({ cls := "java/util/Arrays", name := "checkLength", desc := "(II)V" } : MethodName) ∈ tb := tb_i 332 (by decide +kernel) rfl
set_option maxRecDepth 20000 in
theorem k_325 : Cond.code ({ cls := "java/util/Arrays", name := "checkLength", desc := "(II)V" } : MethodName) prog_12_method_131_code (2 : Nat) (Option.none : Option FieldType) ∈ tb := tb_i 333 rfl rfl
theorem k_336 : Cond.fieldLink "java/lang/String" (9 : Nat) "java/lang/String" "value" "[B" ∈ tb := tb_i 344 (by decide +kernel) rfl
theorem k_337 : Cond.fieldLink "java/lang/String" (15 : Nat) "java/lang/String" "coder" "B" ∈ tb := tb_i 345 (by decide +kernel) rfl
theorem k_338 : Cond.laysFinal "java/lang/String" "java/lang/String" "value" "[B" ∈ tb := tb_i 346 (by decide +kernel) rfl
theorem k_340 : Cond.laysFinal "java/lang/String" "java/lang/String" "coder" "B" ∈ tb := tb_i 348 (by decide +kernel) rfl
theorem k_342 : Cond.lays "java/lang/String" "java/lang/String" "hash" "I" ∈ tb := tb_i 350 (by decide +kernel) rfl
theorem k_344 : Cond.lays "java/lang/String" "java/lang/String" "hashIsZero" "Z" ∈ tb := tb_i 352 (by decide +kernel) rfl
theorem k_346 : Cond.superclass "java/lang/String" "java/lang/Object" ∈ tb := tb_i 354 (by decide +kernel) rfl
theorem k_347 : Cond.methodLink "TokenDrillLaw" (46 : Nat) ({ cls := "TokenDrill", name := "more", desc := "()Z" } : MethodName) ∈ tb := tb_i 355 (by decide +kernel) rfl
theorem k_348 : Cond.instanceMethod ({ cls := "TokenDrill", name := "more", desc := "()Z" } : MethodName) ∈ tb := tb_i 356 (by decide +kernel) rfl
theorem k_349 : Cond.selects "TokenDrill" ({ cls := "TokenDrill", name := "more", desc := "()Z" } : MethodName) ({ cls := "TokenDrill", name := "more", desc := "()Z" } : MethodName) ∈ tb := tb_i 357 (by decide +kernel) rfl
set_option maxRecDepth 20000 in
theorem k_350 : Cond.code ({ cls := "TokenDrill", name := "more", desc := "()Z" } : MethodName) prog_1_method_5_code (1 : Nat) (Option.some FieldType.boolean) ∈ tb := tb_i 358 rfl rfl
theorem k_351 : Cond.methodLink "TokenDrill" (41 : Nat) ({ cls := "java/util/StringTokenizer", name := "hasMoreTokens", desc := "()Z" } : MethodName) ∈ tb := tb_i 359 (by decide +kernel) rfl
theorem k_352 : Cond.instanceMethod ({ cls := "java/util/StringTokenizer", name := "hasMoreTokens", desc := "()Z" } : MethodName) ∈ tb := tb_i 360 (by decide +kernel) rfl
theorem k_353 : Cond.selects "java/util/StringTokenizer" ({ cls := "java/util/StringTokenizer", name := "hasMoreTokens", desc := "()Z" } : MethodName) ({ cls := "java/util/StringTokenizer", name := "hasMoreTokens", desc := "()Z" } : MethodName) ∈ tb := tb_i 361 (by decide +kernel) rfl
set_option maxRecDepth 20000 in
theorem k_354 : Cond.code ({ cls := "java/util/StringTokenizer", name := "hasMoreTokens", desc := "()Z" } : MethodName) prog_13_method_8_code (1 : Nat) (Option.some FieldType.boolean) ∈ tb := tb_i 362 rfl rfl
theorem k_355 : Cond.methodLink "java/util/StringTokenizer" (82 : Nat) ({ cls := "java/util/StringTokenizer", name := "skipDelimiters", desc := "(I)I" } : MethodName) ∈ tb := tb_i 363 (by decide +kernel) rfl
theorem k_357 : Cond.instanceMethod ({ cls := "java/util/StringTokenizer", name := "skipDelimiters", desc := "(I)I" } : MethodName) ∈ tb := tb_i 365 (by decide +kernel) rfl
set_option maxRecDepth 20000 in
theorem k_358 : Cond.code ({ cls := "java/util/StringTokenizer", name := "skipDelimiters", desc := "(I)I" } : MethodName) prog_13_method_5_code (4 : Nat) (Option.some FieldType.int) ∈ tb := tb_i 366 rfl rfl
theorem k_359 : Cond.methodLink "java/util/StringTokenizer" (75 : Nat) ({ cls := "java/lang/String", name := "indexOf", desc := "(I)I" } : MethodName) ∈ tb := tb_i 367 (by decide +kernel) rfl
theorem k_360 : Cond.instanceMethod ({ cls := "java/lang/String", name := "indexOf", desc := "(I)I" } : MethodName) ∈ tb := tb_i 368 (by decide +kernel) rfl
theorem k_361 : Cond.selects "java/lang/String" ({ cls := "java/lang/String", name := "indexOf", desc := "(I)I" } : MethodName) ({ cls := "java/lang/String", name := "indexOf", desc := "(I)I" } : MethodName) ∈ tb := tb_i 369 (by decide +kernel) rfl
set_option maxRecDepth 20000 in
theorem k_362 : Cond.code ({ cls := "java/lang/String", name := "indexOf", desc := "(I)I" } : MethodName) prog_7_method_79_code (2 : Nat) (Option.some FieldType.int) ∈ tb := tb_i 370 rfl rfl
theorem k_363 : Cond.methodLink "java/lang/String" (633 : Nat) ({ cls := "java/lang/String", name := "indexOf", desc := "(II)I" } : MethodName) ∈ tb := tb_i 371 (by decide +kernel) rfl
theorem k_364 : Cond.instanceMethod ({ cls := "java/lang/String", name := "indexOf", desc := "(II)I" } : MethodName) ∈ tb := tb_i 372 (by decide +kernel) rfl
theorem k_365 : Cond.selects "java/lang/String" ({ cls := "java/lang/String", name := "indexOf", desc := "(II)I" } : MethodName) ({ cls := "java/lang/String", name := "indexOf", desc := "(II)I" } : MethodName) ∈ tb := tb_i 373 (by decide +kernel) rfl
set_option maxRecDepth 20000 in
theorem k_366 : Cond.code ({ cls := "java/lang/String", name := "indexOf", desc := "(II)I" } : MethodName) prog_7_method_80_code (3 : Nat) (Option.some FieldType.int) ∈ tb := tb_i 374 rfl rfl
theorem k_367 : Cond.methodLink "java/lang/String" (505 : Nat) ({ cls := "java/lang/String", name := "length", desc := "()I" } : MethodName) ∈ tb := tb_i 375 (by decide +kernel) rfl
theorem k_368 : Cond.methodLink "java/lang/String" (637 : Nat) ({ cls := "java/lang/StringLatin1", name := "indexOf", desc := "([BIII)I" } : MethodName) ∈ tb := tb_i 376 (by decide +kernel) rfl
theorem k_369 : Cond.static ({ cls := "java/lang/StringLatin1", name := "indexOf", desc := "([BIII)I" } : MethodName) ∈ tb := tb_i 377 (by decide +kernel) rfl
set_option maxRecDepth 20000 in
theorem k_370 : Cond.code ({ cls := "java/lang/StringLatin1", name := "indexOf", desc := "([BIII)I" } : MethodName) prog_9_method_22_code (4 : Nat) (Option.some FieldType.int) ∈ tb := tb_i 378 rfl rfl
theorem k_371 : Cond.methodLink "java/lang/StringLatin1" (88 : Nat) ({ cls := "java/lang/StringLatin1", name := "canEncode", desc := "(I)Z" } : MethodName) ∈ tb := tb_i 379 (by decide +kernel) rfl
theorem k_372 : Cond.static ({ cls := "java/lang/StringLatin1", name := "canEncode", desc := "(I)Z" } : MethodName) ∈ tb := tb_i 380 (by decide +kernel) rfl
set_option maxRecDepth 20000 in
theorem k_373 : Cond.code ({ cls := "java/lang/StringLatin1", name := "canEncode", desc := "(I)Z" } : MethodName) prog_9_method_4_code (1 : Nat) (Option.some FieldType.boolean) ∈ tb := tb_i 381 rfl rfl
theorem k_374 : Cond.methodLink "java/lang/StringLatin1" (92 : Nat) ({ cls := "java/lang/Math", name := "max", desc := "(II)I" } : MethodName) ∈ tb := tb_i 382 (by decide +kernel) rfl
theorem k_375 : Cond.methodLink "java/lang/StringLatin1" (38 : Nat) ({ cls := "java/lang/Math", name := "min", desc := "(II)I" } : MethodName) ∈ tb := tb_i 383 (by decide +kernel) rfl
theorem k_376 : Cond.methodLink "java/lang/StringLatin1" (95 : Nat) ({ cls := "java/lang/StringLatin1", name := "indexOfChar", desc := "([BIII)I" } : MethodName) ∈ tb := tb_i 384 (by decide +kernel) rfl
theorem k_377 : Cond.static ({ cls := "java/lang/StringLatin1", name := "indexOfChar", desc := "([BIII)I" } : MethodName) ∈ tb := tb_i 385 (by decide +kernel) rfl
set_option maxRecDepth 20000 in
theorem k_378 : Cond.code ({ cls := "java/lang/StringLatin1", name := "indexOfChar", desc := "([BIII)I" } : MethodName) prog_9_method_23_code (6 : Nat) (Option.some FieldType.int) ∈ tb := tb_i 386 rfl rfl
theorem k_392 : Cond.static ({ cls := "java/lang/String", name := "checkBoundsBeginEnd", desc := "(III)V" } : MethodName) ∈ tb := tb_i 400 (by decide +kernel) rfl
set_option maxRecDepth 20000 in
theorem k_393 : Cond.code ({ cls := "java/lang/String", name := "checkBoundsBeginEnd", desc := "(III)V" } : MethodName) prog_7_method_158_code (3 : Nat) (Option.none : Option FieldType) ∈ tb := tb_i 401 rfl rfl
theorem k_394 : Cond.methodLink "java/lang/String" (1062 : Nat) ({ cls := "jdk/internal/util/Preconditions", name := "checkFromToIndex", desc := "(IIILjava/util/function/BiFunction;)I" } : MethodName) ∈ tb := tb_i 402 (by decide +kernel) rfl
theorem k_395 : Cond.static ({ cls := "jdk/internal/util/Preconditions", name := "checkFromToIndex", desc := "(IIILjava/util/function/BiFunction;)I" } : MethodName) ∈ tb := tb_i 403 (by decide +kernel) rfl
set_option maxRecDepth 20000 in
theorem k_396 : Cond.code ({ cls := "jdk/internal/util/Preconditions", name := "checkFromToIndex", desc := "(IIILjava/util/function/BiFunction;)I" } : MethodName) prog_15_method_12_code (4 : Nat) (Option.some FieldType.int) ∈ tb := tb_i 404 rfl rfl
theorem k_404 : Cond.static ({ cls := "java/lang/Character", name := "isValidCodePoint", desc := "(I)Z" } : MethodName) ∈ tb := tb_i 412 (by decide +kernel) rfl
set_option maxRecDepth 20000 in
theorem k_405 : Cond.code ({ cls := "java/lang/Character", name := "isValidCodePoint", desc := "(I)Z" } : MethodName) prog_4_method_11_code (2 : Nat) (Option.some FieldType.boolean) ∈ tb := tb_i 413 rfl rfl
theorem k_407 : Cond.static ({ cls := "java/lang/Character", name := "highSurrogate", desc := "(I)C" } : MethodName) ∈ tb := tb_i 415 (by decide +kernel) rfl
set_option maxRecDepth 20000 in
theorem k_408 : Cond.code ({ cls := "java/lang/Character", name := "highSurrogate", desc := "(I)C" } : MethodName) prog_4_method_28_code (1 : Nat) (Option.some FieldType.char) ∈ tb := tb_i 416 rfl rfl
theorem k_409 : Cond.constant "java/lang/Character" (110 : Nat) (55232 : Int32) ∈ tb := tb_i 417 (by decide +kernel) rfl
theorem k_411 : Cond.static ({ cls := "java/lang/Character", name := "lowSurrogate", desc := "(I)C" } : MethodName) ∈ tb := tb_i 419 (by decide +kernel) rfl
set_option maxRecDepth 20000 in
theorem k_412 : Cond.code ({ cls := "java/lang/Character", name := "lowSurrogate", desc := "(I)C" } : MethodName) prog_4_method_29_code (1 : Nat) (Option.some FieldType.char) ∈ tb := tb_i 420 rfl rfl
theorem k_413 : Cond.methodLink "java/util/StringTokenizer" (78 : Nat) ({ cls := "java/util/StringTokenizer", name := "isDelimiter", desc := "(I)Z" } : MethodName) ∈ tb := tb_i 421 (by decide +kernel) rfl
theorem k_415 : Cond.instanceMethod ({ cls := "java/util/StringTokenizer", name := "isDelimiter", desc := "(I)Z" } : MethodName) ∈ tb := tb_i 423 (by decide +kernel) rfl
set_option maxRecDepth 20000 in
theorem k_416 : Cond.code ({ cls := "java/util/StringTokenizer", name := "isDelimiter", desc := "(I)Z" } : MethodName) prog_13_method_7_code (6 : Nat) (Option.some FieldType.boolean) ∈ tb := tb_i 424 rfl rfl
theorem k_417 : Cond.methodLink "TokenDrillLaw" (50 : Nat) ({ cls := "TokenDrill", name := "left", desc := "()I" } : MethodName) ∈ tb := tb_i 425 (by decide +kernel) rfl
theorem k_418 : Cond.instanceMethod ({ cls := "TokenDrill", name := "left", desc := "()I" } : MethodName) ∈ tb := tb_i 426 (by decide +kernel) rfl
theorem k_419 : Cond.selects "TokenDrill" ({ cls := "TokenDrill", name := "left", desc := "()I" } : MethodName) ({ cls := "TokenDrill", name := "left", desc := "()I" } : MethodName) ∈ tb := tb_i 427 (by decide +kernel) rfl
set_option maxRecDepth 20000 in
theorem k_420 : Cond.code ({ cls := "TokenDrill", name := "left", desc := "()I" } : MethodName) prog_1_method_6_code (1 : Nat) (Option.some FieldType.int) ∈ tb := tb_i 428 rfl rfl
theorem k_421 : Cond.methodLink "TokenDrill" (45 : Nat) ({ cls := "java/util/StringTokenizer", name := "countTokens", desc := "()I" } : MethodName) ∈ tb := tb_i 429 (by decide +kernel) rfl
theorem k_422 : Cond.instanceMethod ({ cls := "java/util/StringTokenizer", name := "countTokens", desc := "()I" } : MethodName) ∈ tb := tb_i 430 (by decide +kernel) rfl
theorem k_423 : Cond.selects "java/util/StringTokenizer" ({ cls := "java/util/StringTokenizer", name := "countTokens", desc := "()I" } : MethodName) ({ cls := "java/util/StringTokenizer", name := "countTokens", desc := "()I" } : MethodName) ∈ tb := tb_i 431 (by decide +kernel) rfl
set_option maxRecDepth 20000 in
theorem k_424 : Cond.code ({ cls := "java/util/StringTokenizer", name := "countTokens", desc := "()I" } : MethodName) prog_13_method_13_code (3 : Nat) (Option.some FieldType.int) ∈ tb := tb_i 432 rfl rfl
theorem k_425 : Cond.methodLink "java/util/StringTokenizer" (88 : Nat) ({ cls := "java/util/StringTokenizer", name := "scanToken", desc := "(I)I" } : MethodName) ∈ tb := tb_i 433 (by decide +kernel) rfl
theorem k_427 : Cond.instanceMethod ({ cls := "java/util/StringTokenizer", name := "scanToken", desc := "(I)I" } : MethodName) ∈ tb := tb_i 435 (by decide +kernel) rfl
set_option maxRecDepth 20000 in
theorem k_428 : Cond.code ({ cls := "java/util/StringTokenizer", name := "scanToken", desc := "(I)I" } : MethodName) prog_13_method_6_code (4 : Nat) (Option.some FieldType.int) ∈ tb := tb_i 436 rfl rfl
theorem k_429 : Cond.methodLink "TokenDrillLaw" (54 : Nat) ({ cls := "TokenDrill", name := "next", desc := "()Ljava/lang/String;" } : MethodName) ∈ tb := tb_i 437 (by decide +kernel) rfl
theorem k_430 : Cond.instanceMethod ({ cls := "TokenDrill", name := "next", desc := "()Ljava/lang/String;" } : MethodName) ∈ tb := tb_i 438 (by decide +kernel) rfl
theorem k_431 : Cond.selects "TokenDrill" ({ cls := "TokenDrill", name := "next", desc := "()Ljava/lang/String;" } : MethodName) ({ cls := "TokenDrill", name := "next", desc := "()Ljava/lang/String;" } : MethodName) ∈ tb := tb_i 439 (by decide +kernel) rfl
set_option maxRecDepth 20000 in
theorem k_432 : Cond.code ({ cls := "TokenDrill", name := "next", desc := "()Ljava/lang/String;" } : MethodName) prog_1_method_7_code (1 : Nat) (Option.some (FieldType.object "java/lang/String")) ∈ tb := tb_i 440 rfl rfl
theorem k_433 : Cond.methodLink "TokenDrill" (49 : Nat) ({ cls := "java/util/StringTokenizer", name := "nextToken", desc := "()Ljava/lang/String;" } : MethodName) ∈ tb := tb_i 441 (by decide +kernel) rfl
theorem k_434 : Cond.instanceMethod ({ cls := "java/util/StringTokenizer", name := "nextToken", desc := "()Ljava/lang/String;" } : MethodName) ∈ tb := tb_i 442 (by decide +kernel) rfl
theorem k_435 : Cond.selects "java/util/StringTokenizer" ({ cls := "java/util/StringTokenizer", name := "nextToken", desc := "()Ljava/lang/String;" } : MethodName) ({ cls := "java/util/StringTokenizer", name := "nextToken", desc := "()Ljava/lang/String;" } : MethodName) ∈ tb := tb_i 443 (by decide +kernel) rfl
set_option maxRecDepth 20000 in
theorem k_436 : Cond.code ({ cls := "java/util/StringTokenizer", name := "nextToken", desc := "()Ljava/lang/String;" } : MethodName) prog_13_method_9_code (2 : Nat) (Option.some (FieldType.object "java/lang/String")) ∈ tb := tb_i 444 rfl rfl
theorem k_437 : Cond.methodLink "java/util/StringTokenizer" (91 : Nat) ({ cls := "java/lang/String", name := "substring", desc := "(II)Ljava/lang/String;" } : MethodName) ∈ tb := tb_i 445 (by decide +kernel) rfl
theorem k_438 : Cond.instanceMethod ({ cls := "java/lang/String", name := "substring", desc := "(II)Ljava/lang/String;" } : MethodName) ∈ tb := tb_i 446 (by decide +kernel) rfl
theorem k_439 : Cond.selects "java/lang/String" ({ cls := "java/lang/String", name := "substring", desc := "(II)Ljava/lang/String;" } : MethodName) ({ cls := "java/lang/String", name := "substring", desc := "(II)Ljava/lang/String;" } : MethodName) ∈ tb := tb_i 447 (by decide +kernel) rfl
set_option maxRecDepth 20000 in
theorem k_440 : Cond.code ({ cls := "java/lang/String", name := "substring", desc := "(II)Ljava/lang/String;" } : MethodName) prog_7_method_92_code (5 : Nat) (Option.some (FieldType.object "java/lang/String")) ∈ tb := tb_i 448 rfl rfl
theorem k_441 : Cond.methodLink "java/lang/String" (521 : Nat) ({ cls := "java/lang/String", name := "checkBoundsBeginEnd", desc := "(III)V" } : MethodName) ∈ tb := tb_i 449 (by decide +kernel) rfl
theorem k_442 : Cond.methodLink "java/lang/String" (685 : Nat) ({ cls := "java/lang/StringLatin1", name := "newString", desc := "([BII)Ljava/lang/String;" } : MethodName) ∈ tb := tb_i 450 (by decide +kernel) rfl
theorem k_443 : Cond.static ({ cls := "java/lang/StringLatin1", name := "newString", desc := "([BII)Ljava/lang/String;" } : MethodName) ∈ tb := tb_i 451 (by decide +kernel) rfl
set_option maxRecDepth 20000 in
theorem k_444 : Cond.code ({ cls := "java/lang/StringLatin1", name := "newString", desc := "([BII)Ljava/lang/String;" } : MethodName) prog_9_method_47_code (3 : Nat) (Option.some (FieldType.object "java/lang/String")) ∈ tb := tb_i 452 rfl rfl
theorem k_446 : Cond.classLink "java/lang/StringLatin1" (1 : Nat) "java/lang/String" ∈ tb := tb_i 454 (by decide +kernel) rfl
theorem k_447 : Cond.methodLink "java/lang/StringLatin1" (232 : Nat) ({ cls := "java/util/Arrays", name := "copyOfRange", desc := "([BII)[B" } : MethodName) ∈ tb := tb_i 455 (by decide +kernel) rfl
theorem k_448 : Cond.methodLink "java/lang/StringLatin1" (112 : Nat) ({ cls := "java/lang/String", name := "<init>", desc := "([BB)V" } : MethodName) ∈ tb := tb_i 456 (by decide +kernel) rfl
theorem k_449 : Cond.instanceMethod ({ cls := "java/lang/String", name := "<init>", desc := "([BB)V" } : MethodName) ∈ tb := tb_i 457 (by decide +kernel) rfl
set_option maxRecDepth 20000 in
theorem k_450 : Cond.code ({ cls := "java/lang/String", name := "<init>", desc := "([BB)V" } : MethodName) prog_7_method_151_code (3 : Nat) (Option.none : Option FieldType) ∈ tb := tb_i 458 rfl rfl
theorem k_460 : Cond.methodLink "TokenDrillLaw" (42 : Nat) ({ cls := "TokenDrillLaw", name := "sign", desc := "(II)Z" } : MethodName) ∈ tb := tb_i 468 (by decide +kernel) rfl
theorem k_461 : Cond.static ({ cls := "TokenDrillLaw", name := "sign", desc := "(II)Z" } : MethodName) ∈ tb := tb_i 469 (by decide +kernel) rfl
set_option maxRecDepth 20000 in
theorem k_462 : Cond.code ({ cls := "TokenDrillLaw", name := "sign", desc := "(II)Z" } : MethodName) method_2_code (2 : Nat) (Option.some FieldType.boolean) ∈ tb := tb_i 470 rfl rfl
theorem k_463 : Cond.methodLink "TokenDrillLaw" (29 : Nat) ({ cls := "TokenDrillLaw", name := "signs", desc := "(I)Ljava/lang/String;" } : MethodName) ∈ tb := tb_i 471 (by decide +kernel) rfl
theorem k_464 : Cond.static ({ cls := "TokenDrillLaw", name := "signs", desc := "(I)Ljava/lang/String;" } : MethodName) ∈ tb := tb_i 472 (by decide +kernel) rfl
set_option maxRecDepth 20000 in
theorem k_465 : Cond.code ({ cls := "TokenDrillLaw", name := "signs", desc := "(I)Ljava/lang/String;" } : MethodName) method_3_code (1 : Nat) (Option.some (FieldType.object "java/lang/String")) ∈ tb := tb_i 473 rfl rfl
theorem k_466 : Cond.classLink "TokenDrillLaw" (7 : Nat) "java/lang/StringBuilder" ∈ tb := tb_i 474 (by decide +kernel) rfl
theorem k_467 : Cond.methodLink "TokenDrillLaw" (9 : Nat) ({ cls := "java/lang/StringBuilder", name := "<init>", desc := "()V" } : MethodName) ∈ tb := tb_i 475 (by decide +kernel) rfl
theorem k_470 : Cond.methodLink "TokenDrillLaw" (14 : Nat) ({ cls := "java/lang/StringBuilder", name := "append", desc := "(Ljava/lang/String;)Ljava/lang/StringBuilder;" } : MethodName) ∈ tb := tb_i 478 (by decide +kernel) rfl
theorem k_471 : Cond.instanceMethod ({ cls := "java/lang/StringBuilder", name := "append", desc := "(Ljava/lang/String;)Ljava/lang/StringBuilder;" } : MethodName) ∈ tb := tb_i 479 (by decide +kernel) rfl
theorem k_472 : Cond.selects "java/lang/StringBuilder" ({ cls := "java/lang/StringBuilder", name := "append", desc := "(Ljava/lang/String;)Ljava/lang/StringBuilder;" } : MethodName) ({ cls := "java/lang/StringBuilder", name := "append", desc := "(Ljava/lang/String;)Ljava/lang/StringBuilder;" } : MethodName) ∈ tb := tb_i 480 (by decide +kernel) rfl
set_option maxRecDepth 20000 in
theorem k_473 : Cond.code ({ cls := "java/lang/StringBuilder", name := "append", desc := "(Ljava/lang/String;)Ljava/lang/StringBuilder;" } : MethodName) prog_8_method_7_code (2 : Nat) (Option.some (FieldType.object "java/lang/StringBuilder")) ∈ tb := tb_i 481 rfl rfl
theorem k_474 : Cond.methodLink "java/lang/StringBuilder" (29 : Nat) ({ cls := "java/lang/AbstractStringBuilder", name := "append", desc := "(Ljava/lang/String;)Ljava/lang/AbstractStringBuilder;" } : MethodName) ∈ tb := tb_i 482 (by decide +kernel) rfl
theorem k_475 : Cond.instanceMethod ({ cls := "java/lang/AbstractStringBuilder", name := "append", desc := "(Ljava/lang/String;)Ljava/lang/AbstractStringBuilder;" } : MethodName) ∈ tb := tb_i 483 (by decide +kernel) rfl
set_option maxRecDepth 20000 in
theorem k_476 : Cond.code ({ cls := "java/lang/AbstractStringBuilder", name := "append", desc := "(Ljava/lang/String;)Ljava/lang/AbstractStringBuilder;" } : MethodName) prog_3_method_22_code (3 : Nat) (Option.some (FieldType.object "java/lang/AbstractStringBuilder")) ∈ tb := tb_i 484 rfl rfl
theorem k_477 : Cond.methodLink "java/lang/AbstractStringBuilder" (204 : Nat) ({ cls := "java/lang/AbstractStringBuilder", name := "appendNull", desc := "()Ljava/lang/AbstractStringBuilder;" } : MethodName) ∈ tb := tb_i 485 (by decide +kernel) rfl
theorem k_479 : Cond.instanceMethod ({ cls := "java/lang/AbstractStringBuilder", name := "appendNull", desc := "()Ljava/lang/AbstractStringBuilder;" } : MethodName) ∈ tb := tb_i 487 (by decide +kernel) rfl
set_option maxRecDepth 20000 in
theorem k_480 : Cond.code ({ cls := "java/lang/AbstractStringBuilder", name := "appendNull", desc := "()Ljava/lang/AbstractStringBuilder;" } : MethodName) prog_3_method_26_code (3 : Nat) (Option.some (FieldType.object "java/lang/AbstractStringBuilder")) ∈ tb := tb_i 488 rfl rfl
theorem k_484 : Cond.methodLink "java/lang/AbstractStringBuilder" (32 : Nat) ({ cls := "java/lang/String", name := "length", desc := "()I" } : MethodName) ∈ tb := tb_i 492 (by decide +kernel) rfl
theorem k_485 : Cond.methodLink "java/lang/AbstractStringBuilder" (208 : Nat) ({ cls := "java/lang/AbstractStringBuilder", name := "putStringAt", desc := "(ILjava/lang/String;)V" } : MethodName) ∈ tb := tb_i 493 (by decide +kernel) rfl
theorem k_487 : Cond.instanceMethod ({ cls := "java/lang/AbstractStringBuilder", name := "putStringAt", desc := "(ILjava/lang/String;)V" } : MethodName) ∈ tb := tb_i 495 (by decide +kernel) rfl
set_option maxRecDepth 20000 in
theorem k_488 : Cond.code ({ cls := "java/lang/AbstractStringBuilder", name := "putStringAt", desc := "(ILjava/lang/String;)V" } : MethodName) prog_3_method_73_code (3 : Nat) (Option.none : Option FieldType) ∈ tb := tb_i 496 rfl rfl
theorem k_489 : Cond.methodLink "java/lang/AbstractStringBuilder" (397 : Nat) ({ cls := "java/lang/AbstractStringBuilder", name := "inflateIfNeededFor", desc := "(Ljava/lang/String;)V" } : MethodName) ∈ tb := tb_i 497 (by decide +kernel) rfl
theorem k_491 : Cond.instanceMethod ({ cls := "java/lang/AbstractStringBuilder", name := "inflateIfNeededFor", desc := "(Ljava/lang/String;)V" } : MethodName) ∈ tb := tb_i 499 (by decide +kernel) rfl
set_option maxRecDepth 20000 in
theorem k_492 : Cond.code ({ cls := "java/lang/AbstractStringBuilder", name := "inflateIfNeededFor", desc := "(Ljava/lang/String;)V" } : MethodName) prog_3_method_71_code (2 : Nat) (Option.none : Option FieldType) ∈ tb := tb_i 500 rfl rfl
theorem k_493 : Cond.methodLink "java/lang/AbstractStringBuilder" (40 : Nat) ({ cls := "java/lang/String", name := "coder", desc := "()B" } : MethodName) ∈ tb := tb_i 501 (by decide +kernel) rfl
theorem k_494 : Cond.methodLink "java/lang/AbstractStringBuilder" (399 : Nat) ({ cls := "java/lang/String", name := "getBytes", desc := "([BIB)V" } : MethodName) ∈ tb := tb_i 502 (by decide +kernel) rfl
theorem k_495 : Cond.instanceMethod ({ cls := "java/lang/String", name := "getBytes", desc := "([BIB)V" } : MethodName) ∈ tb := tb_i 503 (by decide +kernel) rfl
theorem k_496 : Cond.selects "java/lang/String" ({ cls := "java/lang/String", name := "getBytes", desc := "([BIB)V" } : MethodName) ({ cls := "java/lang/String", name := "getBytes", desc := "([BIB)V" } : MethodName) ∈ tb := tb_i 504 (by decide +kernel) rfl
set_option maxRecDepth 20000 in
theorem k_497 : Cond.code ({ cls := "java/lang/String", name := "getBytes", desc := "([BIB)V" } : MethodName) prog_7_method_147_code (4 : Nat) (Option.none : Option FieldType) ∈ tb := tb_i 505 rfl rfl
theorem k_498 : Cond.methodLink "java/lang/String" (212 : Nat) ({ cls := "java/lang/System", name := "arraycopy", desc := "(Ljava/lang/Object;ILjava/lang/Object;II)V" } : MethodName) ∈ tb := tb_i 506 (by decide +kernel) rfl
theorem k_499 : Cond.methodLink "java/lang/String" (106 : Nat) ({ cls := "java/lang/StringLatin1", name := "inflate", desc := "([BI[BII)V" } : MethodName) ∈ tb := tb_i 507 (by decide +kernel) rfl
theorem k_502 : Cond.methodLink "TokenDrillLaw" (22 : Nat) ({ cls := "java/lang/StringBuilder", name := "toString", desc := "()Ljava/lang/String;" } : MethodName) ∈ tb := tb_i 510 (by decide +kernel) rfl
theorem k_503 : Cond.methodLink "TokenDrillLaw" (57 : Nat) ({ cls := "java/lang/String", name := "length", desc := "()I" } : MethodName) ∈ tb := tb_i 511 (by decide +kernel) rfl
theorem k_504 : Cond.methodLink "TokenDrillLaw" (62 : Nat) ({ cls := "java/lang/String", name := "charAt", desc := "(I)C" } : MethodName) ∈ tb := tb_i 512 (by decide +kernel) rfl
theorem k_505 : Cond.arrayClass FieldType.char ∈ tb := tb_i 513 (by decide +kernel) rfl
theorem k_506 : Cond.sameMethod "java/lang/AbstractStringBuilder" "java/lang/AbstractStringBuilder" "append" "(C)Ljava/lang/AbstractStringBuilder;" ∈ tb := tb_i 514 (by decide +kernel) rfl
theorem k_507 : Cond.sameMethod "java/lang/AbstractStringBuilder" "java/lang/AbstractStringBuilder" "ensureCapacityInternal" "(I)V" ∈ tb := tb_i 515 (by decide +kernel) rfl
theorem k_508 : Cond.sameMethod "java/lang/AbstractStringBuilder" "java/lang/AbstractStringBuilder" "newCapacity" "(I)I" ∈ tb := tb_i 516 (by decide +kernel) rfl
theorem k_509 : Cond.sameMethod "java/lang/AbstractStringBuilder" "java/lang/AbstractStringBuilder" "inflate" "()V" ∈ tb := tb_i 517 (by decide +kernel) rfl
theorem k_510 : Cond.sameMethod "java/lang/AbstractStringBuilder" "java/lang/AbstractStringBuilder" "setLength" "(I)V" ∈ tb := tb_i 518 (by decide +kernel) rfl
theorem k_511 : Cond.sameMethod "java/lang/AbstractStringBuilder" "java/lang/AbstractStringBuilder" "append" "(Ljava/lang/String;)Ljava/lang/AbstractStringBuilder;" ∈ tb := tb_i 519 (by decide +kernel) rfl
theorem k_512 : Cond.sameMethod "java/lang/AbstractStringBuilder" "java/lang/AbstractStringBuilder" "appendNull" "()Ljava/lang/AbstractStringBuilder;" ∈ tb := tb_i 520 (by decide +kernel) rfl
theorem k_513 : Cond.sameMethod "java/lang/AbstractStringBuilder" "java/lang/AbstractStringBuilder" "putStringAt" "(ILjava/lang/String;)V" ∈ tb := tb_i 521 (by decide +kernel) rfl
theorem k_514 : Cond.sameMethod "java/lang/AbstractStringBuilder" "java/lang/AbstractStringBuilder" "inflateIfNeededFor" "(Ljava/lang/String;)V" ∈ tb := tb_i 522 (by decide +kernel) rfl
theorem ks_ASB_ensure : Cond.selects "java/lang/StringBuilder" y_ASB_ensure y_ASB_ensure ∈ tb := tb_i 0 (by decide +kernel) rfl
theorem ks_ASB_newCap : Cond.selects "java/lang/StringBuilder" y_ASB_newCap y_ASB_newCap ∈ tb := tb_i 1 (by decide +kernel) rfl
theorem ks_ASB_putStr : Cond.selects "java/lang/StringBuilder" y_ASB_putStr y_ASB_putStr ∈ tb := tb_i 2 (by decide +kernel) rfl
theorem ks_ASB_infl : Cond.selects "java/lang/StringBuilder" y_ASB_infl y_ASB_infl ∈ tb := tb_i 3 (by decide +kernel) rfl
theorem ks_TK_setMax : Cond.selects "java/util/StringTokenizer" ⟨"java/util/StringTokenizer", "setMaxDelimCodePoint", "()V"⟩ ⟨"java/util/StringTokenizer", "setMaxDelimCodePoint", "()V"⟩ ∈ tb := tb_i 4 (by decide +kernel) rfl
theorem ks_TK_skip : Cond.selects "java/util/StringTokenizer" ⟨"java/util/StringTokenizer", "skipDelimiters", "(I)I"⟩ ⟨"java/util/StringTokenizer", "skipDelimiters", "(I)I"⟩ ∈ tb := tb_i 5 (by decide +kernel) rfl
theorem ks_TK_scan : Cond.selects "java/util/StringTokenizer" ⟨"java/util/StringTokenizer", "scanToken", "(I)I"⟩ ⟨"java/util/StringTokenizer", "scanToken", "(I)I"⟩ ∈ tb := tb_i 7 (by decide +kernel) rfl
theorem tb_holds {s : State} {args : Array Value} (h : ∀ w ∈ lw_tbl, w.before args s = true) : ∀ w ∈ tb, w.before args s = true := by
  intro w hw
  rcases List.mem_append.mp (List.mem_filter.mp hw).1 with hw | hw
  · simp only [sx_sels, List.mem_cons, List.not_mem_nil, or_false] at hw
    rcases hw with rfl | rfl | rfl | rfl
    · exact sx_selects ⟨by decide +kernel, by decide +kernel⟩ (n := 4) (h _ (List.mem_append_right _ (List.mem_of_getElem? (i := 23) (by decide +kernel)))) (h _ (List.mem_append_right _ (List.mem_of_getElem? (i := 507) (by decide +kernel)))) (h _ (List.mem_append_right _ (List.mem_of_getElem? (i := 195) (by decide +kernel)))) (h _ (List.mem_append_right _ (List.mem_of_getElem? (i := 196) (by decide +kernel))))
    · exact sx_selects ⟨by decide +kernel, by decide +kernel⟩ (n := 4) (h _ (List.mem_append_right _ (List.mem_of_getElem? (i := 23) (by decide +kernel)))) (h _ (List.mem_append_right _ (List.mem_of_getElem? (i := 508) (by decide +kernel)))) (h _ (List.mem_append_right _ (List.mem_of_getElem? (i := 199) (by decide +kernel)))) (h _ (List.mem_append_right _ (List.mem_of_getElem? (i := 200) (by decide +kernel))))
    · exact sx_selects ⟨by decide +kernel, by decide +kernel⟩ (n := 4) (h _ (List.mem_append_right _ (List.mem_of_getElem? (i := 23) (by decide +kernel)))) (h _ (List.mem_append_right _ (List.mem_of_getElem? (i := 513) (by decide +kernel)))) (h _ (List.mem_append_right _ (List.mem_of_getElem? (i := 486) (by decide +kernel)))) (h _ (List.mem_append_right _ (List.mem_of_getElem? (i := 487) (by decide +kernel))))
    · exact sx_selects ⟨by decide +kernel, by decide +kernel⟩ (n := 4) (h _ (List.mem_append_right _ (List.mem_of_getElem? (i := 23) (by decide +kernel)))) (h _ (List.mem_append_right _ (List.mem_of_getElem? (i := 514) (by decide +kernel)))) (h _ (List.mem_append_right _ (List.mem_of_getElem? (i := 490) (by decide +kernel)))) (h _ (List.mem_append_right _ (List.mem_of_getElem? (i := 491) (by decide +kernel))))
  · exact h w hw
end
section
abbrev b_PRE_checkIndex : ByteArray := prog_15_method_11_code
def y_PRE_checkIndex : MethodName := ⟨"jdk/internal/util/Preconditions", "checkIndex", "(IILjava/util/function/BiFunction;)I"⟩
abbrev b_PRE_checkFromTo : ByteArray := prog_15_method_12_code
def y_PRE_checkFromTo : MethodName := ⟨"jdk/internal/util/Preconditions", "checkFromToIndex", "(IIILjava/util/function/BiFunction;)I"⟩
abbrev b_STR_checkIndex : ByteArray := prog_7_method_155_code
def y_STR_checkIndex : MethodName := ⟨"java/lang/String", "checkIndex", "(II)V"⟩
abbrev b_STR_checkBBE : ByteArray := prog_7_method_158_code
def y_STR_checkBBE : MethodName := ⟨"java/lang/String", "checkBoundsBeginEnd", "(III)V"⟩
abbrev b_STR_coder : ByteArray := prog_7_method_152_code
def y_STR_coder : MethodName := ⟨"java/lang/String", "coder", "()B"⟩
abbrev b_STR_isLatin1 : ByteArray := prog_7_method_154_code
def y_STR_isLatin1 : MethodName := ⟨"java/lang/String", "isLatin1", "()Z"⟩
abbrev b_STR_length : ByteArray := prog_7_method_54_code
def y_STR_length : MethodName := ⟨"java/lang/String", "length", "()I"⟩
abbrev b_L1_charAt : ByteArray := prog_9_method_2_code
def y_L1_charAt : MethodName := ⟨"java/lang/StringLatin1", "charAt", "([BI)C"⟩
abbrev b_STR_charAt : ByteArray := prog_7_method_56_code
def y_STR_charAt : MethodName := ⟨"java/lang/String", "charAt", "(I)C"⟩
abbrev b_L1_canC : ByteArray := prog_9_method_3_code
def y_L1_canC : MethodName := ⟨"java/lang/StringLatin1", "canEncode", "(C)Z"⟩
abbrev b_L1_canI : ByteArray := prog_9_method_4_code
def y_L1_canI : MethodName := ⟨"java/lang/StringLatin1", "canEncode", "(I)Z"⟩
abbrev b_L1_ixChar : ByteArray := prog_9_method_23_code
def y_L1_ixChar : MethodName := ⟨"java/lang/StringLatin1", "indexOfChar", "([BIII)I"⟩
abbrev b_L1_ix : ByteArray := prog_9_method_22_code
def y_L1_ix : MethodName := ⟨"java/lang/StringLatin1", "indexOf", "([BIII)I"⟩
abbrev b_STR_ix2 : ByteArray := prog_7_method_80_code
def y_STR_ix2 : MethodName := ⟨"java/lang/String", "indexOf", "(II)I"⟩
abbrev b_STR_ix1 : ByteArray := prog_7_method_79_code
def y_STR_ix1 : MethodName := ⟨"java/lang/String", "indexOf", "(I)I"⟩
abbrev b_CHR_count : ByteArray := prog_4_method_18_code
def y_CHR_count : MethodName := ⟨"java/lang/Character", "charCount", "(I)I"⟩
abbrev b_ARR_checkLength : ByteArray := prog_12_method_131_code
def y_ARR_checkLength : MethodName := ⟨"java/util/Arrays", "checkLength", "(II)V"⟩
abbrev b_AS_newLength : ByteArray := prog_14_method_27_code
def y_AS_newLength : MethodName := ⟨"jdk/internal/util/ArraysSupport", "newLength", "(III)I"⟩
abbrev b_TK_skip : ByteArray := prog_13_method_5_code
def y_TK_skip : MethodName := ⟨"java/util/StringTokenizer", "skipDelimiters", "(I)I"⟩
abbrev b_TK_scan : ByteArray := prog_13_method_6_code
def y_TK_scan : MethodName := ⟨"java/util/StringTokenizer", "scanToken", "(I)I"⟩
abbrev b_TK_count : ByteArray := prog_13_method_13_code
def y_TK_count : MethodName := ⟨"java/util/StringTokenizer", "countTokens", "()I"⟩
abbrev b_ARR_corb : ByteArray := prog_12_method_133_code
def y_ARR_corb : MethodName := ⟨"java/util/Arrays", "copyOfRangeByte", "([BII)[B"⟩
abbrev b_ARR_cor : ByteArray := prog_12_method_132_code
def y_ARR_cor : MethodName := ⟨"java/util/Arrays", "copyOfRange", "([BII)[B"⟩
abbrev b_ARR_copyOf : ByteArray := prog_12_method_121_code
def y_ARR_copyOf : MethodName := ⟨"java/util/Arrays", "copyOf", "([BI)[B"⟩
abbrev b_STR_initBB : ByteArray := prog_7_method_151_code
def y_STR_initBB : MethodName := ⟨"java/lang/String", "<init>", "([BB)V"⟩
abbrev b_L1_newString : ByteArray := prog_9_method_47_code
def y_L1_newString : MethodName := ⟨"java/lang/StringLatin1", "newString", "([BII)Ljava/lang/String;"⟩
abbrev b_STR_substring : ByteArray := prog_7_method_92_code
def y_STR_substring : MethodName := ⟨"java/lang/String", "substring", "(II)Ljava/lang/String;"⟩
abbrev b_ASB_init : ByteArray := prog_3_method_2_code
def y_ASB_init : MethodName := ⟨"java/lang/AbstractStringBuilder", "<init>", "(I)V"⟩
abbrev b_SB_init : ByteArray := prog_8_method_1_code
def y_SB_init : MethodName := ⟨"java/lang/StringBuilder", "<init>", "()V"⟩
abbrev b_ASB_isLatin1 : ByteArray := prog_3_method_68_code
def y_ASB_isLatin1 : MethodName := ⟨"java/lang/AbstractStringBuilder", "isLatin1", "()Z"⟩
abbrev b_ASB_getValue : ByteArray := prog_3_method_64_code
def y_ASB_getValue : MethodName := ⟨"java/lang/AbstractStringBuilder", "getValue", "()[B"⟩
abbrev b_ASB_length : ByteArray := prog_3_method_6_code
def y_ASB_length : MethodName := ⟨"java/lang/AbstractStringBuilder", "length", "()I"⟩
abbrev b_SB_length : ByteArray := prog_8_method_93_code
def y_SB_length : MethodName := ⟨"java/lang/StringBuilder", "length", "()I"⟩
abbrev b_ASB_newCap : ByteArray := prog_3_method_10_code
abbrev b_ASB_ensure : ByteArray := prog_3_method_9_code
abbrev b_ASB_appC : ByteArray := prog_3_method_31_code
def y_ASB_appC : MethodName := ⟨"java/lang/AbstractStringBuilder", "append", "(C)Ljava/lang/AbstractStringBuilder;"⟩
abbrev b_SB_appC : ByteArray := prog_8_method_14_code
def y_SB_appC : MethodName := ⟨"java/lang/StringBuilder", "append", "(C)Ljava/lang/StringBuilder;"⟩
abbrev b_ASB_setLen : ByteArray := prog_3_method_13_code
def y_ASB_setLen : MethodName := ⟨"java/lang/AbstractStringBuilder", "setLength", "(I)V"⟩
abbrev b_SB_setLen : ByteArray := prog_8_method_89_code
def y_SB_setLen : MethodName := ⟨"java/lang/StringBuilder", "setLength", "(I)V"⟩
abbrev b_ASB_infl : ByteArray := prog_3_method_71_code
abbrev b_STR_getBytes : ByteArray := prog_7_method_147_code
def y_STR_getBytes : MethodName := ⟨"java/lang/String", "getBytes", "([BIB)V"⟩
abbrev b_ASB_putStr : ByteArray := prog_3_method_73_code
abbrev b_ASB_appS : ByteArray := prog_3_method_22_code
def y_ASB_appS : MethodName := ⟨"java/lang/AbstractStringBuilder", "append", "(Ljava/lang/String;)Ljava/lang/AbstractStringBuilder;"⟩
abbrev b_SB_appS : ByteArray := prog_8_method_7_code
def y_SB_appS : MethodName := ⟨"java/lang/StringBuilder", "append", "(Ljava/lang/String;)Ljava/lang/StringBuilder;"⟩
abbrev b_STR_initAV : ByteArray := prog_7_method_150_code
def y_STR_initAV : MethodName := ⟨"java/lang/String", "<init>", "(Ljava/lang/AbstractStringBuilder;Ljava/lang/Void;)V"⟩
abbrev b_STR_initSB : ByteArray := prog_7_method_53_code
def y_STR_initSB : MethodName := ⟨"java/lang/String", "<init>", "(Ljava/lang/StringBuilder;)V"⟩
abbrev b_SB_toString : ByteArray := prog_8_method_42_code
def y_SB_toString : MethodName := ⟨"java/lang/StringBuilder", "toString", "()Ljava/lang/String;"⟩
abbrev b_TK_setMax : ByteArray := prog_13_method_1_code
def y_TK_setMax : MethodName := ⟨"java/util/StringTokenizer", "setMaxDelimCodePoint", "()V"⟩
abbrev b_TK_init : ByteArray := prog_13_method_2_code
def y_TK_init : MethodName := ⟨"java/util/StringTokenizer", "<init>", "(Ljava/lang/String;Ljava/lang/String;Z)V"⟩
abbrev b_TK_has : ByteArray := prog_13_method_8_code
def y_TK_has : MethodName := ⟨"java/util/StringTokenizer", "hasMoreTokens", "()Z"⟩
abbrev b_TK_next : ByteArray := prog_13_method_9_code
def y_TK_next : MethodName := ⟨"java/util/StringTokenizer", "nextToken", "()Ljava/lang/String;"⟩
abbrev b_TD_init : ByteArray := prog_1_method_1_code
def y_TD_init : MethodName := ⟨"TokenDrill", "<init>", "()V"⟩
abbrev b_TD_type : ByteArray := prog_1_method_2_code
def y_TD_type : MethodName := ⟨"TokenDrill", "type", "(C)V"⟩
abbrev b_TD_clear : ByteArray := prog_1_method_3_code
def y_TD_clear : MethodName := ⟨"TokenDrill", "clear", "()V"⟩
abbrev b_TD_begin : ByteArray := prog_1_method_4_code
def y_TD_begin : MethodName := ⟨"TokenDrill", "begin", "(Ljava/lang/String;Z)V"⟩
abbrev b_TD_more : ByteArray := prog_1_method_5_code
def y_TD_more : MethodName := ⟨"TokenDrill", "more", "()Z"⟩
abbrev b_TD_left : ByteArray := prog_1_method_6_code
def y_TD_left : MethodName := ⟨"TokenDrill", "left", "()I"⟩
abbrev b_TD_next : ByteArray := prog_1_method_7_code
def y_TD_next : MethodName := ⟨"TokenDrill", "next", "()Ljava/lang/String;"⟩
abbrev b_LAW_sign : ByteArray := method_2_code
def y_LAW_sign : MethodName := ⟨"TokenDrillLaw", "sign", "(II)Z"⟩
abbrev b_LAW_signs : ByteArray := method_3_code
def y_LAW_signs : MethodName := ⟨"TokenDrillLaw", "signs", "(I)Ljava/lang/String;"⟩
def R_TD : String := "TokenDrill"
def F_TD : u_T := fun k => match k with
  | 0 => ("TokenDrill", "text", "Ljava/lang/StringBuilder;", true)
  | _ => ("TokenDrill", "cut", "Ljava/util/StringTokenizer;", false)
def t_TD : Nat → FieldType := fun k => match k with
  | 0 => .object "java/lang/StringBuilder"
  | _ => .object "java/util/StringTokenizer"
abbrev w_TD : List Cond := u_ws R_TD F_TD 2
theorem n_TD : ∀ a, a < 2 → ∀ b, b < 2 → a ≠ b → (F_TD a).2.1 ≠ (F_TD b).2.1 := by decide +kernel
theorem t_TD_ok : ∀ k, k < 2 → parseFieldDescriptor (F_TD k).2.2.1 = some (t_TD k) := by decide +kernel
theorem i_TD : ∀ w ∈ w_TD, w ∈ tb := by
  intro w hw
  have hw : w ∈ ([u_lay R_TD F_TD 0, u_lay R_TD F_TD 1] : List Cond) := hw
  simp only [List.mem_cons, List.not_mem_nil, or_false] at hw
  rcases hw with rfl | rfl
  · exact k_178
  · exact k_180
def R_SB : String := "java/lang/StringBuilder"
def F_SB : u_T := fun k => match k with
  | 0 => ("java/lang/AbstractStringBuilder", "value", "[B", false)
  | 1 => ("java/lang/AbstractStringBuilder", "coder", "B", false)
  | 2 => ("java/lang/AbstractStringBuilder", "maybeLatin1", "Z", false)
  | _ => ("java/lang/AbstractStringBuilder", "count", "I", false)
def t_SB : Nat → FieldType := fun k => match k with
  | 0 => .array .byte
  | 1 => .byte
  | 2 => .boolean
  | _ => .int
abbrev w_SB : List Cond := u_ws R_SB F_SB 4
theorem n_SB : ∀ a, a < 4 → ∀ b, b < 4 → a ≠ b → (F_SB a).2.1 ≠ (F_SB b).2.1 := by decide +kernel
theorem t_SB_ok : ∀ k, k < 4 → parseFieldDescriptor (F_SB k).2.2.1 = some (t_SB k) := by decide +kernel
theorem i_SB : ∀ w ∈ w_SB, w ∈ tb := by
  intro w hw
  have hw : w ∈ ([u_lay R_SB F_SB 0, u_lay R_SB F_SB 1, u_lay R_SB F_SB 2, u_lay R_SB F_SB 3] : List Cond) := hw
  simp only [List.mem_cons, List.not_mem_nil, or_false] at hw
  rcases hw with rfl | rfl | rfl | rfl
  · exact k_45
  · exact k_47
  · exact k_49
  · exact k_51
def R_TK : String := "java/util/StringTokenizer"
def F_TK : u_T := fun k => match k with
  | 0 => ("java/util/StringTokenizer", "currentPosition", "I", false)
  | 1 => ("java/util/StringTokenizer", "newPosition", "I", false)
  | 2 => ("java/util/StringTokenizer", "maxPosition", "I", false)
  | 3 => ("java/util/StringTokenizer", "str", "Ljava/lang/String;", false)
  | 4 => ("java/util/StringTokenizer", "delimiters", "Ljava/lang/String;", false)
  | 5 => ("java/util/StringTokenizer", "retDelims", "Z", false)
  | 6 => ("java/util/StringTokenizer", "delimsChanged", "Z", false)
  | 7 => ("java/util/StringTokenizer", "maxDelimCodePoint", "I", false)
  | 8 => ("java/util/StringTokenizer", "hasSurrogates", "Z", false)
  | _ => ("java/util/StringTokenizer", "delimiterCodePoints", "[I", false)
def t_TK : Nat → FieldType := fun k => match k with
  | 0 => .int
  | 1 => .int
  | 2 => .int
  | 3 => .object "java/lang/String"
  | 4 => .object "java/lang/String"
  | 5 => .boolean
  | 6 => .boolean
  | 7 => .int
  | 8 => .boolean
  | _ => .array .int
abbrev w_TK : List Cond := u_ws R_TK F_TK 10
theorem n_TK : ∀ a, a < 10 → ∀ b, b < 10 → a ≠ b → (F_TK a).2.1 ≠ (F_TK b).2.1 := by decide +kernel
theorem t_TK_ok : ∀ k, k < 10 → parseFieldDescriptor (F_TK k).2.2.1 = some (t_TK k) := by decide +kernel
theorem i_TK : ∀ w ∈ w_TK, w ∈ tb := by
  intro w hw
  have hw : w ∈ ([u_lay R_TK F_TK 0, u_lay R_TK F_TK 1, u_lay R_TK F_TK 2, u_lay R_TK F_TK 3, u_lay R_TK F_TK 4, u_lay R_TK F_TK 5, u_lay R_TK F_TK 6, u_lay R_TK F_TK 7, u_lay R_TK F_TK 8, u_lay R_TK F_TK 9] : List Cond) := hw
  simp only [List.mem_cons, List.not_mem_nil, or_false] at hw
  rcases hw with rfl | rfl | rfl | rfl | rfl | rfl | rfl | rfl | rfl | rfl
  · exact k_154
  · exact k_156
  · exact k_158
  · exact k_160
  · exact k_162
  · exact k_164
  · exact k_166
  · exact k_168
  · exact k_170
  · exact k_172
def R_STR : String := "java/lang/String"
def F_STR : u_T := fun k => match k with
  | 0 => ("java/lang/String", "value", "[B", true)
  | 1 => ("java/lang/String", "coder", "B", true)
  | 2 => ("java/lang/String", "hash", "I", false)
  | _ => ("java/lang/String", "hashIsZero", "Z", false)
def t_STR : Nat → FieldType := fun k => match k with
  | 0 => .array .byte
  | 1 => .byte
  | 2 => .int
  | _ => .boolean
abbrev w_STR : List Cond := u_ws R_STR F_STR 4
theorem n_STR : ∀ a, a < 4 → ∀ b, b < 4 → a ≠ b → (F_STR a).2.1 ≠ (F_STR b).2.1 := by decide +kernel
theorem t_STR_ok : ∀ k, k < 4 → parseFieldDescriptor (F_STR k).2.2.1 = some (t_STR k) := by decide +kernel
theorem i_STR : ∀ w ∈ w_STR, w ∈ tb := by
  intro w hw
  have hw : w ∈ ([u_lay R_STR F_STR 0, u_lay R_STR F_STR 1, u_lay R_STR F_STR 2, u_lay R_STR F_STR 3] : List Cond) := hw
  simp only [List.mem_cons, List.not_mem_nil, or_false] at hw
  rcases hw with rfl | rfl | rfl | rfl
  · exact k_338
  · exact k_340
  · exact k_342
  · exact k_344
abbrev classes : List vw_C := [(R_TD, F_TD, 2), (R_SB, F_SB, 4), (R_TK, F_TK, 10), (R_STR, F_STR, 4)]
end
section
theorem d_PRE_checkIndex_0 : decode b_PRE_checkIndex 0 = .ok (.iload_n 0, 1) := by decide +kernel
theorem d_PRE_checkIndex_1 : decode b_PRE_checkIndex 1 = .ok (.ifCond .lt 8, 3) := by decide +kernel
theorem d_PRE_checkIndex_4 : decode b_PRE_checkIndex 4 = .ok (.iload_n 0, 1) := by decide +kernel
theorem d_PRE_checkIndex_5 : decode b_PRE_checkIndex 5 = .ok (.iload_n 1, 1) := by decide +kernel
theorem d_PRE_checkIndex_6 : decode b_PRE_checkIndex 6 = .ok (.if_icmp .lt 10, 3) := by decide +kernel
theorem d_PRE_checkIndex_9 : decode b_PRE_checkIndex 9 = .ok (.aload_n 2, 1) := by decide +kernel
theorem d_PRE_checkIndex_10 : decode b_PRE_checkIndex 10 = .ok (.iload_n 0, 1) := by decide +kernel
theorem d_PRE_checkIndex_11 : decode b_PRE_checkIndex 11 = .ok (.iload_n 1, 1) := by decide +kernel
theorem d_PRE_checkIndex_12 : decode b_PRE_checkIndex 12 = .ok (.invokestatic 95, 3) := by decide +kernel
theorem d_PRE_checkIndex_15 : decode b_PRE_checkIndex 15 = .ok (.athrow, 1) := by decide +kernel
theorem d_PRE_checkIndex_16 : decode b_PRE_checkIndex 16 = .ok (.iload_n 0, 1) := by decide +kernel
theorem d_PRE_checkIndex_17 : decode b_PRE_checkIndex 17 = .ok (.ireturn, 1) := by decide +kernel
theorem d_PRE_checkFromTo_0 : decode b_PRE_checkFromTo 0 = .ok (.iload_n 0, 1) := by decide +kernel
theorem d_PRE_checkFromTo_1 : decode b_PRE_checkFromTo 1 = .ok (.ifCond .lt 13, 3) := by decide +kernel
theorem d_PRE_checkFromTo_4 : decode b_PRE_checkFromTo 4 = .ok (.iload_n 0, 1) := by decide +kernel
theorem d_PRE_checkFromTo_5 : decode b_PRE_checkFromTo 5 = .ok (.iload_n 1, 1) := by decide +kernel
theorem d_PRE_checkFromTo_6 : decode b_PRE_checkFromTo 6 = .ok (.if_icmp .gt 8, 3) := by decide +kernel
theorem d_PRE_checkFromTo_9 : decode b_PRE_checkFromTo 9 = .ok (.iload_n 1, 1) := by decide +kernel
theorem d_PRE_checkFromTo_10 : decode b_PRE_checkFromTo 10 = .ok (.iload_n 2, 1) := by decide +kernel
theorem d_PRE_checkFromTo_11 : decode b_PRE_checkFromTo 11 = .ok (.if_icmp .le 11, 3) := by decide +kernel
theorem d_PRE_checkFromTo_14 : decode b_PRE_checkFromTo 14 = .ok (.aload_n 3, 1) := by decide +kernel
theorem d_PRE_checkFromTo_15 : decode b_PRE_checkFromTo 15 = .ok (.iload_n 0, 1) := by decide +kernel
theorem d_PRE_checkFromTo_16 : decode b_PRE_checkFromTo 16 = .ok (.iload_n 1, 1) := by decide +kernel
theorem d_PRE_checkFromTo_17 : decode b_PRE_checkFromTo 17 = .ok (.iload_n 2, 1) := by decide +kernel
theorem d_PRE_checkFromTo_18 : decode b_PRE_checkFromTo 18 = .ok (.invokestatic 99, 3) := by decide +kernel
theorem d_PRE_checkFromTo_21 : decode b_PRE_checkFromTo 21 = .ok (.athrow, 1) := by decide +kernel
theorem d_PRE_checkFromTo_22 : decode b_PRE_checkFromTo 22 = .ok (.iload_n 0, 1) := by decide +kernel
theorem d_PRE_checkFromTo_23 : decode b_PRE_checkFromTo 23 = .ok (.ireturn, 1) := by decide +kernel
theorem d_STR_checkIndex_0 : decode b_STR_checkIndex 0 = .ok (.iload_n 0, 1) := by decide +kernel
theorem d_STR_checkIndex_1 : decode b_STR_checkIndex 1 = .ok (.iload_n 1, 1) := by decide +kernel
theorem d_STR_checkIndex_2 : decode b_STR_checkIndex 2 = .ok (.getstatic 1053, 3) := by decide +kernel
theorem d_STR_checkIndex_5 : decode b_STR_checkIndex 5 = .ok (.invokestatic 1059, 3) := by decide +kernel
theorem d_STR_checkIndex_8 : decode b_STR_checkIndex 8 = .ok (.pop, 1) := by decide +kernel
theorem d_STR_checkIndex_9 : decode b_STR_checkIndex 9 = .ok (.return_, 1) := by decide +kernel
theorem d_STR_checkBBE_0 : decode b_STR_checkBBE 0 = .ok (.iload_n 0, 1) := by decide +kernel
theorem d_STR_checkBBE_1 : decode b_STR_checkBBE 1 = .ok (.iload_n 1, 1) := by decide +kernel
theorem d_STR_checkBBE_2 : decode b_STR_checkBBE 2 = .ok (.iload_n 2, 1) := by decide +kernel
theorem d_STR_checkBBE_3 : decode b_STR_checkBBE 3 = .ok (.getstatic 1053, 3) := by decide +kernel
theorem d_STR_checkBBE_6 : decode b_STR_checkBBE 6 = .ok (.invokestatic 1062, 3) := by decide +kernel
theorem d_STR_checkBBE_9 : decode b_STR_checkBBE 9 = .ok (.pop, 1) := by decide +kernel
theorem d_STR_checkBBE_10 : decode b_STR_checkBBE 10 = .ok (.return_, 1) := by decide +kernel
theorem d_STR_coder_0 : decode b_STR_coder 0 = .ok (.getstatic 38, 3) := by decide +kernel
theorem d_STR_coder_3 : decode b_STR_coder 3 = .ok (.ifCond .eq 10, 3) := by decide +kernel
theorem d_STR_coder_6 : decode b_STR_coder 6 = .ok (.aload_n 0, 1) := by decide +kernel
theorem d_STR_coder_7 : decode b_STR_coder 7 = .ok (.getfield 15, 3) := by decide +kernel
theorem d_STR_coder_10 : decode b_STR_coder 10 = .ok (.goto 4, 3) := by decide +kernel
theorem d_STR_coder_13 : decode b_STR_coder 13 = .ok (.iconst 1, 1) := by decide +kernel
theorem d_STR_coder_14 : decode b_STR_coder 14 = .ok (.ireturn, 1) := by decide +kernel
theorem d_STR_isLatin1_0 : decode b_STR_isLatin1 0 = .ok (.getstatic 38, 3) := by decide +kernel
theorem d_STR_isLatin1_3 : decode b_STR_isLatin1 3 = .ok (.ifCond .eq 14, 3) := by decide +kernel
theorem d_STR_isLatin1_6 : decode b_STR_isLatin1 6 = .ok (.aload_n 0, 1) := by decide +kernel
theorem d_STR_isLatin1_7 : decode b_STR_isLatin1 7 = .ok (.getfield 15, 3) := by decide +kernel
theorem d_STR_isLatin1_10 : decode b_STR_isLatin1 10 = .ok (.ifCond .ne 7, 3) := by decide +kernel
theorem d_STR_isLatin1_13 : decode b_STR_isLatin1 13 = .ok (.iconst 1, 1) := by decide +kernel
theorem d_STR_isLatin1_14 : decode b_STR_isLatin1 14 = .ok (.goto 4, 3) := by decide +kernel
theorem d_STR_isLatin1_17 : decode b_STR_isLatin1 17 = .ok (.iconst 0, 1) := by decide +kernel
theorem d_STR_isLatin1_18 : decode b_STR_isLatin1 18 = .ok (.ireturn, 1) := by decide +kernel
theorem d_STR_length_0 : decode b_STR_length 0 = .ok (.aload_n 0, 1) := by decide +kernel
theorem d_STR_length_1 : decode b_STR_length 1 = .ok (.getfield 9, 3) := by decide +kernel
theorem d_STR_length_4 : decode b_STR_length 4 = .ok (.arraylength, 1) := by decide +kernel
theorem d_STR_length_5 : decode b_STR_length 5 = .ok (.aload_n 0, 1) := by decide +kernel
theorem d_STR_length_6 : decode b_STR_length 6 = .ok (.invokevirtual 335, 3) := by decide +kernel
theorem d_STR_length_9 : decode b_STR_length 9 = .ok (.ishr, 1) := by decide +kernel
theorem d_STR_length_10 : decode b_STR_length 10 = .ok (.ireturn, 1) := by decide +kernel
theorem d_L1_charAt_0 : decode b_L1_charAt 0 = .ok (.iload_n 1, 1) := by decide +kernel
theorem d_L1_charAt_1 : decode b_L1_charAt 1 = .ok (.aload_n 0, 1) := by decide +kernel
theorem d_L1_charAt_2 : decode b_L1_charAt 2 = .ok (.arraylength, 1) := by decide +kernel
theorem d_L1_charAt_3 : decode b_L1_charAt 3 = .ok (.invokestatic 9, 3) := by decide +kernel
theorem d_L1_charAt_6 : decode b_L1_charAt 6 = .ok (.aload_n 0, 1) := by decide +kernel
theorem d_L1_charAt_7 : decode b_L1_charAt 7 = .ok (.iload_n 1, 1) := by decide +kernel
theorem d_L1_charAt_8 : decode b_L1_charAt 8 = .ok (.baload, 1) := by decide +kernel
theorem d_L1_charAt_9 : decode b_L1_charAt 9 = .ok (.sipush 255, 3) := by decide +kernel
theorem d_L1_charAt_12 : decode b_L1_charAt 12 = .ok (.iand, 1) := by decide +kernel
theorem d_L1_charAt_13 : decode b_L1_charAt 13 = .ok (.i2c, 1) := by decide +kernel
theorem d_L1_charAt_14 : decode b_L1_charAt 14 = .ok (.ireturn, 1) := by decide +kernel
theorem d_STR_charAt_0 : decode b_STR_charAt 0 = .ok (.aload_n 0, 1) := by decide +kernel
theorem d_STR_charAt_1 : decode b_STR_charAt 1 = .ok (.invokevirtual 492, 3) := by decide +kernel
theorem d_STR_charAt_4 : decode b_STR_charAt 4 = .ok (.ifCond .eq 12, 3) := by decide +kernel
theorem d_STR_charAt_7 : decode b_STR_charAt 7 = .ok (.aload_n 0, 1) := by decide +kernel
theorem d_STR_charAt_8 : decode b_STR_charAt 8 = .ok (.getfield 9, 3) := by decide +kernel
theorem d_STR_charAt_11 : decode b_STR_charAt 11 = .ok (.iload_n 1, 1) := by decide +kernel
theorem d_STR_charAt_12 : decode b_STR_charAt 12 = .ok (.invokestatic 495, 3) := by decide +kernel
theorem d_STR_charAt_15 : decode b_STR_charAt 15 = .ok (.ireturn, 1) := by decide +kernel
theorem d_STR_charAt_16 : decode b_STR_charAt 16 = .ok (.aload_n 0, 1) := by decide +kernel
theorem d_STR_charAt_17 : decode b_STR_charAt 17 = .ok (.getfield 9, 3) := by decide +kernel
theorem d_STR_charAt_20 : decode b_STR_charAt 20 = .ok (.iload_n 1, 1) := by decide +kernel
theorem d_STR_charAt_21 : decode b_STR_charAt 21 = .ok (.invokestatic 498, 3) := by decide +kernel
theorem d_STR_charAt_24 : decode b_STR_charAt 24 = .ok (.ireturn, 1) := by decide +kernel
theorem d_L1_canC_0 : decode b_L1_canC 0 = .ok (.iload_n 0, 1) := by decide +kernel
theorem d_L1_canC_1 : decode b_L1_canC 1 = .ok (.sipush 255, 3) := by decide +kernel
theorem d_L1_canC_4 : decode b_L1_canC 4 = .ok (.if_icmp .gt 7, 3) := by decide +kernel
theorem d_L1_canC_7 : decode b_L1_canC 7 = .ok (.iconst 1, 1) := by decide +kernel
theorem d_L1_canC_8 : decode b_L1_canC 8 = .ok (.goto 4, 3) := by decide +kernel
theorem d_L1_canC_11 : decode b_L1_canC 11 = .ok (.iconst 0, 1) := by decide +kernel
theorem d_L1_canC_12 : decode b_L1_canC 12 = .ok (.ireturn, 1) := by decide +kernel
theorem d_L1_canI_0 : decode b_L1_canI 0 = .ok (.iload_n 0, 1) := by decide +kernel
theorem d_L1_canI_1 : decode b_L1_canI 1 = .ok (.ifCond .lt 14, 3) := by decide +kernel
theorem d_L1_canI_4 : decode b_L1_canI 4 = .ok (.iload_n 0, 1) := by decide +kernel
theorem d_L1_canI_5 : decode b_L1_canI 5 = .ok (.sipush 255, 3) := by decide +kernel
theorem d_L1_canI_8 : decode b_L1_canI 8 = .ok (.if_icmp .gt 7, 3) := by decide +kernel
theorem d_L1_canI_11 : decode b_L1_canI 11 = .ok (.iconst 1, 1) := by decide +kernel
theorem d_L1_canI_12 : decode b_L1_canI 12 = .ok (.goto 4, 3) := by decide +kernel
theorem d_L1_canI_15 : decode b_L1_canI 15 = .ok (.iconst 0, 1) := by decide +kernel
theorem d_L1_canI_16 : decode b_L1_canI 16 = .ok (.ireturn, 1) := by decide +kernel
theorem d_L1_ixChar_0 : decode b_L1_ixChar 0 = .ok (.iload_n 1, 1) := by decide +kernel
theorem d_L1_ixChar_1 : decode b_L1_ixChar 1 = .ok (.i2b, 1) := by decide +kernel
theorem d_L1_ixChar_2 : decode b_L1_ixChar 2 = .ok (.istore 4, 2) := by decide +kernel
theorem d_L1_ixChar_4 : decode b_L1_ixChar 4 = .ok (.iload_n 2, 1) := by decide +kernel
theorem d_L1_ixChar_5 : decode b_L1_ixChar 5 = .ok (.istore 5, 2) := by decide +kernel
theorem d_L1_ixChar_7 : decode b_L1_ixChar 7 = .ok (.iload 5, 2) := by decide +kernel
theorem d_L1_ixChar_9 : decode b_L1_ixChar 9 = .ok (.iload_n 3, 1) := by decide +kernel
theorem d_L1_ixChar_10 : decode b_L1_ixChar 10 = .ok (.if_icmp .ge 21, 3) := by decide +kernel
theorem d_L1_ixChar_13 : decode b_L1_ixChar 13 = .ok (.aload_n 0, 1) := by decide +kernel
theorem d_L1_ixChar_14 : decode b_L1_ixChar 14 = .ok (.iload 5, 2) := by decide +kernel
theorem d_L1_ixChar_16 : decode b_L1_ixChar 16 = .ok (.baload, 1) := by decide +kernel
theorem d_L1_ixChar_17 : decode b_L1_ixChar 17 = .ok (.iload 4, 2) := by decide +kernel
theorem d_L1_ixChar_19 : decode b_L1_ixChar 19 = .ok (.if_icmp .ne 6, 3) := by decide +kernel
theorem d_L1_ixChar_22 : decode b_L1_ixChar 22 = .ok (.iload 5, 2) := by decide +kernel
theorem d_L1_ixChar_24 : decode b_L1_ixChar 24 = .ok (.ireturn, 1) := by decide +kernel
theorem d_L1_ixChar_25 : decode b_L1_ixChar 25 = .ok (.iinc 5 1, 3) := by decide +kernel
theorem d_L1_ixChar_28 : decode b_L1_ixChar 28 = .ok (.goto (-21), 3) := by decide +kernel
theorem d_L1_ixChar_31 : decode b_L1_ixChar 31 = .ok (.iconst (-1), 1) := by decide +kernel
theorem d_L1_ixChar_32 : decode b_L1_ixChar 32 = .ok (.ireturn, 1) := by decide +kernel
theorem d_L1_ix_0 : decode b_L1_ix 0 = .ok (.iload_n 1, 1) := by decide +kernel
theorem d_L1_ix_1 : decode b_L1_ix 1 = .ok (.invokestatic 88, 3) := by decide +kernel
theorem d_L1_ix_4 : decode b_L1_ix 4 = .ok (.ifCond .ne 5, 3) := by decide +kernel
theorem d_L1_ix_7 : decode b_L1_ix 7 = .ok (.iconst (-1), 1) := by decide +kernel
theorem d_L1_ix_8 : decode b_L1_ix 8 = .ok (.ireturn, 1) := by decide +kernel
theorem d_L1_ix_9 : decode b_L1_ix 9 = .ok (.iload_n 2, 1) := by decide +kernel
theorem d_L1_ix_10 : decode b_L1_ix 10 = .ok (.iconst 0, 1) := by decide +kernel
theorem d_L1_ix_11 : decode b_L1_ix 11 = .ok (.invokestatic 92, 3) := by decide +kernel
theorem d_L1_ix_14 : decode b_L1_ix 14 = .ok (.istore_n 2, 1) := by decide +kernel
theorem d_L1_ix_15 : decode b_L1_ix 15 = .ok (.iload_n 3, 1) := by decide +kernel
theorem d_L1_ix_16 : decode b_L1_ix 16 = .ok (.aload_n 0, 1) := by decide +kernel
theorem d_L1_ix_17 : decode b_L1_ix 17 = .ok (.arraylength, 1) := by decide +kernel
theorem d_L1_ix_18 : decode b_L1_ix 18 = .ok (.invokestatic 38, 3) := by decide +kernel
theorem d_L1_ix_21 : decode b_L1_ix 21 = .ok (.istore_n 3, 1) := by decide +kernel
theorem d_L1_ix_22 : decode b_L1_ix 22 = .ok (.iload_n 2, 1) := by decide +kernel
theorem d_L1_ix_23 : decode b_L1_ix 23 = .ok (.iload_n 3, 1) := by decide +kernel
theorem d_L1_ix_24 : decode b_L1_ix 24 = .ok (.if_icmp .lt 5, 3) := by decide +kernel
theorem d_L1_ix_27 : decode b_L1_ix 27 = .ok (.iconst (-1), 1) := by decide +kernel
theorem d_L1_ix_28 : decode b_L1_ix 28 = .ok (.ireturn, 1) := by decide +kernel
theorem d_L1_ix_29 : decode b_L1_ix 29 = .ok (.aload_n 0, 1) := by decide +kernel
theorem d_L1_ix_30 : decode b_L1_ix 30 = .ok (.iload_n 1, 1) := by decide +kernel
theorem d_L1_ix_31 : decode b_L1_ix 31 = .ok (.iload_n 2, 1) := by decide +kernel
theorem d_L1_ix_32 : decode b_L1_ix 32 = .ok (.iload_n 3, 1) := by decide +kernel
theorem d_L1_ix_33 : decode b_L1_ix 33 = .ok (.invokestatic 95, 3) := by decide +kernel
theorem d_L1_ix_36 : decode b_L1_ix 36 = .ok (.ireturn, 1) := by decide +kernel
theorem d_STR_ix2_0 : decode b_STR_ix2 0 = .ok (.aload_n 0, 1) := by decide +kernel
theorem d_STR_ix2_1 : decode b_STR_ix2 1 = .ok (.invokevirtual 492, 3) := by decide +kernel
theorem d_STR_ix2_4 : decode b_STR_ix2 4 = .ok (.ifCond .eq 19, 3) := by decide +kernel
theorem d_STR_ix2_7 : decode b_STR_ix2 7 = .ok (.aload_n 0, 1) := by decide +kernel
theorem d_STR_ix2_8 : decode b_STR_ix2 8 = .ok (.getfield 9, 3) := by decide +kernel
theorem d_STR_ix2_11 : decode b_STR_ix2 11 = .ok (.iload_n 1, 1) := by decide +kernel
theorem d_STR_ix2_12 : decode b_STR_ix2 12 = .ok (.iload_n 2, 1) := by decide +kernel
theorem d_STR_ix2_13 : decode b_STR_ix2 13 = .ok (.aload_n 0, 1) := by decide +kernel
theorem d_STR_ix2_14 : decode b_STR_ix2 14 = .ok (.invokevirtual 505, 3) := by decide +kernel
theorem d_STR_ix2_17 : decode b_STR_ix2 17 = .ok (.invokestatic 637, 3) := by decide +kernel
theorem d_STR_ix2_20 : decode b_STR_ix2 20 = .ok (.goto 16, 3) := by decide +kernel
theorem d_STR_ix2_23 : decode b_STR_ix2 23 = .ok (.aload_n 0, 1) := by decide +kernel
theorem d_STR_ix2_24 : decode b_STR_ix2 24 = .ok (.getfield 9, 3) := by decide +kernel
theorem d_STR_ix2_27 : decode b_STR_ix2 27 = .ok (.iload_n 1, 1) := by decide +kernel
theorem d_STR_ix2_28 : decode b_STR_ix2 28 = .ok (.iload_n 2, 1) := by decide +kernel
theorem d_STR_ix2_29 : decode b_STR_ix2 29 = .ok (.aload_n 0, 1) := by decide +kernel
theorem d_STR_ix2_30 : decode b_STR_ix2 30 = .ok (.invokevirtual 505, 3) := by decide +kernel
theorem d_STR_ix2_33 : decode b_STR_ix2 33 = .ok (.invokestatic 640, 3) := by decide +kernel
theorem d_STR_ix2_36 : decode b_STR_ix2 36 = .ok (.ireturn, 1) := by decide +kernel
theorem d_STR_ix1_0 : decode b_STR_ix1 0 = .ok (.aload_n 0, 1) := by decide +kernel
theorem d_STR_ix1_1 : decode b_STR_ix1 1 = .ok (.iload_n 1, 1) := by decide +kernel
theorem d_STR_ix1_2 : decode b_STR_ix1 2 = .ok (.iconst 0, 1) := by decide +kernel
theorem d_STR_ix1_3 : decode b_STR_ix1 3 = .ok (.invokevirtual 633, 3) := by decide +kernel
theorem d_STR_ix1_6 : decode b_STR_ix1 6 = .ok (.ireturn, 1) := by decide +kernel
theorem d_CHR_count_0 : decode b_CHR_count 0 = .ok (.iload_n 0, 1) := by decide +kernel
theorem d_CHR_count_1 : decode b_CHR_count 1 = .ok (.ldc 73, 2) := by decide +kernel
theorem d_CHR_count_3 : decode b_CHR_count 3 = .ok (.if_icmp .lt 7, 3) := by decide +kernel
theorem d_CHR_count_6 : decode b_CHR_count 6 = .ok (.iconst 2, 1) := by decide +kernel
theorem d_CHR_count_7 : decode b_CHR_count 7 = .ok (.goto 4, 3) := by decide +kernel
theorem d_CHR_count_10 : decode b_CHR_count 10 = .ok (.iconst 1, 1) := by decide +kernel
theorem d_CHR_count_11 : decode b_CHR_count 11 = .ok (.ireturn, 1) := by decide +kernel
theorem d_ARR_checkLength_0 : decode b_ARR_checkLength 0 = .ok (.iload_n 1, 1) := by decide +kernel
theorem d_ARR_checkLength_1 : decode b_ARR_checkLength 1 = .ok (.iload_n 0, 1) := by decide +kernel
theorem d_ARR_checkLength_2 : decode b_ARR_checkLength 2 = .ok (.if_icmp .ge 35, 3) := by decide +kernel
theorem d_ARR_checkLength_5 : decode b_ARR_checkLength 5 = .ok (.new 43, 3) := by decide +kernel
theorem d_ARR_checkLength_8 : decode b_ARR_checkLength 8 = .ok (.dup, 1) := by decide +kernel
theorem d_ARR_checkLength_9 : decode b_ARR_checkLength 9 = .ok (.new 45, 3) := by decide +kernel
theorem d_ARR_checkLength_12 : decode b_ARR_checkLength 12 = .ok (.dup, 1) := by decide +kernel
theorem d_ARR_checkLength_13 : decode b_ARR_checkLength 13 = .ok (.invokespecial 47, 3) := by decide +kernel
theorem d_ARR_checkLength_16 : decode b_ARR_checkLength 16 = .ok (.iload_n 0, 1) := by decide +kernel
theorem d_ARR_checkLength_17 : decode b_ARR_checkLength 17 = .ok (.invokevirtual 54, 3) := by decide +kernel
theorem d_ARR_checkLength_20 : decode b_ARR_checkLength 20 = .ok (.ldc_w 337, 3) := by decide +kernel
theorem d_ARR_checkLength_23 : decode b_ARR_checkLength 23 = .ok (.invokevirtual 50, 3) := by decide +kernel
theorem d_ARR_checkLength_26 : decode b_ARR_checkLength 26 = .ok (.iload_n 1, 1) := by decide +kernel
theorem d_ARR_checkLength_27 : decode b_ARR_checkLength 27 = .ok (.invokevirtual 54, 3) := by decide +kernel
theorem d_ARR_checkLength_30 : decode b_ARR_checkLength 30 = .ok (.invokevirtual 61, 3) := by decide +kernel
theorem d_ARR_checkLength_33 : decode b_ARR_checkLength 33 = .ok (.invokespecial 65, 3) := by decide +kernel
theorem d_ARR_checkLength_36 : decode b_ARR_checkLength 36 = .ok (.athrow, 1) := by decide +kernel
theorem d_ARR_checkLength_37 : decode b_ARR_checkLength 37 = .ok (.return_, 1) := by decide +kernel
theorem d_AS_newLength_0 : decode b_AS_newLength 0 = .ok (.iload_n 0, 1) := by decide +kernel
theorem d_AS_newLength_1 : decode b_AS_newLength 1 = .ok (.iload_n 1, 1) := by decide +kernel
theorem d_AS_newLength_2 : decode b_AS_newLength 2 = .ok (.iload_n 2, 1) := by decide +kernel
theorem d_AS_newLength_3 : decode b_AS_newLength 3 = .ok (.invokestatic 194, 3) := by decide +kernel
theorem d_AS_newLength_6 : decode b_AS_newLength 6 = .ok (.iadd, 1) := by decide +kernel
theorem d_AS_newLength_7 : decode b_AS_newLength 7 = .ok (.istore_n 3, 1) := by decide +kernel
theorem d_AS_newLength_8 : decode b_AS_newLength 8 = .ok (.iconst 0, 1) := by decide +kernel
theorem d_AS_newLength_9 : decode b_AS_newLength 9 = .ok (.iload_n 3, 1) := by decide +kernel
theorem d_AS_newLength_10 : decode b_AS_newLength 10 = .ok (.if_icmp .ge 11, 3) := by decide +kernel
theorem d_AS_newLength_13 : decode b_AS_newLength 13 = .ok (.iload_n 3, 1) := by decide +kernel
theorem d_AS_newLength_14 : decode b_AS_newLength 14 = .ok (.ldc 200, 2) := by decide +kernel
theorem d_AS_newLength_16 : decode b_AS_newLength 16 = .ok (.if_icmp .gt 5, 3) := by decide +kernel
theorem d_AS_newLength_19 : decode b_AS_newLength 19 = .ok (.iload_n 3, 1) := by decide +kernel
theorem d_AS_newLength_20 : decode b_AS_newLength 20 = .ok (.ireturn, 1) := by decide +kernel
theorem d_AS_newLength_21 : decode b_AS_newLength 21 = .ok (.iload_n 0, 1) := by decide +kernel
theorem d_AS_newLength_22 : decode b_AS_newLength 22 = .ok (.iload_n 1, 1) := by decide +kernel
theorem d_AS_newLength_23 : decode b_AS_newLength 23 = .ok (.invokestatic 201, 3) := by decide +kernel
theorem d_AS_newLength_26 : decode b_AS_newLength 26 = .ok (.ireturn, 1) := by decide +kernel
theorem d_TK_skip_0 : decode b_TK_skip 0 = .ok (.aload_n 0, 1) := by decide +kernel
theorem d_TK_skip_1 : decode b_TK_skip 1 = .ok (.getfield 1, 3) := by decide +kernel
theorem d_TK_skip_4 : decode b_TK_skip 4 = .ok (.ifnonnull 11, 3) := by decide +kernel
theorem d_TK_skip_7 : decode b_TK_skip 7 = .ok (.new 72, 3) := by decide +kernel
theorem d_TK_skip_10 : decode b_TK_skip 10 = .ok (.dup, 1) := by decide +kernel
theorem d_TK_skip_11 : decode b_TK_skip 11 = .ok (.invokespecial 74, 3) := by decide +kernel
theorem d_TK_skip_14 : decode b_TK_skip 14 = .ok (.athrow, 1) := by decide +kernel
theorem d_TK_skip_15 : decode b_TK_skip 15 = .ok (.iload_n 1, 1) := by decide +kernel
theorem d_TK_skip_16 : decode b_TK_skip 16 = .ok (.istore_n 2, 1) := by decide +kernel
theorem d_TK_skip_17 : decode b_TK_skip 17 = .ok (.aload_n 0, 1) := by decide +kernel
theorem d_TK_skip_18 : decode b_TK_skip 18 = .ok (.getfield 61, 3) := by decide +kernel
theorem d_TK_skip_21 : decode b_TK_skip 21 = .ok (.ifCond .ne 93, 3) := by decide +kernel
theorem d_TK_skip_24 : decode b_TK_skip 24 = .ok (.iload_n 2, 1) := by decide +kernel
theorem d_TK_skip_25 : decode b_TK_skip 25 = .ok (.aload_n 0, 1) := by decide +kernel
theorem d_TK_skip_26 : decode b_TK_skip 26 = .ok (.getfield 58, 3) := by decide +kernel
theorem d_TK_skip_29 : decode b_TK_skip 29 = .ok (.if_icmp .ge 85, 3) := by decide +kernel
theorem d_TK_skip_32 : decode b_TK_skip 32 = .ok (.aload_n 0, 1) := by decide +kernel
theorem d_TK_skip_33 : decode b_TK_skip 33 = .ok (.getfield 29, 3) := by decide +kernel
theorem d_TK_skip_36 : decode b_TK_skip 36 = .ok (.ifCond .ne 40, 3) := by decide +kernel
theorem d_TK_skip_39 : decode b_TK_skip 39 = .ok (.aload_n 0, 1) := by decide +kernel
theorem d_TK_skip_40 : decode b_TK_skip 40 = .ok (.getfield 55, 3) := by decide +kernel
theorem d_TK_skip_43 : decode b_TK_skip 43 = .ok (.iload_n 2, 1) := by decide +kernel
theorem d_TK_skip_44 : decode b_TK_skip 44 = .ok (.invokevirtual 17, 3) := by decide +kernel
theorem d_TK_skip_47 : decode b_TK_skip 47 = .ok (.istore_n 3, 1) := by decide +kernel
theorem d_TK_skip_48 : decode b_TK_skip 48 = .ok (.iload_n 3, 1) := by decide +kernel
theorem d_TK_skip_49 : decode b_TK_skip 49 = .ok (.aload_n 0, 1) := by decide +kernel
theorem d_TK_skip_50 : decode b_TK_skip 50 = .ok (.getfield 7, 3) := by decide +kernel
theorem d_TK_skip_53 : decode b_TK_skip 53 = .ok (.if_icmp .gt 61, 3) := by decide +kernel
theorem d_TK_skip_56 : decode b_TK_skip 56 = .ok (.aload_n 0, 1) := by decide +kernel
theorem d_TK_skip_57 : decode b_TK_skip 57 = .ok (.getfield 1, 3) := by decide +kernel
theorem d_TK_skip_60 : decode b_TK_skip 60 = .ok (.iload_n 3, 1) := by decide +kernel
theorem d_TK_skip_61 : decode b_TK_skip 61 = .ok (.invokevirtual 75, 3) := by decide +kernel
theorem d_TK_skip_64 : decode b_TK_skip 64 = .ok (.ifCond .ge 6, 3) := by decide +kernel
theorem d_TK_skip_67 : decode b_TK_skip 67 = .ok (.goto 47, 3) := by decide +kernel
theorem d_TK_skip_70 : decode b_TK_skip 70 = .ok (.iinc 2 1, 3) := by decide +kernel
theorem d_TK_skip_73 : decode b_TK_skip 73 = .ok (.goto (-56), 3) := by decide +kernel
theorem d_TK_skip_76 : decode b_TK_skip 76 = .ok (.aload_n 0, 1) := by decide +kernel
theorem d_TK_skip_77 : decode b_TK_skip 77 = .ok (.getfield 55, 3) := by decide +kernel
theorem d_TK_skip_80 : decode b_TK_skip 80 = .ok (.iload_n 2, 1) := by decide +kernel
theorem d_TK_skip_81 : decode b_TK_skip 81 = .ok (.invokevirtual 25, 3) := by decide +kernel
theorem d_TK_skip_84 : decode b_TK_skip 84 = .ok (.istore_n 3, 1) := by decide +kernel
theorem d_TK_skip_85 : decode b_TK_skip 85 = .ok (.iload_n 3, 1) := by decide +kernel
theorem d_TK_skip_86 : decode b_TK_skip 86 = .ok (.aload_n 0, 1) := by decide +kernel
theorem d_TK_skip_87 : decode b_TK_skip 87 = .ok (.getfield 7, 3) := by decide +kernel
theorem d_TK_skip_90 : decode b_TK_skip 90 = .ok (.if_icmp .gt 24, 3) := by decide +kernel
theorem d_TK_skip_93 : decode b_TK_skip 93 = .ok (.aload_n 0, 1) := by decide +kernel
theorem d_TK_skip_94 : decode b_TK_skip 94 = .ok (.iload_n 3, 1) := by decide +kernel
theorem d_TK_skip_95 : decode b_TK_skip 95 = .ok (.invokevirtual 78, 3) := by decide +kernel
theorem d_TK_skip_98 : decode b_TK_skip 98 = .ok (.ifCond .ne 6, 3) := by decide +kernel
theorem d_TK_skip_101 : decode b_TK_skip 101 = .ok (.goto 13, 3) := by decide +kernel
theorem d_TK_skip_104 : decode b_TK_skip 104 = .ok (.iload_n 2, 1) := by decide +kernel
theorem d_TK_skip_105 : decode b_TK_skip 105 = .ok (.iload_n 3, 1) := by decide +kernel
theorem d_TK_skip_106 : decode b_TK_skip 106 = .ok (.invokestatic 33, 3) := by decide +kernel
theorem d_TK_skip_109 : decode b_TK_skip 109 = .ok (.iadd, 1) := by decide +kernel
theorem d_TK_skip_110 : decode b_TK_skip 110 = .ok (.istore_n 2, 1) := by decide +kernel
theorem d_TK_skip_111 : decode b_TK_skip 111 = .ok (.goto (-94), 3) := by decide +kernel
theorem d_TK_skip_114 : decode b_TK_skip 114 = .ok (.iload_n 2, 1) := by decide +kernel
theorem d_TK_skip_115 : decode b_TK_skip 115 = .ok (.ireturn, 1) := by decide +kernel
theorem d_TK_scan_0 : decode b_TK_scan 0 = .ok (.iload_n 1, 1) := by decide +kernel
theorem d_TK_scan_1 : decode b_TK_scan 1 = .ok (.istore_n 2, 1) := by decide +kernel
theorem d_TK_scan_2 : decode b_TK_scan 2 = .ok (.iload_n 2, 1) := by decide +kernel
theorem d_TK_scan_3 : decode b_TK_scan 3 = .ok (.aload_n 0, 1) := by decide +kernel
theorem d_TK_scan_4 : decode b_TK_scan 4 = .ok (.getfield 58, 3) := by decide +kernel
theorem d_TK_scan_7 : decode b_TK_scan 7 = .ok (.if_icmp .ge 85, 3) := by decide +kernel
theorem d_TK_scan_10 : decode b_TK_scan 10 = .ok (.aload_n 0, 1) := by decide +kernel
theorem d_TK_scan_11 : decode b_TK_scan 11 = .ok (.getfield 29, 3) := by decide +kernel
theorem d_TK_scan_14 : decode b_TK_scan 14 = .ok (.ifCond .ne 40, 3) := by decide +kernel
theorem d_TK_scan_17 : decode b_TK_scan 17 = .ok (.aload_n 0, 1) := by decide +kernel
theorem d_TK_scan_18 : decode b_TK_scan 18 = .ok (.getfield 55, 3) := by decide +kernel
theorem d_TK_scan_21 : decode b_TK_scan 21 = .ok (.iload_n 2, 1) := by decide +kernel
theorem d_TK_scan_22 : decode b_TK_scan 22 = .ok (.invokevirtual 17, 3) := by decide +kernel
theorem d_TK_scan_25 : decode b_TK_scan 25 = .ok (.istore_n 3, 1) := by decide +kernel
theorem d_TK_scan_26 : decode b_TK_scan 26 = .ok (.iload_n 3, 1) := by decide +kernel
theorem d_TK_scan_27 : decode b_TK_scan 27 = .ok (.aload_n 0, 1) := by decide +kernel
theorem d_TK_scan_28 : decode b_TK_scan 28 = .ok (.getfield 7, 3) := by decide +kernel
theorem d_TK_scan_31 : decode b_TK_scan 31 = .ok (.if_icmp .gt 17, 3) := by decide +kernel
theorem d_TK_scan_34 : decode b_TK_scan 34 = .ok (.aload_n 0, 1) := by decide +kernel
theorem d_TK_scan_35 : decode b_TK_scan 35 = .ok (.getfield 1, 3) := by decide +kernel
theorem d_TK_scan_38 : decode b_TK_scan 38 = .ok (.iload_n 3, 1) := by decide +kernel
theorem d_TK_scan_39 : decode b_TK_scan 39 = .ok (.invokevirtual 75, 3) := by decide +kernel
theorem d_TK_scan_42 : decode b_TK_scan 42 = .ok (.ifCond .lt 6, 3) := by decide +kernel
theorem d_TK_scan_45 : decode b_TK_scan 45 = .ok (.goto 47, 3) := by decide +kernel
theorem d_TK_scan_48 : decode b_TK_scan 48 = .ok (.iinc 2 1, 3) := by decide +kernel
theorem d_TK_scan_51 : decode b_TK_scan 51 = .ok (.goto (-49), 3) := by decide +kernel
theorem d_TK_scan_54 : decode b_TK_scan 54 = .ok (.aload_n 0, 1) := by decide +kernel
theorem d_TK_scan_55 : decode b_TK_scan 55 = .ok (.getfield 55, 3) := by decide +kernel
theorem d_TK_scan_58 : decode b_TK_scan 58 = .ok (.iload_n 2, 1) := by decide +kernel
theorem d_TK_scan_59 : decode b_TK_scan 59 = .ok (.invokevirtual 25, 3) := by decide +kernel
theorem d_TK_scan_62 : decode b_TK_scan 62 = .ok (.istore_n 3, 1) := by decide +kernel
theorem d_TK_scan_63 : decode b_TK_scan 63 = .ok (.iload_n 3, 1) := by decide +kernel
theorem d_TK_scan_64 : decode b_TK_scan 64 = .ok (.aload_n 0, 1) := by decide +kernel
theorem d_TK_scan_65 : decode b_TK_scan 65 = .ok (.getfield 7, 3) := by decide +kernel
theorem d_TK_scan_68 : decode b_TK_scan 68 = .ok (.if_icmp .gt 14, 3) := by decide +kernel
theorem d_TK_scan_71 : decode b_TK_scan 71 = .ok (.aload_n 0, 1) := by decide +kernel
theorem d_TK_scan_72 : decode b_TK_scan 72 = .ok (.iload_n 3, 1) := by decide +kernel
theorem d_TK_scan_73 : decode b_TK_scan 73 = .ok (.invokevirtual 78, 3) := by decide +kernel
theorem d_TK_scan_76 : decode b_TK_scan 76 = .ok (.ifCond .eq 6, 3) := by decide +kernel
theorem d_TK_scan_79 : decode b_TK_scan 79 = .ok (.goto 13, 3) := by decide +kernel
theorem d_TK_scan_82 : decode b_TK_scan 82 = .ok (.iload_n 2, 1) := by decide +kernel
theorem d_TK_scan_83 : decode b_TK_scan 83 = .ok (.iload_n 3, 1) := by decide +kernel
theorem d_TK_scan_84 : decode b_TK_scan 84 = .ok (.invokestatic 33, 3) := by decide +kernel
theorem d_TK_scan_87 : decode b_TK_scan 87 = .ok (.iadd, 1) := by decide +kernel
theorem d_TK_scan_88 : decode b_TK_scan 88 = .ok (.istore_n 2, 1) := by decide +kernel
theorem d_TK_scan_89 : decode b_TK_scan 89 = .ok (.goto (-87), 3) := by decide +kernel
theorem d_TK_scan_92 : decode b_TK_scan 92 = .ok (.aload_n 0, 1) := by decide +kernel
theorem d_TK_scan_93 : decode b_TK_scan 93 = .ok (.getfield 61, 3) := by decide +kernel
theorem d_TK_scan_96 : decode b_TK_scan 96 = .ok (.ifCond .eq 81, 3) := by decide +kernel
theorem d_TK_scan_99 : decode b_TK_scan 99 = .ok (.iload_n 1, 1) := by decide +kernel
theorem d_TK_scan_100 : decode b_TK_scan 100 = .ok (.iload_n 2, 1) := by decide +kernel
theorem d_TK_scan_101 : decode b_TK_scan 101 = .ok (.if_icmp .ne 76, 3) := by decide +kernel
theorem d_TK_scan_104 : decode b_TK_scan 104 = .ok (.aload_n 0, 1) := by decide +kernel
theorem d_TK_scan_105 : decode b_TK_scan 105 = .ok (.getfield 29, 3) := by decide +kernel
theorem d_TK_scan_108 : decode b_TK_scan 108 = .ok (.ifCond .ne 37, 3) := by decide +kernel
theorem d_TK_scan_111 : decode b_TK_scan 111 = .ok (.aload_n 0, 1) := by decide +kernel
theorem d_TK_scan_112 : decode b_TK_scan 112 = .ok (.getfield 55, 3) := by decide +kernel
theorem d_TK_scan_115 : decode b_TK_scan 115 = .ok (.iload_n 2, 1) := by decide +kernel
theorem d_TK_scan_116 : decode b_TK_scan 116 = .ok (.invokevirtual 17, 3) := by decide +kernel
theorem d_TK_scan_119 : decode b_TK_scan 119 = .ok (.istore_n 3, 1) := by decide +kernel
theorem d_TK_scan_120 : decode b_TK_scan 120 = .ok (.iload_n 3, 1) := by decide +kernel
theorem d_TK_scan_121 : decode b_TK_scan 121 = .ok (.aload_n 0, 1) := by decide +kernel
theorem d_TK_scan_122 : decode b_TK_scan 122 = .ok (.getfield 7, 3) := by decide +kernel
theorem d_TK_scan_125 : decode b_TK_scan 125 = .ok (.if_icmp .gt 17, 3) := by decide +kernel
theorem d_TK_scan_128 : decode b_TK_scan 128 = .ok (.aload_n 0, 1) := by decide +kernel
theorem d_TK_scan_129 : decode b_TK_scan 129 = .ok (.getfield 1, 3) := by decide +kernel
theorem d_TK_scan_132 : decode b_TK_scan 132 = .ok (.iload_n 3, 1) := by decide +kernel
theorem d_TK_scan_133 : decode b_TK_scan 133 = .ok (.invokevirtual 75, 3) := by decide +kernel
theorem d_TK_scan_136 : decode b_TK_scan 136 = .ok (.ifCond .lt 6, 3) := by decide +kernel
theorem d_TK_scan_139 : decode b_TK_scan 139 = .ok (.iinc 2 1, 3) := by decide +kernel
theorem d_TK_scan_142 : decode b_TK_scan 142 = .ok (.goto 35, 3) := by decide +kernel
theorem d_TK_scan_145 : decode b_TK_scan 145 = .ok (.aload_n 0, 1) := by decide +kernel
theorem d_TK_scan_146 : decode b_TK_scan 146 = .ok (.getfield 55, 3) := by decide +kernel
theorem d_TK_scan_149 : decode b_TK_scan 149 = .ok (.iload_n 2, 1) := by decide +kernel
theorem d_TK_scan_150 : decode b_TK_scan 150 = .ok (.invokevirtual 25, 3) := by decide +kernel
theorem d_TK_scan_153 : decode b_TK_scan 153 = .ok (.istore_n 3, 1) := by decide +kernel
theorem d_TK_scan_154 : decode b_TK_scan 154 = .ok (.iload_n 3, 1) := by decide +kernel
theorem d_TK_scan_155 : decode b_TK_scan 155 = .ok (.aload_n 0, 1) := by decide +kernel
theorem d_TK_scan_156 : decode b_TK_scan 156 = .ok (.getfield 7, 3) := by decide +kernel
theorem d_TK_scan_159 : decode b_TK_scan 159 = .ok (.if_icmp .gt 18, 3) := by decide +kernel
theorem d_TK_scan_162 : decode b_TK_scan 162 = .ok (.aload_n 0, 1) := by decide +kernel
theorem d_TK_scan_163 : decode b_TK_scan 163 = .ok (.iload_n 3, 1) := by decide +kernel
theorem d_TK_scan_164 : decode b_TK_scan 164 = .ok (.invokevirtual 78, 3) := by decide +kernel
theorem d_TK_scan_167 : decode b_TK_scan 167 = .ok (.ifCond .eq 10, 3) := by decide +kernel
theorem d_TK_scan_170 : decode b_TK_scan 170 = .ok (.iload_n 2, 1) := by decide +kernel
theorem d_TK_scan_171 : decode b_TK_scan 171 = .ok (.iload_n 3, 1) := by decide +kernel
theorem d_TK_scan_172 : decode b_TK_scan 172 = .ok (.invokestatic 33, 3) := by decide +kernel
theorem d_TK_scan_175 : decode b_TK_scan 175 = .ok (.iadd, 1) := by decide +kernel
theorem d_TK_scan_176 : decode b_TK_scan 176 = .ok (.istore_n 2, 1) := by decide +kernel
theorem d_TK_scan_177 : decode b_TK_scan 177 = .ok (.iload_n 2, 1) := by decide +kernel
theorem d_TK_scan_178 : decode b_TK_scan 178 = .ok (.ireturn, 1) := by decide +kernel
theorem d_TK_count_0 : decode b_TK_count 0 = .ok (.iconst 0, 1) := by decide +kernel
theorem d_TK_count_1 : decode b_TK_count 1 = .ok (.istore_n 1, 1) := by decide +kernel
theorem d_TK_count_2 : decode b_TK_count 2 = .ok (.aload_n 0, 1) := by decide +kernel
theorem d_TK_count_3 : decode b_TK_count 3 = .ok (.getfield 46, 3) := by decide +kernel
theorem d_TK_count_6 : decode b_TK_count 6 = .ok (.istore_n 2, 1) := by decide +kernel
theorem d_TK_count_7 : decode b_TK_count 7 = .ok (.iload_n 2, 1) := by decide +kernel
theorem d_TK_count_8 : decode b_TK_count 8 = .ok (.aload_n 0, 1) := by decide +kernel
theorem d_TK_count_9 : decode b_TK_count 9 = .ok (.getfield 58, 3) := by decide +kernel
theorem d_TK_count_12 : decode b_TK_count 12 = .ok (.if_icmp .ge 32, 3) := by decide +kernel
theorem d_TK_count_15 : decode b_TK_count 15 = .ok (.aload_n 0, 1) := by decide +kernel
theorem d_TK_count_16 : decode b_TK_count 16 = .ok (.iload_n 2, 1) := by decide +kernel
theorem d_TK_count_17 : decode b_TK_count 17 = .ok (.invokevirtual 82, 3) := by decide +kernel
theorem d_TK_count_20 : decode b_TK_count 20 = .ok (.istore_n 2, 1) := by decide +kernel
theorem d_TK_count_21 : decode b_TK_count 21 = .ok (.iload_n 2, 1) := by decide +kernel
theorem d_TK_count_22 : decode b_TK_count 22 = .ok (.aload_n 0, 1) := by decide +kernel
theorem d_TK_count_23 : decode b_TK_count 23 = .ok (.getfield 58, 3) := by decide +kernel
theorem d_TK_count_26 : decode b_TK_count 26 = .ok (.if_icmp .lt 6, 3) := by decide +kernel
theorem d_TK_count_29 : decode b_TK_count 29 = .ok (.goto 15, 3) := by decide +kernel
theorem d_TK_count_32 : decode b_TK_count 32 = .ok (.aload_n 0, 1) := by decide +kernel
theorem d_TK_count_33 : decode b_TK_count 33 = .ok (.iload_n 2, 1) := by decide +kernel
theorem d_TK_count_34 : decode b_TK_count 34 = .ok (.invokevirtual 88, 3) := by decide +kernel
theorem d_TK_count_37 : decode b_TK_count 37 = .ok (.istore_n 2, 1) := by decide +kernel
theorem d_TK_count_38 : decode b_TK_count 38 = .ok (.iinc 1 1, 3) := by decide +kernel
theorem d_TK_count_41 : decode b_TK_count 41 = .ok (.goto (-34), 3) := by decide +kernel
theorem d_TK_count_44 : decode b_TK_count 44 = .ok (.iload_n 1, 1) := by decide +kernel
theorem d_TK_count_45 : decode b_TK_count 45 = .ok (.ireturn, 1) := by decide +kernel
theorem d_ARR_corb_0 : decode b_ARR_corb 0 = .ok (.iload_n 1, 1) := by decide +kernel
theorem d_ARR_corb_1 : decode b_ARR_corb 1 = .ok (.iload_n 2, 1) := by decide +kernel
theorem d_ARR_corb_2 : decode b_ARR_corb 2 = .ok (.invokestatic 343, 3) := by decide +kernel
theorem d_ARR_corb_5 : decode b_ARR_corb 5 = .ok (.iload_n 2, 1) := by decide +kernel
theorem d_ARR_corb_6 : decode b_ARR_corb 6 = .ok (.iload_n 1, 1) := by decide +kernel
theorem d_ARR_corb_7 : decode b_ARR_corb 7 = .ok (.isub, 1) := by decide +kernel
theorem d_ARR_corb_8 : decode b_ARR_corb 8 = .ok (.istore_n 3, 1) := by decide +kernel
theorem d_ARR_corb_9 : decode b_ARR_corb 9 = .ok (.iload_n 3, 1) := by decide +kernel
theorem d_ARR_corb_10 : decode b_ARR_corb 10 = .ok (.newarray .byte, 2) := by decide +kernel
theorem d_ARR_corb_12 : decode b_ARR_corb 12 = .ok (.astore 4, 2) := by decide +kernel
theorem d_ARR_corb_14 : decode b_ARR_corb 14 = .ok (.aload_n 0, 1) := by decide +kernel
theorem d_ARR_corb_15 : decode b_ARR_corb 15 = .ok (.iload_n 1, 1) := by decide +kernel
theorem d_ARR_corb_16 : decode b_ARR_corb 16 = .ok (.aload 4, 2) := by decide +kernel
theorem d_ARR_corb_18 : decode b_ARR_corb 18 = .ok (.iconst 0, 1) := by decide +kernel
theorem d_ARR_corb_19 : decode b_ARR_corb 19 = .ok (.aload_n 0, 1) := by decide +kernel
theorem d_ARR_corb_20 : decode b_ARR_corb 20 = .ok (.arraylength, 1) := by decide +kernel
theorem d_ARR_corb_21 : decode b_ARR_corb 21 = .ok (.iload_n 1, 1) := by decide +kernel
theorem d_ARR_corb_22 : decode b_ARR_corb 22 = .ok (.isub, 1) := by decide +kernel
theorem d_ARR_corb_23 : decode b_ARR_corb 23 = .ok (.iload_n 3, 1) := by decide +kernel
theorem d_ARR_corb_24 : decode b_ARR_corb 24 = .ok (.invokestatic 304, 3) := by decide +kernel
theorem d_ARR_corb_27 : decode b_ARR_corb 27 = .ok (.invokestatic 150, 3) := by decide +kernel
theorem d_ARR_corb_30 : decode b_ARR_corb 30 = .ok (.aload 4, 2) := by decide +kernel
theorem d_ARR_corb_32 : decode b_ARR_corb 32 = .ok (.areturn, 1) := by decide +kernel
theorem d_ARR_cor_0 : decode b_ARR_cor 0 = .ok (.iload_n 1, 1) := by decide +kernel
theorem d_ARR_cor_1 : decode b_ARR_cor 1 = .ok (.ifCond .ne 9, 3) := by decide +kernel
theorem d_ARR_cor_4 : decode b_ARR_cor 4 = .ok (.iload_n 2, 1) := by decide +kernel
theorem d_ARR_cor_5 : decode b_ARR_cor 5 = .ok (.aload_n 0, 1) := by decide +kernel
theorem d_ARR_cor_6 : decode b_ARR_cor 6 = .ok (.arraylength, 1) := by decide +kernel
theorem d_ARR_cor_7 : decode b_ARR_cor 7 = .ok (.if_icmp .eq 10, 3) := by decide +kernel
theorem d_ARR_cor_10 : decode b_ARR_cor 10 = .ok (.aload_n 0, 1) := by decide +kernel
theorem d_ARR_cor_11 : decode b_ARR_cor 11 = .ok (.iload_n 1, 1) := by decide +kernel
theorem d_ARR_cor_12 : decode b_ARR_cor 12 = .ok (.iload_n 2, 1) := by decide +kernel
theorem d_ARR_cor_13 : decode b_ARR_cor 13 = .ok (.invokestatic 339, 3) := by decide +kernel
theorem d_ARR_cor_16 : decode b_ARR_cor 16 = .ok (.areturn, 1) := by decide +kernel
theorem d_ARR_cor_17 : decode b_ARR_cor 17 = .ok (.aload_n 0, 1) := by decide +kernel
theorem d_ARR_cor_18 : decode b_ARR_cor 18 = .ok (.invokevirtual 310, 3) := by decide +kernel
theorem d_ARR_cor_21 : decode b_ARR_cor 21 = .ok (.checkcast 311, 3) := by decide +kernel
theorem d_ARR_cor_24 : decode b_ARR_cor 24 = .ok (.areturn, 1) := by decide +kernel
theorem d_ARR_copyOf_0 : decode b_ARR_copyOf 0 = .ok (.iload_n 1, 1) := by decide +kernel
theorem d_ARR_copyOf_1 : decode b_ARR_copyOf 1 = .ok (.aload_n 0, 1) := by decide +kernel
theorem d_ARR_copyOf_2 : decode b_ARR_copyOf 2 = .ok (.arraylength, 1) := by decide +kernel
theorem d_ARR_copyOf_3 : decode b_ARR_copyOf 3 = .ok (.if_icmp .ne 11, 3) := by decide +kernel
theorem d_ARR_copyOf_6 : decode b_ARR_copyOf 6 = .ok (.aload_n 0, 1) := by decide +kernel
theorem d_ARR_copyOf_7 : decode b_ARR_copyOf 7 = .ok (.invokevirtual 310, 3) := by decide +kernel
theorem d_ARR_copyOf_10 : decode b_ARR_copyOf 10 = .ok (.checkcast 311, 3) := by decide +kernel
theorem d_ARR_copyOf_13 : decode b_ARR_copyOf 13 = .ok (.areturn, 1) := by decide +kernel
theorem d_ARR_copyOf_14 : decode b_ARR_copyOf 14 = .ok (.iload_n 1, 1) := by decide +kernel
theorem d_ARR_copyOf_15 : decode b_ARR_copyOf 15 = .ok (.newarray .byte, 2) := by decide +kernel
theorem d_ARR_copyOf_17 : decode b_ARR_copyOf 17 = .ok (.astore_n 2, 1) := by decide +kernel
theorem d_ARR_copyOf_18 : decode b_ARR_copyOf 18 = .ok (.aload_n 0, 1) := by decide +kernel
theorem d_ARR_copyOf_19 : decode b_ARR_copyOf 19 = .ok (.iconst 0, 1) := by decide +kernel
theorem d_ARR_copyOf_20 : decode b_ARR_copyOf 20 = .ok (.aload_n 2, 1) := by decide +kernel
theorem d_ARR_copyOf_21 : decode b_ARR_copyOf 21 = .ok (.iconst 0, 1) := by decide +kernel
theorem d_ARR_copyOf_22 : decode b_ARR_copyOf 22 = .ok (.aload_n 0, 1) := by decide +kernel
theorem d_ARR_copyOf_23 : decode b_ARR_copyOf 23 = .ok (.arraylength, 1) := by decide +kernel
theorem d_ARR_copyOf_24 : decode b_ARR_copyOf 24 = .ok (.iload_n 1, 1) := by decide +kernel
theorem d_ARR_copyOf_25 : decode b_ARR_copyOf 25 = .ok (.invokestatic 304, 3) := by decide +kernel
theorem d_ARR_copyOf_28 : decode b_ARR_copyOf 28 = .ok (.invokestatic 150, 3) := by decide +kernel
theorem d_ARR_copyOf_31 : decode b_ARR_copyOf 31 = .ok (.aload_n 2, 1) := by decide +kernel
theorem d_ARR_copyOf_32 : decode b_ARR_copyOf 32 = .ok (.areturn, 1) := by decide +kernel
theorem d_STR_initBB_0 : decode b_STR_initBB 0 = .ok (.aload_n 0, 1) := by decide +kernel
theorem d_STR_initBB_1 : decode b_STR_initBB 1 = .ok (.invokespecial 1, 3) := by decide +kernel
theorem d_STR_initBB_4 : decode b_STR_initBB 4 = .ok (.aload_n 0, 1) := by decide +kernel
theorem d_STR_initBB_5 : decode b_STR_initBB 5 = .ok (.aload_n 1, 1) := by decide +kernel
theorem d_STR_initBB_6 : decode b_STR_initBB 6 = .ok (.putfield 9, 3) := by decide +kernel
theorem d_STR_initBB_9 : decode b_STR_initBB 9 = .ok (.aload_n 0, 1) := by decide +kernel
theorem d_STR_initBB_10 : decode b_STR_initBB 10 = .ok (.iload_n 2, 1) := by decide +kernel
theorem d_STR_initBB_11 : decode b_STR_initBB 11 = .ok (.putfield 15, 3) := by decide +kernel
theorem d_STR_initBB_14 : decode b_STR_initBB 14 = .ok (.return_, 1) := by decide +kernel
theorem d_L1_newString_0 : decode b_L1_newString 0 = .ok (.iload_n 2, 1) := by decide +kernel
theorem d_L1_newString_1 : decode b_L1_newString 1 = .ok (.ifCond .ne 6, 3) := by decide +kernel
end
section
theorem d_L1_newString_4 : decode b_L1_newString 4 = .ok (.ldc 151, 2) := by decide +kernel
theorem d_L1_newString_6 : decode b_L1_newString 6 = .ok (.areturn, 1) := by decide +kernel
theorem d_L1_newString_7 : decode b_L1_newString 7 = .ok (.new 1, 3) := by decide +kernel
theorem d_L1_newString_10 : decode b_L1_newString 10 = .ok (.dup, 1) := by decide +kernel
theorem d_L1_newString_11 : decode b_L1_newString 11 = .ok (.aload_n 0, 1) := by decide +kernel
theorem d_L1_newString_12 : decode b_L1_newString 12 = .ok (.iload_n 1, 1) := by decide +kernel
theorem d_L1_newString_13 : decode b_L1_newString 13 = .ok (.iload_n 1, 1) := by decide +kernel
theorem d_L1_newString_14 : decode b_L1_newString 14 = .ok (.iload_n 2, 1) := by decide +kernel
theorem d_L1_newString_15 : decode b_L1_newString 15 = .ok (.iadd, 1) := by decide +kernel
theorem d_L1_newString_16 : decode b_L1_newString 16 = .ok (.invokestatic 232, 3) := by decide +kernel
theorem d_L1_newString_19 : decode b_L1_newString 19 = .ok (.iconst 0, 1) := by decide +kernel
theorem d_L1_newString_20 : decode b_L1_newString 20 = .ok (.invokespecial 112, 3) := by decide +kernel
theorem d_L1_newString_23 : decode b_L1_newString 23 = .ok (.areturn, 1) := by decide +kernel
theorem d_STR_substring_0 : decode b_STR_substring 0 = .ok (.aload_n 0, 1) := by decide +kernel
theorem d_STR_substring_1 : decode b_STR_substring 1 = .ok (.invokevirtual 505, 3) := by decide +kernel
theorem d_STR_substring_4 : decode b_STR_substring 4 = .ok (.istore_n 3, 1) := by decide +kernel
theorem d_STR_substring_5 : decode b_STR_substring 5 = .ok (.iload_n 1, 1) := by decide +kernel
theorem d_STR_substring_6 : decode b_STR_substring 6 = .ok (.iload_n 2, 1) := by decide +kernel
theorem d_STR_substring_7 : decode b_STR_substring 7 = .ok (.iload_n 3, 1) := by decide +kernel
theorem d_STR_substring_8 : decode b_STR_substring 8 = .ok (.invokestatic 521, 3) := by decide +kernel
theorem d_STR_substring_11 : decode b_STR_substring 11 = .ok (.iload_n 1, 1) := by decide +kernel
theorem d_STR_substring_12 : decode b_STR_substring 12 = .ok (.ifCond .ne 10, 3) := by decide +kernel
theorem d_STR_substring_15 : decode b_STR_substring 15 = .ok (.iload_n 2, 1) := by decide +kernel
theorem d_STR_substring_16 : decode b_STR_substring 16 = .ok (.iload_n 3, 1) := by decide +kernel
theorem d_STR_substring_17 : decode b_STR_substring 17 = .ok (.if_icmp .ne 5, 3) := by decide +kernel
theorem d_STR_substring_20 : decode b_STR_substring 20 = .ok (.aload_n 0, 1) := by decide +kernel
theorem d_STR_substring_21 : decode b_STR_substring 21 = .ok (.areturn, 1) := by decide +kernel
theorem d_STR_substring_22 : decode b_STR_substring 22 = .ok (.iload_n 2, 1) := by decide +kernel
theorem d_STR_substring_23 : decode b_STR_substring 23 = .ok (.iload_n 1, 1) := by decide +kernel
theorem d_STR_substring_24 : decode b_STR_substring 24 = .ok (.isub, 1) := by decide +kernel
theorem d_STR_substring_25 : decode b_STR_substring 25 = .ok (.istore 4, 2) := by decide +kernel
theorem d_STR_substring_27 : decode b_STR_substring 27 = .ok (.aload_n 0, 1) := by decide +kernel
theorem d_STR_substring_28 : decode b_STR_substring 28 = .ok (.invokevirtual 492, 3) := by decide +kernel
theorem d_STR_substring_31 : decode b_STR_substring 31 = .ok (.ifCond .eq 16, 3) := by decide +kernel
theorem d_STR_substring_34 : decode b_STR_substring 34 = .ok (.aload_n 0, 1) := by decide +kernel
theorem d_STR_substring_35 : decode b_STR_substring 35 = .ok (.getfield 9, 3) := by decide +kernel
theorem d_STR_substring_38 : decode b_STR_substring 38 = .ok (.iload_n 1, 1) := by decide +kernel
theorem d_STR_substring_39 : decode b_STR_substring 39 = .ok (.iload 4, 2) := by decide +kernel
theorem d_STR_substring_41 : decode b_STR_substring 41 = .ok (.invokestatic 685, 3) := by decide +kernel
theorem d_STR_substring_44 : decode b_STR_substring 44 = .ok (.goto 13, 3) := by decide +kernel
theorem d_STR_substring_47 : decode b_STR_substring 47 = .ok (.aload_n 0, 1) := by decide +kernel
theorem d_STR_substring_48 : decode b_STR_substring 48 = .ok (.getfield 9, 3) := by decide +kernel
theorem d_STR_substring_51 : decode b_STR_substring 51 = .ok (.iload_n 1, 1) := by decide +kernel
theorem d_STR_substring_52 : decode b_STR_substring 52 = .ok (.iload 4, 2) := by decide +kernel
theorem d_STR_substring_54 : decode b_STR_substring 54 = .ok (.invokestatic 689, 3) := by decide +kernel
theorem d_STR_substring_57 : decode b_STR_substring 57 = .ok (.areturn, 1) := by decide +kernel
theorem d_ASB_init_0 : decode b_ASB_init 0 = .ok (.aload_n 0, 1) := by decide +kernel
theorem d_ASB_init_1 : decode b_ASB_init 1 = .ok (.invokespecial 3, 3) := by decide +kernel
theorem d_ASB_init_4 : decode b_ASB_init 4 = .ok (.getstatic 18, 3) := by decide +kernel
theorem d_ASB_init_7 : decode b_ASB_init 7 = .ok (.ifCond .eq 18, 3) := by decide +kernel
theorem d_ASB_init_10 : decode b_ASB_init 10 = .ok (.aload_n 0, 1) := by decide +kernel
theorem d_ASB_init_11 : decode b_ASB_init 11 = .ok (.iload_n 1, 1) := by decide +kernel
theorem d_ASB_init_12 : decode b_ASB_init 12 = .ok (.newarray .byte, 2) := by decide +kernel
theorem d_ASB_init_14 : decode b_ASB_init 14 = .ok (.putfield 15, 3) := by decide +kernel
theorem d_ASB_init_17 : decode b_ASB_init 17 = .ok (.aload_n 0, 1) := by decide +kernel
theorem d_ASB_init_18 : decode b_ASB_init 18 = .ok (.iconst 0, 1) := by decide +kernel
theorem d_ASB_init_19 : decode b_ASB_init 19 = .ok (.putfield 22, 3) := by decide +kernel
theorem d_ASB_init_22 : decode b_ASB_init 22 = .ok (.goto 16, 3) := by decide +kernel
theorem d_ASB_init_25 : decode b_ASB_init 25 = .ok (.aload_n 0, 1) := by decide +kernel
theorem d_ASB_init_26 : decode b_ASB_init 26 = .ok (.iload_n 1, 1) := by decide +kernel
theorem d_ASB_init_27 : decode b_ASB_init 27 = .ok (.invokestatic 26, 3) := by decide +kernel
theorem d_ASB_init_30 : decode b_ASB_init 30 = .ok (.putfield 15, 3) := by decide +kernel
theorem d_ASB_init_33 : decode b_ASB_init 33 = .ok (.aload_n 0, 1) := by decide +kernel
theorem d_ASB_init_34 : decode b_ASB_init 34 = .ok (.iconst 1, 1) := by decide +kernel
theorem d_ASB_init_35 : decode b_ASB_init 35 = .ok (.putfield 22, 3) := by decide +kernel
theorem d_ASB_init_38 : decode b_ASB_init 38 = .ok (.return_, 1) := by decide +kernel
theorem d_SB_init_0 : decode b_SB_init 0 = .ok (.aload_n 0, 1) := by decide +kernel
theorem d_SB_init_1 : decode b_SB_init 1 = .ok (.bipush 16, 2) := by decide +kernel
theorem d_SB_init_3 : decode b_SB_init 3 = .ok (.invokespecial 1, 3) := by decide +kernel
theorem d_SB_init_6 : decode b_SB_init 6 = .ok (.return_, 1) := by decide +kernel
theorem d_ASB_isLatin1_0 : decode b_ASB_isLatin1 0 = .ok (.getstatic 18, 3) := by decide +kernel
theorem d_ASB_isLatin1_3 : decode b_ASB_isLatin1 3 = .ok (.ifCond .eq 14, 3) := by decide +kernel
theorem d_ASB_isLatin1_6 : decode b_ASB_isLatin1 6 = .ok (.aload_n 0, 1) := by decide +kernel
theorem d_ASB_isLatin1_7 : decode b_ASB_isLatin1 7 = .ok (.getfield 22, 3) := by decide +kernel
theorem d_ASB_isLatin1_10 : decode b_ASB_isLatin1 10 = .ok (.ifCond .ne 7, 3) := by decide +kernel
theorem d_ASB_isLatin1_13 : decode b_ASB_isLatin1 13 = .ok (.iconst 1, 1) := by decide +kernel
theorem d_ASB_isLatin1_14 : decode b_ASB_isLatin1 14 = .ok (.goto 4, 3) := by decide +kernel
theorem d_ASB_isLatin1_17 : decode b_ASB_isLatin1 17 = .ok (.iconst 0, 1) := by decide +kernel
theorem d_ASB_isLatin1_18 : decode b_ASB_isLatin1 18 = .ok (.ireturn, 1) := by decide +kernel
theorem d_ASB_getValue_0 : decode b_ASB_getValue 0 = .ok (.aload_n 0, 1) := by decide +kernel
theorem d_ASB_getValue_1 : decode b_ASB_getValue 1 = .ok (.getfield 15, 3) := by decide +kernel
theorem d_ASB_getValue_4 : decode b_ASB_getValue 4 = .ok (.areturn, 1) := by decide +kernel
theorem d_ASB_length_0 : decode b_ASB_length 0 = .ok (.aload_n 0, 1) := by decide +kernel
theorem d_ASB_length_1 : decode b_ASB_length 1 = .ok (.getfield 79, 3) := by decide +kernel
theorem d_ASB_length_4 : decode b_ASB_length 4 = .ok (.ireturn, 1) := by decide +kernel
theorem d_SB_length_0 : decode b_SB_length 0 = .ok (.aload_n 0, 1) := by decide +kernel
theorem d_SB_length_1 : decode b_SB_length 1 = .ok (.invokespecial 343, 3) := by decide +kernel
theorem d_SB_length_4 : decode b_SB_length 4 = .ok (.ireturn, 1) := by decide +kernel
theorem d_ASB_newCap_0 : decode b_ASB_newCap 0 = .ok (.aload_n 0, 1) := by decide +kernel
theorem d_ASB_newCap_1 : decode b_ASB_newCap 1 = .ok (.getfield 15, 3) := by decide +kernel
theorem d_ASB_newCap_4 : decode b_ASB_newCap 4 = .ok (.arraylength, 1) := by decide +kernel
theorem d_ASB_newCap_5 : decode b_ASB_newCap 5 = .ok (.istore_n 2, 1) := by decide +kernel
theorem d_ASB_newCap_6 : decode b_ASB_newCap 6 = .ok (.iload_n 1, 1) := by decide +kernel
theorem d_ASB_newCap_7 : decode b_ASB_newCap 7 = .ok (.aload_n 0, 1) := by decide +kernel
theorem d_ASB_newCap_8 : decode b_ASB_newCap 8 = .ok (.getfield 22, 3) := by decide +kernel
theorem d_ASB_newCap_11 : decode b_ASB_newCap 11 = .ok (.ishl, 1) := by decide +kernel
theorem d_ASB_newCap_12 : decode b_ASB_newCap 12 = .ok (.istore_n 3, 1) := by decide +kernel
theorem d_ASB_newCap_13 : decode b_ASB_newCap 13 = .ok (.iload_n 3, 1) := by decide +kernel
theorem d_ASB_newCap_14 : decode b_ASB_newCap 14 = .ok (.iload_n 2, 1) := by decide +kernel
theorem d_ASB_newCap_15 : decode b_ASB_newCap 15 = .ok (.isub, 1) := by decide +kernel
theorem d_ASB_newCap_16 : decode b_ASB_newCap 16 = .ok (.istore 4, 2) := by decide +kernel
theorem d_ASB_newCap_18 : decode b_ASB_newCap 18 = .ok (.iload_n 2, 1) := by decide +kernel
theorem d_ASB_newCap_19 : decode b_ASB_newCap 19 = .ok (.iload 4, 2) := by decide +kernel
theorem d_ASB_newCap_21 : decode b_ASB_newCap 21 = .ok (.iload_n 2, 1) := by decide +kernel
theorem d_ASB_newCap_22 : decode b_ASB_newCap 22 = .ok (.iconst 2, 1) := by decide +kernel
theorem d_ASB_newCap_23 : decode b_ASB_newCap 23 = .ok (.aload_n 0, 1) := by decide +kernel
theorem d_ASB_newCap_24 : decode b_ASB_newCap 24 = .ok (.getfield 22, 3) := by decide +kernel
theorem d_ASB_newCap_27 : decode b_ASB_newCap 27 = .ok (.ishl, 1) := by decide +kernel
theorem d_ASB_newCap_28 : decode b_ASB_newCap 28 = .ok (.iadd, 1) := by decide +kernel
theorem d_ASB_newCap_29 : decode b_ASB_newCap 29 = .ok (.invokestatic 114, 3) := by decide +kernel
theorem d_ASB_newCap_32 : decode b_ASB_newCap 32 = .ok (.istore 5, 2) := by decide +kernel
theorem d_ASB_newCap_34 : decode b_ASB_newCap 34 = .ok (.iload 5, 2) := by decide +kernel
theorem d_ASB_newCap_36 : decode b_ASB_newCap 36 = .ok (.ldc 39, 2) := by decide +kernel
theorem d_ASB_newCap_38 : decode b_ASB_newCap 38 = .ok (.if_icmp .ne 13, 3) := by decide +kernel
theorem d_ASB_newCap_41 : decode b_ASB_newCap 41 = .ok (.new 120, 3) := by decide +kernel
theorem d_ASB_newCap_44 : decode b_ASB_newCap 44 = .ok (.dup, 1) := by decide +kernel
theorem d_ASB_newCap_45 : decode b_ASB_newCap 45 = .ok (.ldc 122, 2) := by decide +kernel
theorem d_ASB_newCap_47 : decode b_ASB_newCap 47 = .ok (.invokespecial 124, 3) := by decide +kernel
theorem d_ASB_newCap_50 : decode b_ASB_newCap 50 = .ok (.athrow, 1) := by decide +kernel
theorem d_ASB_newCap_51 : decode b_ASB_newCap 51 = .ok (.iload 5, 2) := by decide +kernel
theorem d_ASB_newCap_53 : decode b_ASB_newCap 53 = .ok (.aload_n 0, 1) := by decide +kernel
theorem d_ASB_newCap_54 : decode b_ASB_newCap 54 = .ok (.getfield 22, 3) := by decide +kernel
theorem d_ASB_newCap_57 : decode b_ASB_newCap 57 = .ok (.ishr, 1) := by decide +kernel
theorem d_ASB_newCap_58 : decode b_ASB_newCap 58 = .ok (.ireturn, 1) := by decide +kernel
theorem d_ASB_ensure_0 : decode b_ASB_ensure 0 = .ok (.aload_n 0, 1) := by decide +kernel
theorem d_ASB_ensure_1 : decode b_ASB_ensure 1 = .ok (.getfield 15, 3) := by decide +kernel
theorem d_ASB_ensure_4 : decode b_ASB_ensure 4 = .ok (.arraylength, 1) := by decide +kernel
theorem d_ASB_ensure_5 : decode b_ASB_ensure 5 = .ok (.aload_n 0, 1) := by decide +kernel
theorem d_ASB_ensure_6 : decode b_ASB_ensure 6 = .ok (.getfield 22, 3) := by decide +kernel
theorem d_ASB_ensure_9 : decode b_ASB_ensure 9 = .ok (.ishr, 1) := by decide +kernel
theorem d_ASB_ensure_10 : decode b_ASB_ensure 10 = .ok (.istore_n 2, 1) := by decide +kernel
theorem d_ASB_ensure_11 : decode b_ASB_ensure 11 = .ok (.iload_n 1, 1) := by decide +kernel
theorem d_ASB_ensure_12 : decode b_ASB_ensure 12 = .ok (.iload_n 2, 1) := by decide +kernel
theorem d_ASB_ensure_13 : decode b_ASB_ensure 13 = .ok (.isub, 1) := by decide +kernel
theorem d_ASB_ensure_14 : decode b_ASB_ensure 14 = .ok (.ifCond .le 24, 3) := by decide +kernel
theorem d_ASB_ensure_17 : decode b_ASB_ensure 17 = .ok (.aload_n 0, 1) := by decide +kernel
theorem d_ASB_ensure_18 : decode b_ASB_ensure 18 = .ok (.aload_n 0, 1) := by decide +kernel
theorem d_ASB_ensure_19 : decode b_ASB_ensure 19 = .ok (.getfield 15, 3) := by decide +kernel
theorem d_ASB_ensure_22 : decode b_ASB_ensure 22 = .ok (.aload_n 0, 1) := by decide +kernel
theorem d_ASB_ensure_23 : decode b_ASB_ensure 23 = .ok (.iload_n 1, 1) := by decide +kernel
theorem d_ASB_ensure_24 : decode b_ASB_ensure 24 = .ok (.invokevirtual 104, 3) := by decide +kernel
theorem d_ASB_ensure_27 : decode b_ASB_ensure 27 = .ok (.aload_n 0, 1) := by decide +kernel
theorem d_ASB_ensure_28 : decode b_ASB_ensure 28 = .ok (.getfield 22, 3) := by decide +kernel
theorem d_ASB_ensure_31 : decode b_ASB_ensure 31 = .ok (.ishl, 1) := by decide +kernel
theorem d_ASB_ensure_32 : decode b_ASB_ensure 32 = .ok (.invokestatic 108, 3) := by decide +kernel
theorem d_ASB_ensure_35 : decode b_ASB_ensure 35 = .ok (.putfield 15, 3) := by decide +kernel
theorem d_ASB_ensure_38 : decode b_ASB_ensure 38 = .ok (.return_, 1) := by decide +kernel
theorem d_ASB_appC_0 : decode b_ASB_appC 0 = .ok (.aload_n 0, 1) := by decide +kernel
theorem d_ASB_appC_1 : decode b_ASB_appC 1 = .ok (.aload_n 0, 1) := by decide +kernel
theorem d_ASB_appC_2 : decode b_ASB_appC 2 = .ok (.getfield 79, 3) := by decide +kernel
theorem d_ASB_appC_5 : decode b_ASB_appC 5 = .ok (.iconst 1, 1) := by decide +kernel
theorem d_ASB_appC_6 : decode b_ASB_appC 6 = .ok (.iadd, 1) := by decide +kernel
theorem d_ASB_appC_7 : decode b_ASB_appC 7 = .ok (.invokevirtual 100, 3) := by decide +kernel
theorem d_ASB_appC_10 : decode b_ASB_appC 10 = .ok (.aload_n 0, 1) := by decide +kernel
theorem d_ASB_appC_11 : decode b_ASB_appC 11 = .ok (.invokevirtual 83, 3) := by decide +kernel
theorem d_ASB_appC_14 : decode b_ASB_appC 14 = .ok (.ifCond .eq 31, 3) := by decide +kernel
theorem d_ASB_appC_17 : decode b_ASB_appC 17 = .ok (.iload_n 1, 1) := by decide +kernel
theorem d_ASB_appC_18 : decode b_ASB_appC 18 = .ok (.invokestatic 191, 3) := by decide +kernel
theorem d_ASB_appC_21 : decode b_ASB_appC 21 = .ok (.ifCond .eq 24, 3) := by decide +kernel
theorem d_ASB_appC_24 : decode b_ASB_appC 24 = .ok (.aload_n 0, 1) := by decide +kernel
theorem d_ASB_appC_25 : decode b_ASB_appC 25 = .ok (.getfield 15, 3) := by decide +kernel
theorem d_ASB_appC_28 : decode b_ASB_appC 28 = .ok (.aload_n 0, 1) := by decide +kernel
theorem d_ASB_appC_29 : decode b_ASB_appC 29 = .ok (.dup, 1) := by decide +kernel
theorem d_ASB_appC_30 : decode b_ASB_appC 30 = .ok (.getfield 79, 3) := by decide +kernel
theorem d_ASB_appC_33 : decode b_ASB_appC 33 = .ok (.dup_x1, 1) := by decide +kernel
theorem d_ASB_appC_34 : decode b_ASB_appC 34 = .ok (.iconst 1, 1) := by decide +kernel
theorem d_ASB_appC_35 : decode b_ASB_appC 35 = .ok (.iadd, 1) := by decide +kernel
theorem d_ASB_appC_36 : decode b_ASB_appC 36 = .ok (.putfield 79, 3) := by decide +kernel
theorem d_ASB_appC_39 : decode b_ASB_appC 39 = .ok (.iload_n 1, 1) := by decide +kernel
theorem d_ASB_appC_40 : decode b_ASB_appC 40 = .ok (.i2b, 1) := by decide +kernel
theorem d_ASB_appC_41 : decode b_ASB_appC 41 = .ok (.bastore, 1) := by decide +kernel
theorem d_ASB_appC_42 : decode b_ASB_appC 42 = .ok (.goto 33, 3) := by decide +kernel
theorem d_ASB_appC_45 : decode b_ASB_appC 45 = .ok (.aload_n 0, 1) := by decide +kernel
theorem d_ASB_appC_46 : decode b_ASB_appC 46 = .ok (.invokevirtual 83, 3) := by decide +kernel
theorem d_ASB_appC_49 : decode b_ASB_appC 49 = .ok (.ifCond .eq 7, 3) := by decide +kernel
theorem d_ASB_appC_52 : decode b_ASB_appC 52 = .ok (.aload_n 0, 1) := by decide +kernel
theorem d_ASB_appC_53 : decode b_ASB_appC 53 = .ok (.invokevirtual 195, 3) := by decide +kernel
theorem d_ASB_appC_56 : decode b_ASB_appC 56 = .ok (.aload_n 0, 1) := by decide +kernel
theorem d_ASB_appC_57 : decode b_ASB_appC 57 = .ok (.getfield 15, 3) := by decide +kernel
theorem d_ASB_appC_60 : decode b_ASB_appC 60 = .ok (.aload_n 0, 1) := by decide +kernel
theorem d_ASB_appC_61 : decode b_ASB_appC 61 = .ok (.dup, 1) := by decide +kernel
theorem d_ASB_appC_62 : decode b_ASB_appC 62 = .ok (.getfield 79, 3) := by decide +kernel
theorem d_ASB_appC_65 : decode b_ASB_appC 65 = .ok (.dup_x1, 1) := by decide +kernel
theorem d_ASB_appC_66 : decode b_ASB_appC 66 = .ok (.iconst 1, 1) := by decide +kernel
theorem d_ASB_appC_67 : decode b_ASB_appC 67 = .ok (.iadd, 1) := by decide +kernel
theorem d_ASB_appC_68 : decode b_ASB_appC 68 = .ok (.putfield 79, 3) := by decide +kernel
theorem d_ASB_appC_71 : decode b_ASB_appC 71 = .ok (.iload_n 1, 1) := by decide +kernel
theorem d_ASB_appC_72 : decode b_ASB_appC 72 = .ok (.invokestatic 197, 3) := by decide +kernel
theorem d_ASB_appC_75 : decode b_ASB_appC 75 = .ok (.aload_n 0, 1) := by decide +kernel
theorem d_ASB_appC_76 : decode b_ASB_appC 76 = .ok (.areturn, 1) := by decide +kernel
theorem d_SB_appC_0 : decode b_SB_appC 0 = .ok (.aload_n 0, 1) := by decide +kernel
theorem d_SB_appC_1 : decode b_SB_appC 1 = .ok (.iload_n 1, 1) := by decide +kernel
theorem d_SB_appC_2 : decode b_SB_appC 2 = .ok (.invokespecial 50, 3) := by decide +kernel
theorem d_SB_appC_5 : decode b_SB_appC 5 = .ok (.pop, 1) := by decide +kernel
theorem d_SB_appC_6 : decode b_SB_appC 6 = .ok (.aload_n 0, 1) := by decide +kernel
theorem d_SB_appC_7 : decode b_SB_appC 7 = .ok (.areturn, 1) := by decide +kernel
theorem d_ASB_setLen_0 : decode b_ASB_setLen 0 = .ok (.iload_n 1, 1) := by decide +kernel
theorem d_ASB_setLen_1 : decode b_ASB_setLen 1 = .ok (.ifCond .ge 12, 3) := by decide +kernel
theorem d_ASB_setLen_4 : decode b_ASB_setLen 4 = .ok (.new 129, 3) := by decide +kernel
theorem d_ASB_setLen_7 : decode b_ASB_setLen 7 = .ok (.dup, 1) := by decide +kernel
theorem d_ASB_setLen_8 : decode b_ASB_setLen 8 = .ok (.iload_n 1, 1) := by decide +kernel
theorem d_ASB_setLen_9 : decode b_ASB_setLen 9 = .ok (.invokespecial 131, 3) := by decide +kernel
theorem d_ASB_setLen_12 : decode b_ASB_setLen 12 = .ok (.athrow, 1) := by decide +kernel
theorem d_ASB_setLen_13 : decode b_ASB_setLen 13 = .ok (.aload_n 0, 1) := by decide +kernel
theorem d_ASB_setLen_14 : decode b_ASB_setLen 14 = .ok (.iload_n 1, 1) := by decide +kernel
theorem d_ASB_setLen_15 : decode b_ASB_setLen 15 = .ok (.invokevirtual 100, 3) := by decide +kernel
theorem d_ASB_setLen_18 : decode b_ASB_setLen 18 = .ok (.aload_n 0, 1) := by decide +kernel
theorem d_ASB_setLen_19 : decode b_ASB_setLen 19 = .ok (.getfield 79, 3) := by decide +kernel
theorem d_ASB_setLen_22 : decode b_ASB_setLen 22 = .ok (.iload_n 1, 1) := by decide +kernel
theorem d_ASB_setLen_23 : decode b_ASB_setLen 23 = .ok (.if_icmp .ge 40, 3) := by decide +kernel
theorem d_ASB_setLen_26 : decode b_ASB_setLen 26 = .ok (.aload_n 0, 1) := by decide +kernel
theorem d_ASB_setLen_27 : decode b_ASB_setLen 27 = .ok (.invokevirtual 83, 3) := by decide +kernel
theorem d_ASB_setLen_30 : decode b_ASB_setLen 30 = .ok (.ifCond .eq 18, 3) := by decide +kernel
theorem d_ASB_setLen_33 : decode b_ASB_setLen 33 = .ok (.aload_n 0, 1) := by decide +kernel
theorem d_ASB_setLen_34 : decode b_ASB_setLen 34 = .ok (.getfield 15, 3) := by decide +kernel
theorem d_ASB_setLen_37 : decode b_ASB_setLen 37 = .ok (.aload_n 0, 1) := by decide +kernel
theorem d_ASB_setLen_38 : decode b_ASB_setLen 38 = .ok (.getfield 79, 3) := by decide +kernel
theorem d_ASB_setLen_41 : decode b_ASB_setLen 41 = .ok (.iload_n 1, 1) := by decide +kernel
theorem d_ASB_setLen_42 : decode b_ASB_setLen 42 = .ok (.invokestatic 133, 3) := by decide +kernel
theorem d_ASB_setLen_45 : decode b_ASB_setLen 45 = .ok (.goto 31, 3) := by decide +kernel
theorem d_ASB_setLen_48 : decode b_ASB_setLen 48 = .ok (.aload_n 0, 1) := by decide +kernel
theorem d_ASB_setLen_49 : decode b_ASB_setLen 49 = .ok (.getfield 15, 3) := by decide +kernel
theorem d_ASB_setLen_52 : decode b_ASB_setLen 52 = .ok (.aload_n 0, 1) := by decide +kernel
theorem d_ASB_setLen_53 : decode b_ASB_setLen 53 = .ok (.getfield 79, 3) := by decide +kernel
theorem d_ASB_setLen_56 : decode b_ASB_setLen 56 = .ok (.iload_n 1, 1) := by decide +kernel
theorem d_ASB_setLen_57 : decode b_ASB_setLen 57 = .ok (.invokestatic 137, 3) := by decide +kernel
theorem d_ASB_setLen_60 : decode b_ASB_setLen 60 = .ok (.goto 16, 3) := by decide +kernel
theorem d_ASB_setLen_63 : decode b_ASB_setLen 63 = .ok (.aload_n 0, 1) := by decide +kernel
theorem d_ASB_setLen_64 : decode b_ASB_setLen 64 = .ok (.getfield 79, 3) := by decide +kernel
theorem d_ASB_setLen_67 : decode b_ASB_setLen 67 = .ok (.iload_n 1, 1) := by decide +kernel
theorem d_ASB_setLen_68 : decode b_ASB_setLen 68 = .ok (.if_icmp .le 8, 3) := by decide +kernel
theorem d_ASB_setLen_71 : decode b_ASB_setLen 71 = .ok (.aload_n 0, 1) := by decide +kernel
theorem d_ASB_setLen_72 : decode b_ASB_setLen 72 = .ok (.iconst 1, 1) := by decide +kernel
theorem d_ASB_setLen_73 : decode b_ASB_setLen 73 = .ok (.putfield 73, 3) := by decide +kernel
theorem d_ASB_setLen_76 : decode b_ASB_setLen 76 = .ok (.aload_n 0, 1) := by decide +kernel
theorem d_ASB_setLen_77 : decode b_ASB_setLen 77 = .ok (.iload_n 1, 1) := by decide +kernel
theorem d_ASB_setLen_78 : decode b_ASB_setLen 78 = .ok (.putfield 79, 3) := by decide +kernel
theorem d_ASB_setLen_81 : decode b_ASB_setLen 81 = .ok (.return_, 1) := by decide +kernel
theorem d_SB_setLen_0 : decode b_SB_setLen 0 = .ok (.aload_n 0, 1) := by decide +kernel
theorem d_SB_setLen_1 : decode b_SB_setLen 1 = .ok (.iload_n 1, 1) := by decide +kernel
theorem d_SB_setLen_2 : decode b_SB_setLen 2 = .ok (.invokespecial 333, 3) := by decide +kernel
theorem d_SB_setLen_5 : decode b_SB_setLen 5 = .ok (.return_, 1) := by decide +kernel
theorem d_ASB_infl_0 : decode b_ASB_infl 0 = .ok (.getstatic 18, 3) := by decide +kernel
theorem d_ASB_infl_3 : decode b_ASB_infl 3 = .ok (.ifCond .eq 18, 3) := by decide +kernel
theorem d_ASB_infl_6 : decode b_ASB_infl 6 = .ok (.aload_n 0, 1) := by decide +kernel
theorem d_ASB_infl_7 : decode b_ASB_infl 7 = .ok (.getfield 22, 3) := by decide +kernel
theorem d_ASB_infl_10 : decode b_ASB_infl 10 = .ok (.aload_n 1, 1) := by decide +kernel
theorem d_ASB_infl_11 : decode b_ASB_infl 11 = .ok (.invokevirtual 40, 3) := by decide +kernel
theorem d_ASB_infl_14 : decode b_ASB_infl 14 = .ok (.if_icmp .eq 7, 3) := by decide +kernel
theorem d_ASB_infl_17 : decode b_ASB_infl 17 = .ok (.aload_n 0, 1) := by decide +kernel
theorem d_ASB_infl_18 : decode b_ASB_infl 18 = .ok (.invokevirtual 195, 3) := by decide +kernel
theorem d_ASB_infl_21 : decode b_ASB_infl 21 = .ok (.return_, 1) := by decide +kernel
theorem d_STR_getBytes_0 : decode b_STR_getBytes 0 = .ok (.aload_n 0, 1) := by decide +kernel
theorem d_STR_getBytes_1 : decode b_STR_getBytes 1 = .ok (.invokevirtual 335, 3) := by decide +kernel
theorem d_STR_getBytes_4 : decode b_STR_getBytes 4 = .ok (.iload_n 3, 1) := by decide +kernel
theorem d_STR_getBytes_5 : decode b_STR_getBytes 5 = .ok (.if_icmp .ne 23, 3) := by decide +kernel
theorem d_STR_getBytes_8 : decode b_STR_getBytes 8 = .ok (.aload_n 0, 1) := by decide +kernel
theorem d_STR_getBytes_9 : decode b_STR_getBytes 9 = .ok (.getfield 9, 3) := by decide +kernel
theorem d_STR_getBytes_12 : decode b_STR_getBytes 12 = .ok (.iconst 0, 1) := by decide +kernel
theorem d_STR_getBytes_13 : decode b_STR_getBytes 13 = .ok (.aload_n 1, 1) := by decide +kernel
theorem d_STR_getBytes_14 : decode b_STR_getBytes 14 = .ok (.iload_n 2, 1) := by decide +kernel
theorem d_STR_getBytes_15 : decode b_STR_getBytes 15 = .ok (.iload_n 3, 1) := by decide +kernel
theorem d_STR_getBytes_16 : decode b_STR_getBytes 16 = .ok (.ishl, 1) := by decide +kernel
theorem d_STR_getBytes_17 : decode b_STR_getBytes 17 = .ok (.aload_n 0, 1) := by decide +kernel
theorem d_STR_getBytes_18 : decode b_STR_getBytes 18 = .ok (.getfield 9, 3) := by decide +kernel
theorem d_STR_getBytes_21 : decode b_STR_getBytes 21 = .ok (.arraylength, 1) := by decide +kernel
theorem d_STR_getBytes_22 : decode b_STR_getBytes 22 = .ok (.invokestatic 212, 3) := by decide +kernel
theorem d_STR_getBytes_25 : decode b_STR_getBytes 25 = .ok (.goto 18, 3) := by decide +kernel
theorem d_STR_getBytes_28 : decode b_STR_getBytes 28 = .ok (.aload_n 0, 1) := by decide +kernel
theorem d_STR_getBytes_29 : decode b_STR_getBytes 29 = .ok (.getfield 9, 3) := by decide +kernel
theorem d_STR_getBytes_32 : decode b_STR_getBytes 32 = .ok (.iconst 0, 1) := by decide +kernel
theorem d_STR_getBytes_33 : decode b_STR_getBytes 33 = .ok (.aload_n 1, 1) := by decide +kernel
theorem d_STR_getBytes_34 : decode b_STR_getBytes 34 = .ok (.iload_n 2, 1) := by decide +kernel
theorem d_STR_getBytes_35 : decode b_STR_getBytes 35 = .ok (.aload_n 0, 1) := by decide +kernel
theorem d_STR_getBytes_36 : decode b_STR_getBytes 36 = .ok (.getfield 9, 3) := by decide +kernel
theorem d_STR_getBytes_39 : decode b_STR_getBytes 39 = .ok (.arraylength, 1) := by decide +kernel
theorem d_STR_getBytes_40 : decode b_STR_getBytes 40 = .ok (.invokestatic 106, 3) := by decide +kernel
theorem d_STR_getBytes_43 : decode b_STR_getBytes 43 = .ok (.return_, 1) := by decide +kernel
theorem d_ASB_putStr_0 : decode b_ASB_putStr 0 = .ok (.aload_n 0, 1) := by decide +kernel
theorem d_ASB_putStr_1 : decode b_ASB_putStr 1 = .ok (.aload_n 2, 1) := by decide +kernel
theorem d_ASB_putStr_2 : decode b_ASB_putStr 2 = .ok (.invokevirtual 397, 3) := by decide +kernel
theorem d_ASB_putStr_5 : decode b_ASB_putStr 5 = .ok (.aload_n 2, 1) := by decide +kernel
theorem d_ASB_putStr_6 : decode b_ASB_putStr 6 = .ok (.aload_n 0, 1) := by decide +kernel
theorem d_ASB_putStr_7 : decode b_ASB_putStr 7 = .ok (.getfield 15, 3) := by decide +kernel
theorem d_ASB_putStr_10 : decode b_ASB_putStr 10 = .ok (.iload_n 1, 1) := by decide +kernel
theorem d_ASB_putStr_11 : decode b_ASB_putStr 11 = .ok (.aload_n 0, 1) := by decide +kernel
theorem d_ASB_putStr_12 : decode b_ASB_putStr 12 = .ok (.getfield 22, 3) := by decide +kernel
theorem d_ASB_putStr_15 : decode b_ASB_putStr 15 = .ok (.invokevirtual 399, 3) := by decide +kernel
theorem d_ASB_putStr_18 : decode b_ASB_putStr 18 = .ok (.return_, 1) := by decide +kernel
theorem d_ASB_appS_0 : decode b_ASB_appS 0 = .ok (.aload_n 1, 1) := by decide +kernel
theorem d_ASB_appS_1 : decode b_ASB_appS 1 = .ok (.ifnonnull 8, 3) := by decide +kernel
theorem d_ASB_appS_4 : decode b_ASB_appS 4 = .ok (.aload_n 0, 1) := by decide +kernel
theorem d_ASB_appS_5 : decode b_ASB_appS 5 = .ok (.invokevirtual 204, 3) := by decide +kernel
theorem d_ASB_appS_8 : decode b_ASB_appS 8 = .ok (.areturn, 1) := by decide +kernel
theorem d_ASB_appS_9 : decode b_ASB_appS 9 = .ok (.aload_n 1, 1) := by decide +kernel
theorem d_ASB_appS_10 : decode b_ASB_appS 10 = .ok (.invokevirtual 32, 3) := by decide +kernel
theorem d_ASB_appS_13 : decode b_ASB_appS 13 = .ok (.istore_n 2, 1) := by decide +kernel
theorem d_ASB_appS_14 : decode b_ASB_appS 14 = .ok (.aload_n 0, 1) := by decide +kernel
theorem d_ASB_appS_15 : decode b_ASB_appS 15 = .ok (.aload_n 0, 1) := by decide +kernel
theorem d_ASB_appS_16 : decode b_ASB_appS 16 = .ok (.getfield 79, 3) := by decide +kernel
theorem d_ASB_appS_19 : decode b_ASB_appS 19 = .ok (.iload_n 2, 1) := by decide +kernel
theorem d_ASB_appS_20 : decode b_ASB_appS 20 = .ok (.iadd, 1) := by decide +kernel
theorem d_ASB_appS_21 : decode b_ASB_appS 21 = .ok (.invokevirtual 100, 3) := by decide +kernel
theorem d_ASB_appS_24 : decode b_ASB_appS 24 = .ok (.aload_n 0, 1) := by decide +kernel
theorem d_ASB_appS_25 : decode b_ASB_appS 25 = .ok (.aload_n 0, 1) := by decide +kernel
theorem d_ASB_appS_26 : decode b_ASB_appS 26 = .ok (.getfield 79, 3) := by decide +kernel
theorem d_ASB_appS_29 : decode b_ASB_appS 29 = .ok (.aload_n 1, 1) := by decide +kernel
theorem d_ASB_appS_30 : decode b_ASB_appS 30 = .ok (.invokevirtual 208, 3) := by decide +kernel
theorem d_ASB_appS_33 : decode b_ASB_appS 33 = .ok (.aload_n 0, 1) := by decide +kernel
theorem d_ASB_appS_34 : decode b_ASB_appS 34 = .ok (.dup, 1) := by decide +kernel
theorem d_ASB_appS_35 : decode b_ASB_appS 35 = .ok (.getfield 79, 3) := by decide +kernel
theorem d_ASB_appS_38 : decode b_ASB_appS 38 = .ok (.iload_n 2, 1) := by decide +kernel
theorem d_ASB_appS_39 : decode b_ASB_appS 39 = .ok (.iadd, 1) := by decide +kernel
theorem d_ASB_appS_40 : decode b_ASB_appS 40 = .ok (.putfield 79, 3) := by decide +kernel
theorem d_ASB_appS_43 : decode b_ASB_appS 43 = .ok (.aload_n 0, 1) := by decide +kernel
theorem d_ASB_appS_44 : decode b_ASB_appS 44 = .ok (.areturn, 1) := by decide +kernel
theorem d_SB_appS_0 : decode b_SB_appS 0 = .ok (.aload_n 0, 1) := by decide +kernel
theorem d_SB_appS_1 : decode b_SB_appS 1 = .ok (.aload_n 1, 1) := by decide +kernel
theorem d_SB_appS_2 : decode b_SB_appS 2 = .ok (.invokespecial 29, 3) := by decide +kernel
theorem d_SB_appS_5 : decode b_SB_appS 5 = .ok (.pop, 1) := by decide +kernel
theorem d_SB_appS_6 : decode b_SB_appS 6 = .ok (.aload_n 0, 1) := by decide +kernel
theorem d_SB_appS_7 : decode b_SB_appS 7 = .ok (.areturn, 1) := by decide +kernel
theorem d_STR_initAV_0 : decode b_STR_initAV 0 = .ok (.aload_n 0, 1) := by decide +kernel
theorem d_STR_initAV_1 : decode b_STR_initAV 1 = .ok (.invokespecial 1, 3) := by decide +kernel
theorem d_STR_initAV_4 : decode b_STR_initAV 4 = .ok (.aload_n 1, 1) := by decide +kernel
theorem d_STR_initAV_5 : decode b_STR_initAV 5 = .ok (.invokevirtual 552, 3) := by decide +kernel
theorem d_STR_initAV_8 : decode b_STR_initAV 8 = .ok (.astore_n 3, 1) := by decide +kernel
theorem d_STR_initAV_9 : decode b_STR_initAV 9 = .ok (.aload_n 1, 1) := by decide +kernel
theorem d_STR_initAV_10 : decode b_STR_initAV 10 = .ok (.invokevirtual 549, 3) := by decide +kernel
theorem d_STR_initAV_13 : decode b_STR_initAV 13 = .ok (.istore 4, 2) := by decide +kernel
theorem d_STR_initAV_15 : decode b_STR_initAV 15 = .ok (.aload_n 1, 1) := by decide +kernel
theorem d_STR_initAV_16 : decode b_STR_initAV 16 = .ok (.invokevirtual 1047, 3) := by decide +kernel
theorem d_STR_initAV_19 : decode b_STR_initAV 19 = .ok (.ifCond .eq 22, 3) := by decide +kernel
theorem d_STR_initAV_22 : decode b_STR_initAV 22 = .ok (.aload_n 0, 1) := by decide +kernel
theorem d_STR_initAV_23 : decode b_STR_initAV 23 = .ok (.iconst 0, 1) := by decide +kernel
theorem d_STR_initAV_24 : decode b_STR_initAV 24 = .ok (.putfield 15, 3) := by decide +kernel
theorem d_STR_initAV_27 : decode b_STR_initAV 27 = .ok (.aload_n 0, 1) := by decide +kernel
theorem d_STR_initAV_28 : decode b_STR_initAV 28 = .ok (.aload_n 3, 1) := by decide +kernel
theorem d_STR_initAV_29 : decode b_STR_initAV 29 = .ok (.iconst 0, 1) := by decide +kernel
theorem d_STR_initAV_30 : decode b_STR_initAV 30 = .ok (.iload 4, 2) := by decide +kernel
theorem d_STR_initAV_32 : decode b_STR_initAV 32 = .ok (.invokestatic 54, 3) := by decide +kernel
theorem d_STR_initAV_35 : decode b_STR_initAV 35 = .ok (.putfield 9, 3) := by decide +kernel
theorem d_STR_initAV_38 : decode b_STR_initAV 38 = .ok (.goto 59, 3) := by decide +kernel
theorem d_STR_initAV_41 : decode b_STR_initAV 41 = .ok (.getstatic 38, 3) := by decide +kernel
theorem d_STR_initAV_44 : decode b_STR_initAV 44 = .ok (.ifCond .eq 35, 3) := by decide +kernel
theorem d_STR_initAV_47 : decode b_STR_initAV 47 = .ok (.aload_n 1, 1) := by decide +kernel
theorem d_STR_initAV_48 : decode b_STR_initAV 48 = .ok (.getfield 1048, 3) := by decide +kernel
theorem d_STR_initAV_51 : decode b_STR_initAV 51 = .ok (.ifCond .eq 28, 3) := by decide +kernel
theorem d_STR_initAV_54 : decode b_STR_initAV 54 = .ok (.aload_n 0, 1) := by decide +kernel
theorem d_STR_initAV_55 : decode b_STR_initAV 55 = .ok (.aload_n 3, 1) := by decide +kernel
theorem d_STR_initAV_56 : decode b_STR_initAV 56 = .ok (.iconst 0, 1) := by decide +kernel
theorem d_STR_initAV_57 : decode b_STR_initAV 57 = .ok (.iload 4, 2) := by decide +kernel
theorem d_STR_initAV_59 : decode b_STR_initAV 59 = .ok (.invokestatic 1051, 3) := by decide +kernel
theorem d_STR_initAV_62 : decode b_STR_initAV 62 = .ok (.putfield 9, 3) := by decide +kernel
theorem d_STR_initAV_65 : decode b_STR_initAV 65 = .ok (.aload_n 0, 1) := by decide +kernel
theorem d_STR_initAV_66 : decode b_STR_initAV 66 = .ok (.aload_n 0, 1) := by decide +kernel
theorem d_STR_initAV_67 : decode b_STR_initAV 67 = .ok (.getfield 9, 3) := by decide +kernel
theorem d_STR_initAV_70 : decode b_STR_initAV 70 = .ok (.iload 4, 2) := by decide +kernel
theorem d_STR_initAV_72 : decode b_STR_initAV 72 = .ok (.invokestatic 47, 3) := by decide +kernel
theorem d_STR_initAV_75 : decode b_STR_initAV 75 = .ok (.putfield 15, 3) := by decide +kernel
theorem d_STR_initAV_78 : decode b_STR_initAV 78 = .ok (.return_, 1) := by decide +kernel
theorem d_STR_initAV_79 : decode b_STR_initAV 79 = .ok (.aload_n 0, 1) := by decide +kernel
theorem d_STR_initAV_80 : decode b_STR_initAV 80 = .ok (.iconst 1, 1) := by decide +kernel
theorem d_STR_initAV_81 : decode b_STR_initAV 81 = .ok (.putfield 15, 3) := by decide +kernel
theorem d_STR_initAV_84 : decode b_STR_initAV 84 = .ok (.aload_n 0, 1) := by decide +kernel
theorem d_STR_initAV_85 : decode b_STR_initAV 85 = .ok (.aload_n 3, 1) := by decide +kernel
theorem d_STR_initAV_86 : decode b_STR_initAV 86 = .ok (.iconst 0, 1) := by decide +kernel
theorem d_STR_initAV_87 : decode b_STR_initAV 87 = .ok (.iload 4, 2) := by decide +kernel
theorem d_STR_initAV_89 : decode b_STR_initAV 89 = .ok (.iconst 1, 1) := by decide +kernel
theorem d_STR_initAV_90 : decode b_STR_initAV 90 = .ok (.ishl, 1) := by decide +kernel
theorem d_STR_initAV_91 : decode b_STR_initAV 91 = .ok (.invokestatic 54, 3) := by decide +kernel
theorem d_STR_initAV_94 : decode b_STR_initAV 94 = .ok (.putfield 9, 3) := by decide +kernel
theorem d_STR_initAV_97 : decode b_STR_initAV 97 = .ok (.return_, 1) := by decide +kernel
theorem d_STR_initSB_0 : decode b_STR_initSB 0 = .ok (.aload_n 0, 1) := by decide +kernel
theorem d_STR_initSB_1 : decode b_STR_initSB 1 = .ok (.aload_n 1, 1) := by decide +kernel
theorem d_STR_initSB_2 : decode b_STR_initSB 2 = .ok (.aconst_null, 1) := by decide +kernel
theorem d_STR_initSB_3 : decode b_STR_initSB 3 = .ok (.invokespecial 489, 3) := by decide +kernel
theorem d_STR_initSB_6 : decode b_STR_initSB 6 = .ok (.return_, 1) := by decide +kernel
theorem d_SB_toString_0 : decode b_SB_toString 0 = .ok (.new 18, 3) := by decide +kernel
theorem d_SB_toString_3 : decode b_SB_toString 3 = .ok (.dup, 1) := by decide +kernel
theorem d_SB_toString_4 : decode b_SB_toString 4 = .ok (.aload_n 0, 1) := by decide +kernel
theorem d_SB_toString_5 : decode b_SB_toString 5 = .ok (.invokespecial 137, 3) := by decide +kernel
theorem d_SB_toString_8 : decode b_SB_toString 8 = .ok (.areturn, 1) := by decide +kernel
theorem d_TK_setMax_0 : decode b_TK_setMax 0 = .ok (.aload_n 0, 1) := by decide +kernel
theorem d_TK_setMax_1 : decode b_TK_setMax 1 = .ok (.getfield 1, 3) := by decide +kernel
theorem d_TK_setMax_4 : decode b_TK_setMax 4 = .ok (.ifnonnull 9, 3) := by decide +kernel
theorem d_TK_setMax_7 : decode b_TK_setMax 7 = .ok (.aload_n 0, 1) := by decide +kernel
theorem d_TK_setMax_8 : decode b_TK_setMax 8 = .ok (.iconst 0, 1) := by decide +kernel
theorem d_TK_setMax_9 : decode b_TK_setMax 9 = .ok (.putfield 7, 3) := by decide +kernel
theorem d_TK_setMax_12 : decode b_TK_setMax 12 = .ok (.return_, 1) := by decide +kernel
theorem d_TK_setMax_13 : decode b_TK_setMax 13 = .ok (.iconst 0, 1) := by decide +kernel
theorem d_TK_setMax_14 : decode b_TK_setMax 14 = .ok (.istore_n 1, 1) := by decide +kernel
theorem d_TK_setMax_15 : decode b_TK_setMax 15 = .ok (.iconst 0, 1) := by decide +kernel
theorem d_TK_setMax_16 : decode b_TK_setMax 16 = .ok (.istore_n 3, 1) := by decide +kernel
theorem d_TK_setMax_17 : decode b_TK_setMax 17 = .ok (.iconst 0, 1) := by decide +kernel
theorem d_TK_setMax_18 : decode b_TK_setMax 18 = .ok (.istore 4, 2) := by decide +kernel
theorem d_TK_setMax_20 : decode b_TK_setMax 20 = .ok (.iload 4, 2) := by decide +kernel
theorem d_TK_setMax_22 : decode b_TK_setMax 22 = .ok (.aload_n 0, 1) := by decide +kernel
theorem d_TK_setMax_23 : decode b_TK_setMax 23 = .ok (.getfield 1, 3) := by decide +kernel
theorem d_TK_setMax_26 : decode b_TK_setMax 26 = .ok (.invokevirtual 11, 3) := by decide +kernel
theorem d_TK_setMax_29 : decode b_TK_setMax 29 = .ok (.if_icmp .ge 62, 3) := by decide +kernel
theorem d_TK_setMax_32 : decode b_TK_setMax 32 = .ok (.aload_n 0, 1) := by decide +kernel
theorem d_TK_setMax_33 : decode b_TK_setMax 33 = .ok (.getfield 1, 3) := by decide +kernel
theorem d_TK_setMax_36 : decode b_TK_setMax 36 = .ok (.iload 4, 2) := by decide +kernel
theorem d_TK_setMax_38 : decode b_TK_setMax 38 = .ok (.invokevirtual 17, 3) := by decide +kernel
theorem d_TK_setMax_41 : decode b_TK_setMax 41 = .ok (.istore_n 2, 1) := by decide +kernel
theorem d_TK_setMax_42 : decode b_TK_setMax 42 = .ok (.iload_n 2, 1) := by decide +kernel
theorem d_TK_setMax_43 : decode b_TK_setMax 43 = .ok (.ldc 23, 2) := by decide +kernel
theorem d_TK_setMax_45 : decode b_TK_setMax 45 = .ok (.if_icmp .lt 24, 3) := by decide +kernel
theorem d_TK_setMax_48 : decode b_TK_setMax 48 = .ok (.iload_n 2, 1) := by decide +kernel
theorem d_TK_setMax_49 : decode b_TK_setMax 49 = .ok (.ldc 24, 2) := by decide +kernel
theorem d_TK_setMax_51 : decode b_TK_setMax 51 = .ok (.if_icmp .gt 18, 3) := by decide +kernel
theorem d_TK_setMax_54 : decode b_TK_setMax 54 = .ok (.aload_n 0, 1) := by decide +kernel
theorem d_TK_setMax_55 : decode b_TK_setMax 55 = .ok (.getfield 1, 3) := by decide +kernel
theorem d_TK_setMax_58 : decode b_TK_setMax 58 = .ok (.iload 4, 2) := by decide +kernel
theorem d_TK_setMax_60 : decode b_TK_setMax 60 = .ok (.invokevirtual 25, 3) := by decide +kernel
theorem d_TK_setMax_63 : decode b_TK_setMax 63 = .ok (.istore_n 2, 1) := by decide +kernel
theorem d_TK_setMax_64 : decode b_TK_setMax 64 = .ok (.aload_n 0, 1) := by decide +kernel
theorem d_TK_setMax_65 : decode b_TK_setMax 65 = .ok (.iconst 1, 1) := by decide +kernel
theorem d_TK_setMax_66 : decode b_TK_setMax 66 = .ok (.putfield 29, 3) := by decide +kernel
theorem d_TK_setMax_69 : decode b_TK_setMax 69 = .ok (.iload_n 1, 1) := by decide +kernel
theorem d_TK_setMax_70 : decode b_TK_setMax 70 = .ok (.iload_n 2, 1) := by decide +kernel
theorem d_TK_setMax_71 : decode b_TK_setMax 71 = .ok (.if_icmp .ge 5, 3) := by decide +kernel
theorem d_TK_setMax_74 : decode b_TK_setMax 74 = .ok (.iload_n 2, 1) := by decide +kernel
theorem d_TK_setMax_75 : decode b_TK_setMax 75 = .ok (.istore_n 1, 1) := by decide +kernel
theorem d_TK_setMax_76 : decode b_TK_setMax 76 = .ok (.iinc 3 1, 3) := by decide +kernel
theorem d_TK_setMax_79 : decode b_TK_setMax 79 = .ok (.iload 4, 2) := by decide +kernel
theorem d_TK_setMax_81 : decode b_TK_setMax 81 = .ok (.iload_n 2, 1) := by decide +kernel
theorem d_TK_setMax_82 : decode b_TK_setMax 82 = .ok (.invokestatic 33, 3) := by decide +kernel
theorem d_TK_setMax_85 : decode b_TK_setMax 85 = .ok (.iadd, 1) := by decide +kernel
theorem d_TK_setMax_86 : decode b_TK_setMax 86 = .ok (.istore 4, 2) := by decide +kernel
theorem d_TK_setMax_88 : decode b_TK_setMax 88 = .ok (.goto (-68), 3) := by decide +kernel
theorem d_TK_setMax_91 : decode b_TK_setMax 91 = .ok (.aload_n 0, 1) := by decide +kernel
theorem d_TK_setMax_92 : decode b_TK_setMax 92 = .ok (.iload_n 1, 1) := by decide +kernel
theorem d_TK_setMax_93 : decode b_TK_setMax 93 = .ok (.putfield 7, 3) := by decide +kernel
theorem d_TK_setMax_96 : decode b_TK_setMax 96 = .ok (.aload_n 0, 1) := by decide +kernel
theorem d_TK_setMax_97 : decode b_TK_setMax 97 = .ok (.getfield 29, 3) := by decide +kernel
theorem d_TK_setMax_100 : decode b_TK_setMax 100 = .ok (.ifCond .eq 55, 3) := by decide +kernel
theorem d_TK_setMax_103 : decode b_TK_setMax 103 = .ok (.aload_n 0, 1) := by decide +kernel
theorem d_TK_setMax_104 : decode b_TK_setMax 104 = .ok (.iload_n 3, 1) := by decide +kernel
theorem d_TK_setMax_105 : decode b_TK_setMax 105 = .ok (.newarray .int, 2) := by decide +kernel
theorem d_TK_setMax_107 : decode b_TK_setMax 107 = .ok (.putfield 36, 3) := by decide +kernel
theorem d_TK_setMax_110 : decode b_TK_setMax 110 = .ok (.iconst 0, 1) := by decide +kernel
theorem d_TK_setMax_111 : decode b_TK_setMax 111 = .ok (.istore 4, 2) := by decide +kernel
theorem d_TK_setMax_113 : decode b_TK_setMax 113 = .ok (.iconst 0, 1) := by decide +kernel
theorem d_TK_setMax_114 : decode b_TK_setMax 114 = .ok (.istore 5, 2) := by decide +kernel
theorem d_TK_setMax_116 : decode b_TK_setMax 116 = .ok (.iload 4, 2) := by decide +kernel
theorem d_TK_setMax_118 : decode b_TK_setMax 118 = .ok (.iload_n 3, 1) := by decide +kernel
theorem d_TK_setMax_119 : decode b_TK_setMax 119 = .ok (.if_icmp .ge 36, 3) := by decide +kernel
theorem d_TK_setMax_122 : decode b_TK_setMax 122 = .ok (.aload_n 0, 1) := by decide +kernel
theorem d_TK_setMax_123 : decode b_TK_setMax 123 = .ok (.getfield 1, 3) := by decide +kernel
theorem d_TK_setMax_126 : decode b_TK_setMax 126 = .ok (.iload 5, 2) := by decide +kernel
theorem d_TK_setMax_128 : decode b_TK_setMax 128 = .ok (.invokevirtual 25, 3) := by decide +kernel
theorem d_TK_setMax_131 : decode b_TK_setMax 131 = .ok (.istore_n 2, 1) := by decide +kernel
theorem d_TK_setMax_132 : decode b_TK_setMax 132 = .ok (.aload_n 0, 1) := by decide +kernel
theorem d_TK_setMax_133 : decode b_TK_setMax 133 = .ok (.getfield 36, 3) := by decide +kernel
theorem d_TK_setMax_136 : decode b_TK_setMax 136 = .ok (.iload 4, 2) := by decide +kernel
theorem d_TK_setMax_138 : decode b_TK_setMax 138 = .ok (.iload_n 2, 1) := by decide +kernel
theorem d_TK_setMax_139 : decode b_TK_setMax 139 = .ok (.iastore, 1) := by decide +kernel
theorem d_TK_setMax_140 : decode b_TK_setMax 140 = .ok (.iinc 4 1, 3) := by decide +kernel
theorem d_TK_setMax_143 : decode b_TK_setMax 143 = .ok (.iload 5, 2) := by decide +kernel
end
section
theorem d_TK_setMax_145 : decode b_TK_setMax 145 = .ok (.iload_n 2, 1) := by decide +kernel
theorem d_TK_setMax_146 : decode b_TK_setMax 146 = .ok (.invokestatic 33, 3) := by decide +kernel
theorem d_TK_setMax_149 : decode b_TK_setMax 149 = .ok (.iadd, 1) := by decide +kernel
theorem d_TK_setMax_150 : decode b_TK_setMax 150 = .ok (.istore 5, 2) := by decide +kernel
theorem d_TK_setMax_152 : decode b_TK_setMax 152 = .ok (.goto (-36), 3) := by decide +kernel
theorem d_TK_setMax_155 : decode b_TK_setMax 155 = .ok (.return_, 1) := by decide +kernel
theorem d_TK_init_0 : decode b_TK_init 0 = .ok (.aload_n 0, 1) := by decide +kernel
theorem d_TK_init_1 : decode b_TK_init 1 = .ok (.invokespecial 40, 3) := by decide +kernel
theorem d_TK_init_4 : decode b_TK_init 4 = .ok (.aload_n 0, 1) := by decide +kernel
theorem d_TK_init_5 : decode b_TK_init 5 = .ok (.iconst 0, 1) := by decide +kernel
theorem d_TK_init_6 : decode b_TK_init 6 = .ok (.putfield 29, 3) := by decide +kernel
theorem d_TK_init_9 : decode b_TK_init 9 = .ok (.aload_n 0, 1) := by decide +kernel
theorem d_TK_init_10 : decode b_TK_init 10 = .ok (.iconst 0, 1) := by decide +kernel
theorem d_TK_init_11 : decode b_TK_init 11 = .ok (.putfield 46, 3) := by decide +kernel
theorem d_TK_init_14 : decode b_TK_init 14 = .ok (.aload_n 0, 1) := by decide +kernel
theorem d_TK_init_15 : decode b_TK_init 15 = .ok (.iconst (-1), 1) := by decide +kernel
theorem d_TK_init_16 : decode b_TK_init 16 = .ok (.putfield 49, 3) := by decide +kernel
theorem d_TK_init_19 : decode b_TK_init 19 = .ok (.aload_n 0, 1) := by decide +kernel
theorem d_TK_init_20 : decode b_TK_init 20 = .ok (.iconst 0, 1) := by decide +kernel
theorem d_TK_init_21 : decode b_TK_init 21 = .ok (.putfield 52, 3) := by decide +kernel
theorem d_TK_init_24 : decode b_TK_init 24 = .ok (.aload_n 0, 1) := by decide +kernel
theorem d_TK_init_25 : decode b_TK_init 25 = .ok (.aload_n 1, 1) := by decide +kernel
theorem d_TK_init_26 : decode b_TK_init 26 = .ok (.putfield 55, 3) := by decide +kernel
theorem d_TK_init_29 : decode b_TK_init 29 = .ok (.aload_n 0, 1) := by decide +kernel
theorem d_TK_init_30 : decode b_TK_init 30 = .ok (.aload_n 1, 1) := by decide +kernel
theorem d_TK_init_31 : decode b_TK_init 31 = .ok (.invokevirtual 11, 3) := by decide +kernel
theorem d_TK_init_34 : decode b_TK_init 34 = .ok (.putfield 58, 3) := by decide +kernel
theorem d_TK_init_37 : decode b_TK_init 37 = .ok (.aload_n 0, 1) := by decide +kernel
theorem d_TK_init_38 : decode b_TK_init 38 = .ok (.aload_n 2, 1) := by decide +kernel
theorem d_TK_init_39 : decode b_TK_init 39 = .ok (.putfield 1, 3) := by decide +kernel
theorem d_TK_init_42 : decode b_TK_init 42 = .ok (.aload_n 0, 1) := by decide +kernel
theorem d_TK_init_43 : decode b_TK_init 43 = .ok (.iload_n 3, 1) := by decide +kernel
theorem d_TK_init_44 : decode b_TK_init 44 = .ok (.putfield 61, 3) := by decide +kernel
theorem d_TK_init_47 : decode b_TK_init 47 = .ok (.aload_n 0, 1) := by decide +kernel
theorem d_TK_init_48 : decode b_TK_init 48 = .ok (.invokevirtual 64, 3) := by decide +kernel
theorem d_TK_init_51 : decode b_TK_init 51 = .ok (.return_, 1) := by decide +kernel
theorem d_TK_has_0 : decode b_TK_has 0 = .ok (.aload_n 0, 1) := by decide +kernel
theorem d_TK_has_1 : decode b_TK_has 1 = .ok (.aload_n 0, 1) := by decide +kernel
theorem d_TK_has_2 : decode b_TK_has 2 = .ok (.aload_n 0, 1) := by decide +kernel
theorem d_TK_has_3 : decode b_TK_has 3 = .ok (.getfield 46, 3) := by decide +kernel
theorem d_TK_has_6 : decode b_TK_has 6 = .ok (.invokevirtual 82, 3) := by decide +kernel
theorem d_TK_has_9 : decode b_TK_has 9 = .ok (.putfield 49, 3) := by decide +kernel
theorem d_TK_has_12 : decode b_TK_has 12 = .ok (.aload_n 0, 1) := by decide +kernel
theorem d_TK_has_13 : decode b_TK_has 13 = .ok (.getfield 49, 3) := by decide +kernel
theorem d_TK_has_16 : decode b_TK_has 16 = .ok (.aload_n 0, 1) := by decide +kernel
theorem d_TK_has_17 : decode b_TK_has 17 = .ok (.getfield 58, 3) := by decide +kernel
theorem d_TK_has_20 : decode b_TK_has 20 = .ok (.if_icmp .ge 7, 3) := by decide +kernel
theorem d_TK_has_23 : decode b_TK_has 23 = .ok (.iconst 1, 1) := by decide +kernel
theorem d_TK_has_24 : decode b_TK_has 24 = .ok (.goto 4, 3) := by decide +kernel
theorem d_TK_has_27 : decode b_TK_has 27 = .ok (.iconst 0, 1) := by decide +kernel
theorem d_TK_has_28 : decode b_TK_has 28 = .ok (.ireturn, 1) := by decide +kernel
theorem d_TK_next_0 : decode b_TK_next 0 = .ok (.aload_n 0, 1) := by decide +kernel
theorem d_TK_next_1 : decode b_TK_next 1 = .ok (.aload_n 0, 1) := by decide +kernel
theorem d_TK_next_2 : decode b_TK_next 2 = .ok (.getfield 49, 3) := by decide +kernel
theorem d_TK_next_5 : decode b_TK_next 5 = .ok (.ifCond .lt 17, 3) := by decide +kernel
theorem d_TK_next_8 : decode b_TK_next 8 = .ok (.aload_n 0, 1) := by decide +kernel
theorem d_TK_next_9 : decode b_TK_next 9 = .ok (.getfield 52, 3) := by decide +kernel
theorem d_TK_next_12 : decode b_TK_next 12 = .ok (.ifCond .ne 10, 3) := by decide +kernel
theorem d_TK_next_15 : decode b_TK_next 15 = .ok (.aload_n 0, 1) := by decide +kernel
theorem d_TK_next_16 : decode b_TK_next 16 = .ok (.getfield 49, 3) := by decide +kernel
theorem d_TK_next_19 : decode b_TK_next 19 = .ok (.goto 11, 3) := by decide +kernel
theorem d_TK_next_22 : decode b_TK_next 22 = .ok (.aload_n 0, 1) := by decide +kernel
theorem d_TK_next_23 : decode b_TK_next 23 = .ok (.aload_n 0, 1) := by decide +kernel
theorem d_TK_next_24 : decode b_TK_next 24 = .ok (.getfield 46, 3) := by decide +kernel
theorem d_TK_next_27 : decode b_TK_next 27 = .ok (.invokevirtual 82, 3) := by decide +kernel
theorem d_TK_next_30 : decode b_TK_next 30 = .ok (.putfield 46, 3) := by decide +kernel
theorem d_TK_next_33 : decode b_TK_next 33 = .ok (.aload_n 0, 1) := by decide +kernel
theorem d_TK_next_34 : decode b_TK_next 34 = .ok (.iconst 0, 1) := by decide +kernel
theorem d_TK_next_35 : decode b_TK_next 35 = .ok (.putfield 52, 3) := by decide +kernel
theorem d_TK_next_38 : decode b_TK_next 38 = .ok (.aload_n 0, 1) := by decide +kernel
theorem d_TK_next_39 : decode b_TK_next 39 = .ok (.iconst (-1), 1) := by decide +kernel
theorem d_TK_next_40 : decode b_TK_next 40 = .ok (.putfield 49, 3) := by decide +kernel
theorem d_TK_next_43 : decode b_TK_next 43 = .ok (.aload_n 0, 1) := by decide +kernel
theorem d_TK_next_44 : decode b_TK_next 44 = .ok (.getfield 46, 3) := by decide +kernel
theorem d_TK_next_47 : decode b_TK_next 47 = .ok (.aload_n 0, 1) := by decide +kernel
theorem d_TK_next_48 : decode b_TK_next 48 = .ok (.getfield 58, 3) := by decide +kernel
theorem d_TK_next_51 : decode b_TK_next 51 = .ok (.if_icmp .lt 11, 3) := by decide +kernel
theorem d_TK_next_54 : decode b_TK_next 54 = .ok (.new 85, 3) := by decide +kernel
theorem d_TK_next_57 : decode b_TK_next 57 = .ok (.dup, 1) := by decide +kernel
theorem d_TK_next_58 : decode b_TK_next 58 = .ok (.invokespecial 87, 3) := by decide +kernel
theorem d_TK_next_61 : decode b_TK_next 61 = .ok (.athrow, 1) := by decide +kernel
theorem d_TK_next_62 : decode b_TK_next 62 = .ok (.aload_n 0, 1) := by decide +kernel
theorem d_TK_next_63 : decode b_TK_next 63 = .ok (.getfield 46, 3) := by decide +kernel
theorem d_TK_next_66 : decode b_TK_next 66 = .ok (.istore_n 1, 1) := by decide +kernel
theorem d_TK_next_67 : decode b_TK_next 67 = .ok (.aload_n 0, 1) := by decide +kernel
theorem d_TK_next_68 : decode b_TK_next 68 = .ok (.aload_n 0, 1) := by decide +kernel
theorem d_TK_next_69 : decode b_TK_next 69 = .ok (.aload_n 0, 1) := by decide +kernel
theorem d_TK_next_70 : decode b_TK_next 70 = .ok (.getfield 46, 3) := by decide +kernel
theorem d_TK_next_73 : decode b_TK_next 73 = .ok (.invokevirtual 88, 3) := by decide +kernel
theorem d_TK_next_76 : decode b_TK_next 76 = .ok (.putfield 46, 3) := by decide +kernel
theorem d_TK_next_79 : decode b_TK_next 79 = .ok (.aload_n 0, 1) := by decide +kernel
theorem d_TK_next_80 : decode b_TK_next 80 = .ok (.getfield 55, 3) := by decide +kernel
theorem d_TK_next_83 : decode b_TK_next 83 = .ok (.iload_n 1, 1) := by decide +kernel
theorem d_TK_next_84 : decode b_TK_next 84 = .ok (.aload_n 0, 1) := by decide +kernel
theorem d_TK_next_85 : decode b_TK_next 85 = .ok (.getfield 46, 3) := by decide +kernel
theorem d_TK_next_88 : decode b_TK_next 88 = .ok (.invokevirtual 91, 3) := by decide +kernel
theorem d_TK_next_91 : decode b_TK_next 91 = .ok (.areturn, 1) := by decide +kernel
theorem d_TD_init_0 : decode b_TD_init 0 = .ok (.aload_n 0, 1) := by decide +kernel
theorem d_TD_init_1 : decode b_TD_init 1 = .ok (.invokespecial 1, 3) := by decide +kernel
theorem d_TD_init_4 : decode b_TD_init 4 = .ok (.aload_n 0, 1) := by decide +kernel
theorem d_TD_init_5 : decode b_TD_init 5 = .ok (.new 7, 3) := by decide +kernel
theorem d_TD_init_8 : decode b_TD_init 8 = .ok (.dup, 1) := by decide +kernel
theorem d_TD_init_9 : decode b_TD_init 9 = .ok (.invokespecial 9, 3) := by decide +kernel
theorem d_TD_init_12 : decode b_TD_init 12 = .ok (.putfield 10, 3) := by decide +kernel
theorem d_TD_init_15 : decode b_TD_init 15 = .ok (.aload_n 0, 1) := by decide +kernel
theorem d_TD_init_16 : decode b_TD_init 16 = .ok (.new 16, 3) := by decide +kernel
theorem d_TD_init_19 : decode b_TD_init 19 = .ok (.dup, 1) := by decide +kernel
theorem d_TD_init_20 : decode b_TD_init 20 = .ok (.ldc 18, 2) := by decide +kernel
theorem d_TD_init_22 : decode b_TD_init 22 = .ok (.ldc 20, 2) := by decide +kernel
theorem d_TD_init_24 : decode b_TD_init 24 = .ok (.iconst 0, 1) := by decide +kernel
theorem d_TD_init_25 : decode b_TD_init 25 = .ok (.invokespecial 22, 3) := by decide +kernel
theorem d_TD_init_28 : decode b_TD_init 28 = .ok (.putfield 25, 3) := by decide +kernel
theorem d_TD_init_31 : decode b_TD_init 31 = .ok (.return_, 1) := by decide +kernel
theorem d_TD_type_0 : decode b_TD_type 0 = .ok (.aload_n 0, 1) := by decide +kernel
theorem d_TD_type_1 : decode b_TD_type 1 = .ok (.getfield 10, 3) := by decide +kernel
theorem d_TD_type_4 : decode b_TD_type 4 = .ok (.iload_n 1, 1) := by decide +kernel
theorem d_TD_type_5 : decode b_TD_type 5 = .ok (.invokevirtual 29, 3) := by decide +kernel
theorem d_TD_type_8 : decode b_TD_type 8 = .ok (.pop, 1) := by decide +kernel
theorem d_TD_type_9 : decode b_TD_type 9 = .ok (.return_, 1) := by decide +kernel
theorem d_TD_clear_0 : decode b_TD_clear 0 = .ok (.aload_n 0, 1) := by decide +kernel
theorem d_TD_clear_1 : decode b_TD_clear 1 = .ok (.getfield 10, 3) := by decide +kernel
theorem d_TD_clear_4 : decode b_TD_clear 4 = .ok (.iconst 0, 1) := by decide +kernel
theorem d_TD_clear_5 : decode b_TD_clear 5 = .ok (.invokevirtual 33, 3) := by decide +kernel
theorem d_TD_clear_8 : decode b_TD_clear 8 = .ok (.return_, 1) := by decide +kernel
theorem d_TD_begin_0 : decode b_TD_begin 0 = .ok (.aload_n 0, 1) := by decide +kernel
theorem d_TD_begin_1 : decode b_TD_begin 1 = .ok (.new 16, 3) := by decide +kernel
theorem d_TD_begin_4 : decode b_TD_begin 4 = .ok (.dup, 1) := by decide +kernel
theorem d_TD_begin_5 : decode b_TD_begin 5 = .ok (.aload_n 0, 1) := by decide +kernel
theorem d_TD_begin_6 : decode b_TD_begin 6 = .ok (.getfield 10, 3) := by decide +kernel
theorem d_TD_begin_9 : decode b_TD_begin 9 = .ok (.invokevirtual 37, 3) := by decide +kernel
theorem d_TD_begin_12 : decode b_TD_begin 12 = .ok (.aload_n 1, 1) := by decide +kernel
theorem d_TD_begin_13 : decode b_TD_begin 13 = .ok (.iload_n 2, 1) := by decide +kernel
theorem d_TD_begin_14 : decode b_TD_begin 14 = .ok (.invokespecial 22, 3) := by decide +kernel
theorem d_TD_begin_17 : decode b_TD_begin 17 = .ok (.putfield 25, 3) := by decide +kernel
theorem d_TD_begin_20 : decode b_TD_begin 20 = .ok (.return_, 1) := by decide +kernel
theorem d_TD_more_0 : decode b_TD_more 0 = .ok (.aload_n 0, 1) := by decide +kernel
theorem d_TD_more_1 : decode b_TD_more 1 = .ok (.getfield 25, 3) := by decide +kernel
theorem d_TD_more_4 : decode b_TD_more 4 = .ok (.invokevirtual 41, 3) := by decide +kernel
theorem d_TD_more_7 : decode b_TD_more 7 = .ok (.ireturn, 1) := by decide +kernel
theorem d_TD_left_0 : decode b_TD_left 0 = .ok (.aload_n 0, 1) := by decide +kernel
theorem d_TD_left_1 : decode b_TD_left 1 = .ok (.getfield 25, 3) := by decide +kernel
theorem d_TD_left_4 : decode b_TD_left 4 = .ok (.invokevirtual 45, 3) := by decide +kernel
theorem d_TD_left_7 : decode b_TD_left 7 = .ok (.ireturn, 1) := by decide +kernel
theorem d_TD_next_0 : decode b_TD_next 0 = .ok (.aload_n 0, 1) := by decide +kernel
theorem d_TD_next_1 : decode b_TD_next 1 = .ok (.getfield 25, 3) := by decide +kernel
theorem d_TD_next_4 : decode b_TD_next 4 = .ok (.invokevirtual 49, 3) := by decide +kernel
theorem d_TD_next_7 : decode b_TD_next 7 = .ok (.areturn, 1) := by decide +kernel
theorem d_LAW_sign_0 : decode b_LAW_sign 0 = .ok (.iload_n 0, 1) := by decide +kernel
theorem d_LAW_sign_1 : decode b_LAW_sign 1 = .ok (.bipush 44, 2) := by decide +kernel
theorem d_LAW_sign_3 : decode b_LAW_sign 3 = .ok (.if_icmp .ne 9, 3) := by decide +kernel
theorem d_LAW_sign_6 : decode b_LAW_sign 6 = .ok (.iload_n 1, 1) := by decide +kernel
theorem d_LAW_sign_7 : decode b_LAW_sign 7 = .ok (.iconst 1, 1) := by decide +kernel
theorem d_LAW_sign_8 : decode b_LAW_sign 8 = .ok (.iand, 1) := by decide +kernel
theorem d_LAW_sign_9 : decode b_LAW_sign 9 = .ok (.ifCond .ne 27, 3) := by decide +kernel
theorem d_LAW_sign_12 : decode b_LAW_sign 12 = .ok (.iload_n 0, 1) := by decide +kernel
theorem d_LAW_sign_13 : decode b_LAW_sign 13 = .ok (.bipush 32, 2) := by decide +kernel
theorem d_LAW_sign_15 : decode b_LAW_sign 15 = .ok (.if_icmp .ne 9, 3) := by decide +kernel
theorem d_LAW_sign_18 : decode b_LAW_sign 18 = .ok (.iload_n 1, 1) := by decide +kernel
theorem d_LAW_sign_19 : decode b_LAW_sign 19 = .ok (.iconst 2, 1) := by decide +kernel
theorem d_LAW_sign_20 : decode b_LAW_sign 20 = .ok (.iand, 1) := by decide +kernel
theorem d_LAW_sign_21 : decode b_LAW_sign 21 = .ok (.ifCond .ne 15, 3) := by decide +kernel
theorem d_LAW_sign_24 : decode b_LAW_sign 24 = .ok (.iload_n 0, 1) := by decide +kernel
theorem d_LAW_sign_25 : decode b_LAW_sign 25 = .ok (.bipush 59, 2) := by decide +kernel
theorem d_LAW_sign_27 : decode b_LAW_sign 27 = .ok (.if_icmp .ne 13, 3) := by decide +kernel
theorem d_LAW_sign_30 : decode b_LAW_sign 30 = .ok (.iload_n 1, 1) := by decide +kernel
theorem d_LAW_sign_31 : decode b_LAW_sign 31 = .ok (.iconst 4, 1) := by decide +kernel
theorem d_LAW_sign_32 : decode b_LAW_sign 32 = .ok (.iand, 1) := by decide +kernel
theorem d_LAW_sign_33 : decode b_LAW_sign 33 = .ok (.ifCond .eq 7, 3) := by decide +kernel
theorem d_LAW_sign_36 : decode b_LAW_sign 36 = .ok (.iconst 1, 1) := by decide +kernel
theorem d_LAW_sign_37 : decode b_LAW_sign 37 = .ok (.goto 4, 3) := by decide +kernel
theorem d_LAW_sign_40 : decode b_LAW_sign 40 = .ok (.iconst 0, 1) := by decide +kernel
theorem d_LAW_sign_41 : decode b_LAW_sign 41 = .ok (.ireturn, 1) := by decide +kernel
theorem d_LAW_signs_0 : decode b_LAW_signs 0 = .ok (.new 7, 3) := by decide +kernel
theorem d_LAW_signs_3 : decode b_LAW_signs 3 = .ok (.dup, 1) := by decide +kernel
theorem d_LAW_signs_4 : decode b_LAW_signs 4 = .ok (.invokespecial 9, 3) := by decide +kernel
theorem d_LAW_signs_7 : decode b_LAW_signs 7 = .ok (.iload_n 0, 1) := by decide +kernel
theorem d_LAW_signs_8 : decode b_LAW_signs 8 = .ok (.iconst 1, 1) := by decide +kernel
theorem d_LAW_signs_9 : decode b_LAW_signs 9 = .ok (.iand, 1) := by decide +kernel
theorem d_LAW_signs_10 : decode b_LAW_signs 10 = .ok (.ifCond .eq 8, 3) := by decide +kernel
theorem d_LAW_signs_13 : decode b_LAW_signs 13 = .ok (.ldc 10, 2) := by decide +kernel
theorem d_LAW_signs_15 : decode b_LAW_signs 15 = .ok (.goto 5, 3) := by decide +kernel
theorem d_LAW_signs_18 : decode b_LAW_signs 18 = .ok (.ldc 12, 2) := by decide +kernel
theorem d_LAW_signs_20 : decode b_LAW_signs 20 = .ok (.invokevirtual 14, 3) := by decide +kernel
theorem d_LAW_signs_23 : decode b_LAW_signs 23 = .ok (.iload_n 0, 1) := by decide +kernel
theorem d_LAW_signs_24 : decode b_LAW_signs 24 = .ok (.iconst 2, 1) := by decide +kernel
theorem d_LAW_signs_25 : decode b_LAW_signs 25 = .ok (.iand, 1) := by decide +kernel
theorem d_LAW_signs_26 : decode b_LAW_signs 26 = .ok (.ifCond .eq 8, 3) := by decide +kernel
theorem d_LAW_signs_29 : decode b_LAW_signs 29 = .ok (.ldc 18, 2) := by decide +kernel
theorem d_LAW_signs_31 : decode b_LAW_signs 31 = .ok (.goto 5, 3) := by decide +kernel
theorem d_LAW_signs_34 : decode b_LAW_signs 34 = .ok (.ldc 12, 2) := by decide +kernel
theorem d_LAW_signs_36 : decode b_LAW_signs 36 = .ok (.invokevirtual 14, 3) := by decide +kernel
theorem d_LAW_signs_39 : decode b_LAW_signs 39 = .ok (.iload_n 0, 1) := by decide +kernel
theorem d_LAW_signs_40 : decode b_LAW_signs 40 = .ok (.iconst 4, 1) := by decide +kernel
theorem d_LAW_signs_41 : decode b_LAW_signs 41 = .ok (.iand, 1) := by decide +kernel
theorem d_LAW_signs_42 : decode b_LAW_signs 42 = .ok (.ifCond .eq 8, 3) := by decide +kernel
theorem d_LAW_signs_45 : decode b_LAW_signs 45 = .ok (.ldc 20, 2) := by decide +kernel
theorem d_LAW_signs_47 : decode b_LAW_signs 47 = .ok (.goto 5, 3) := by decide +kernel
theorem d_LAW_signs_50 : decode b_LAW_signs 50 = .ok (.ldc 12, 2) := by decide +kernel
theorem d_LAW_signs_52 : decode b_LAW_signs 52 = .ok (.invokevirtual 14, 3) := by decide +kernel
theorem d_LAW_signs_55 : decode b_LAW_signs 55 = .ok (.invokevirtual 22, 3) := by decide +kernel
theorem d_LAW_signs_58 : decode b_LAW_signs 58 = .ok (.areturn, 1) := by decide +kernel
theorem d_LAW_law_0 : decode code 0 = .ok (.new 26, 3) := by decide +kernel
theorem d_LAW_law_3 : decode code 3 = .ok (.dup, 1) := by decide +kernel
theorem d_LAW_law_4 : decode code 4 = .ok (.invokespecial 28, 3) := by decide +kernel
theorem d_LAW_law_7 : decode code 7 = .ok (.astore_n 1, 1) := by decide +kernel
theorem d_LAW_law_8 : decode code 8 = .ok (.aload_n 0, 1) := by decide +kernel
theorem d_LAW_law_9 : decode code 9 = .ok (.arraylength, 1) := by decide +kernel
theorem d_LAW_law_10 : decode code 10 = .ok (.newarray .char, 2) := by decide +kernel
theorem d_LAW_law_12 : decode code 12 = .ok (.astore_n 2, 1) := by decide +kernel
theorem d_LAW_law_13 : decode code 13 = .ok (.aload_n 0, 1) := by decide +kernel
theorem d_LAW_law_14 : decode code 14 = .ok (.arraylength, 1) := by decide +kernel
theorem d_LAW_law_15 : decode code 15 = .ok (.newarray .char, 2) := by decide +kernel
theorem d_LAW_law_17 : decode code 17 = .ok (.astore_n 3, 1) := by decide +kernel
theorem d_LAW_law_18 : decode code 18 = .ok (.iconst 0, 1) := by decide +kernel
theorem d_LAW_law_19 : decode code 19 = .ok (.istore 4, 2) := by decide +kernel
theorem d_LAW_law_21 : decode code 21 = .ok (.iconst 0, 1) := by decide +kernel
theorem d_LAW_law_22 : decode code 22 = .ok (.istore 5, 2) := by decide +kernel
theorem d_LAW_law_24 : decode code 24 = .ok (.iconst 0, 1) := by decide +kernel
theorem d_LAW_law_25 : decode code 25 = .ok (.istore 6, 2) := by decide +kernel
theorem d_LAW_law_27 : decode code 27 = .ok (.iconst 0, 1) := by decide +kernel
theorem d_LAW_law_28 : decode code 28 = .ok (.istore 7, 2) := by decide +kernel
theorem d_LAW_law_30 : decode code 30 = .ok (.iconst 0, 1) := by decide +kernel
theorem d_LAW_law_31 : decode code 31 = .ok (.istore 8, 2) := by decide +kernel
theorem d_LAW_law_33 : decode code 33 = .ok (.iconst 0, 1) := by decide +kernel
theorem d_LAW_law_34 : decode code 34 = .ok (.istore 9, 2) := by decide +kernel
theorem d_LAW_law_36 : decode code 36 = .ok (.iload 9, 2) := by decide +kernel
theorem d_LAW_law_38 : decode code 38 = .ok (.aload_n 0, 1) := by decide +kernel
theorem d_LAW_law_39 : decode code 39 = .ok (.arraylength, 1) := by decide +kernel
theorem d_LAW_law_40 : decode code 40 = .ok (.if_icmp .ge 504, 3) := by decide +kernel
theorem d_LAW_law_43 : decode code 43 = .ok (.aload_n 0, 1) := by decide +kernel
theorem d_LAW_law_44 : decode code 44 = .ok (.iload 9, 2) := by decide +kernel
theorem d_LAW_law_46 : decode code 46 = .ok (.iaload, 1) := by decide +kernel
theorem d_LAW_law_47 : decode code 47 = .ok (.istore 10, 2) := by decide +kernel
theorem d_LAW_law_49 : decode code 49 = .ok (.iload 10, 2) := by decide +kernel
theorem d_LAW_law_51 : decode code 51 = .ok (.bipush 15, 2) := by decide +kernel
theorem d_LAW_law_53 : decode code 53 = .ok (.iand, 1) := by decide +kernel
theorem d_LAW_law_54 : decode code 54 = .ok (.tableswitch 411 0 4 #[34, 111, 130, 130, 130], 34) := by decide +kernel
theorem d_LAW_law_88 : decode code 88 = .ok (.aload_n 1, 1) := by decide +kernel
theorem d_LAW_law_89 : decode code 89 = .ok (.iload 10, 2) := by decide +kernel
theorem d_LAW_law_91 : decode code 91 = .ok (.iconst 4, 1) := by decide +kernel
theorem d_LAW_law_92 : decode code 92 = .ok (.ishr, 1) := by decide +kernel
theorem d_LAW_law_93 : decode code 93 = .ok (.invokestatic 29, 3) := by decide +kernel
theorem d_LAW_law_96 : decode code 96 = .ok (.iload 10, 2) := by decide +kernel
theorem d_LAW_law_98 : decode code 98 = .ok (.sipush 128, 3) := by decide +kernel
theorem d_LAW_law_101 : decode code 101 = .ok (.iand, 1) := by decide +kernel
theorem d_LAW_law_102 : decode code 102 = .ok (.ifCond .eq 7, 3) := by decide +kernel
theorem d_LAW_law_105 : decode code 105 = .ok (.iconst 1, 1) := by decide +kernel
theorem d_LAW_law_106 : decode code 106 = .ok (.goto 4, 3) := by decide +kernel
theorem d_LAW_law_109 : decode code 109 = .ok (.iconst 0, 1) := by decide +kernel
theorem d_LAW_law_110 : decode code 110 = .ok (.invokevirtual 35, 3) := by decide +kernel
theorem d_LAW_law_113 : decode code 113 = .ok (.iconst 0, 1) := by decide +kernel
theorem d_LAW_law_114 : decode code 114 = .ok (.istore 5, 2) := by decide +kernel
theorem d_LAW_law_116 : decode code 116 = .ok (.iload 5, 2) := by decide +kernel
theorem d_LAW_law_118 : decode code 118 = .ok (.iload 4, 2) := by decide +kernel
theorem d_LAW_law_120 : decode code 120 = .ok (.if_icmp .ge 17, 3) := by decide +kernel
theorem d_LAW_law_123 : decode code 123 = .ok (.aload_n 3, 1) := by decide +kernel
theorem d_LAW_law_124 : decode code 124 = .ok (.iload 5, 2) := by decide +kernel
theorem d_LAW_law_126 : decode code 126 = .ok (.aload_n 2, 1) := by decide +kernel
theorem d_LAW_law_127 : decode code 127 = .ok (.iload 5, 2) := by decide +kernel
theorem d_LAW_law_129 : decode code 129 = .ok (.caload, 1) := by decide +kernel
theorem d_LAW_law_130 : decode code 130 = .ok (.castore, 1) := by decide +kernel
theorem d_LAW_law_131 : decode code 131 = .ok (.iinc 5 1, 3) := by decide +kernel
theorem d_LAW_law_134 : decode code 134 = .ok (.goto (-18), 3) := by decide +kernel
theorem d_LAW_law_137 : decode code 137 = .ok (.iconst 0, 1) := by decide +kernel
theorem d_LAW_law_138 : decode code 138 = .ok (.istore 6, 2) := by decide +kernel
theorem d_LAW_law_140 : decode code 140 = .ok (.iload 10, 2) := by decide +kernel
theorem d_LAW_law_142 : decode code 142 = .ok (.iconst 4, 1) := by decide +kernel
theorem d_LAW_law_143 : decode code 143 = .ok (.ishr, 1) := by decide +kernel
theorem d_LAW_law_144 : decode code 144 = .ok (.istore 7, 2) := by decide +kernel
theorem d_LAW_law_146 : decode code 146 = .ok (.iload 10, 2) := by decide +kernel
theorem d_LAW_law_148 : decode code 148 = .ok (.sipush 128, 3) := by decide +kernel
theorem d_LAW_law_151 : decode code 151 = .ok (.iand, 1) := by decide +kernel
theorem d_LAW_law_152 : decode code 152 = .ok (.ifCond .eq 7, 3) := by decide +kernel
theorem d_LAW_law_155 : decode code 155 = .ok (.iconst 1, 1) := by decide +kernel
theorem d_LAW_law_156 : decode code 156 = .ok (.goto 4, 3) := by decide +kernel
theorem d_LAW_law_159 : decode code 159 = .ok (.iconst 0, 1) := by decide +kernel
theorem d_LAW_law_160 : decode code 160 = .ok (.istore 8, 2) := by decide +kernel
theorem d_LAW_law_162 : decode code 162 = .ok (.goto 376, 3) := by decide +kernel
theorem d_LAW_law_165 : decode code 165 = .ok (.iload 10, 2) := by decide +kernel
theorem d_LAW_law_167 : decode code 167 = .ok (.sipush 240, 3) := by decide +kernel
theorem d_LAW_law_170 : decode code 170 = .ok (.iand, 1) := by decide +kernel
theorem d_LAW_law_171 : decode code 171 = .ok (.ifCond .ne 367, 3) := by decide +kernel
theorem d_LAW_law_174 : decode code 174 = .ok (.aload_n 1, 1) := by decide +kernel
theorem d_LAW_law_175 : decode code 175 = .ok (.invokevirtual 39, 3) := by decide +kernel
theorem d_LAW_law_178 : decode code 178 = .ok (.iconst 0, 1) := by decide +kernel
theorem d_LAW_law_179 : decode code 179 = .ok (.istore 4, 2) := by decide +kernel
theorem d_LAW_law_181 : decode code 181 = .ok (.goto 357, 3) := by decide +kernel
theorem d_LAW_law_184 : decode code 184 = .ok (.iload 6, 2) := by decide +kernel
theorem d_LAW_law_186 : decode code 186 = .ok (.istore 11, 2) := by decide +kernel
theorem d_LAW_law_188 : decode code 188 = .ok (.iload 8, 2) := by decide +kernel
theorem d_LAW_law_190 : decode code 190 = .ok (.ifCond .ne 28, 3) := by decide +kernel
theorem d_LAW_law_193 : decode code 193 = .ok (.iload 11, 2) := by decide +kernel
theorem d_LAW_law_195 : decode code 195 = .ok (.iload 5, 2) := by decide +kernel
theorem d_LAW_law_197 : decode code 197 = .ok (.if_icmp .ge 21, 3) := by decide +kernel
theorem d_LAW_law_200 : decode code 200 = .ok (.aload_n 3, 1) := by decide +kernel
theorem d_LAW_law_201 : decode code 201 = .ok (.iload 11, 2) := by decide +kernel
theorem d_LAW_law_203 : decode code 203 = .ok (.caload, 1) := by decide +kernel
theorem d_LAW_law_204 : decode code 204 = .ok (.iload 7, 2) := by decide +kernel
theorem d_LAW_law_206 : decode code 206 = .ok (.invokestatic 42, 3) := by decide +kernel
theorem d_LAW_law_209 : decode code 209 = .ok (.ifCond .eq 9, 3) := by decide +kernel
theorem d_LAW_law_212 : decode code 212 = .ok (.iinc 11 1, 3) := by decide +kernel
theorem d_LAW_law_215 : decode code 215 = .ok (.goto (-27), 3) := by decide +kernel
theorem d_LAW_law_218 : decode code 218 = .ok (.aload_n 1, 1) := by decide +kernel
theorem d_LAW_law_219 : decode code 219 = .ok (.invokevirtual 46, 3) := by decide +kernel
theorem d_LAW_law_222 : decode code 222 = .ok (.iload 11, 2) := by decide +kernel
theorem d_LAW_law_224 : decode code 224 = .ok (.iload 5, 2) := by decide +kernel
theorem d_LAW_law_226 : decode code 226 = .ok (.if_icmp .ge 7, 3) := by decide +kernel
theorem d_LAW_law_229 : decode code 229 = .ok (.iconst 1, 1) := by decide +kernel
theorem d_LAW_law_230 : decode code 230 = .ok (.goto 4, 3) := by decide +kernel
theorem d_LAW_law_233 : decode code 233 = .ok (.iconst 0, 1) := by decide +kernel
theorem d_LAW_law_234 : decode code 234 = .ok (.if_icmp .eq 5, 3) := by decide +kernel
theorem d_LAW_law_237 : decode code 237 = .ok (.iconst 0, 1) := by decide +kernel
theorem d_LAW_law_238 : decode code 238 = .ok (.ireturn, 1) := by decide +kernel
theorem d_LAW_law_239 : decode code 239 = .ok (.iconst 0, 1) := by decide +kernel
theorem d_LAW_law_240 : decode code 240 = .ok (.istore 12, 2) := by decide +kernel
theorem d_LAW_law_242 : decode code 242 = .ok (.iload 11, 2) := by decide +kernel
theorem d_LAW_law_244 : decode code 244 = .ok (.istore 13, 2) := by decide +kernel
theorem d_LAW_law_246 : decode code 246 = .ok (.iload 13, 2) := by decide +kernel
theorem d_LAW_law_248 : decode code 248 = .ok (.iload 5, 2) := by decide +kernel
theorem d_LAW_law_250 : decode code 250 = .ok (.if_icmp .ge 87, 3) := by decide +kernel
theorem d_LAW_law_253 : decode code 253 = .ok (.iload 13, 2) := by decide +kernel
theorem d_LAW_law_255 : decode code 255 = .ok (.istore 14, 2) := by decide +kernel
theorem d_LAW_law_257 : decode code 257 = .ok (.iload 14, 2) := by decide +kernel
theorem d_LAW_law_259 : decode code 259 = .ok (.iload 5, 2) := by decide +kernel
theorem d_LAW_law_261 : decode code 261 = .ok (.if_icmp .ge 21, 3) := by decide +kernel
theorem d_LAW_law_264 : decode code 264 = .ok (.aload_n 3, 1) := by decide +kernel
theorem d_LAW_law_265 : decode code 265 = .ok (.iload 14, 2) := by decide +kernel
theorem d_LAW_law_267 : decode code 267 = .ok (.caload, 1) := by decide +kernel
theorem d_LAW_law_268 : decode code 268 = .ok (.iload 7, 2) := by decide +kernel
theorem d_LAW_law_270 : decode code 270 = .ok (.invokestatic 42, 3) := by decide +kernel
theorem d_LAW_law_273 : decode code 273 = .ok (.ifCond .ne 9, 3) := by decide +kernel
theorem d_LAW_law_276 : decode code 276 = .ok (.iinc 14 1, 3) := by decide +kernel
theorem d_LAW_law_279 : decode code 279 = .ok (.goto (-22), 3) := by decide +kernel
theorem d_LAW_law_282 : decode code 282 = .ok (.iload 8, 2) := by decide +kernel
theorem d_LAW_law_284 : decode code 284 = .ok (.ifCond .eq 13, 3) := by decide +kernel
theorem d_LAW_law_287 : decode code 287 = .ok (.iload 14, 2) := by decide +kernel
theorem d_LAW_law_289 : decode code 289 = .ok (.iload 13, 2) := by decide +kernel
theorem d_LAW_law_291 : decode code 291 = .ok (.if_icmp .ne 6, 3) := by decide +kernel
theorem d_LAW_law_294 : decode code 294 = .ok (.iinc 14 1, 3) := by decide +kernel
theorem d_LAW_law_297 : decode code 297 = .ok (.iinc 12 1, 3) := by decide +kernel
theorem d_LAW_law_300 : decode code 300 = .ok (.iload 14, 2) := by decide +kernel
theorem d_LAW_law_302 : decode code 302 = .ok (.istore 13, 2) := by decide +kernel
theorem d_LAW_law_304 : decode code 304 = .ok (.iload 8, 2) := by decide +kernel
theorem d_LAW_law_306 : decode code 306 = .ok (.ifCond .ne 28, 3) := by decide +kernel
theorem d_LAW_law_309 : decode code 309 = .ok (.iload 13, 2) := by decide +kernel
theorem d_LAW_law_311 : decode code 311 = .ok (.iload 5, 2) := by decide +kernel
theorem d_LAW_law_313 : decode code 313 = .ok (.if_icmp .ge 21, 3) := by decide +kernel
theorem d_LAW_law_316 : decode code 316 = .ok (.aload_n 3, 1) := by decide +kernel
theorem d_LAW_law_317 : decode code 317 = .ok (.iload 13, 2) := by decide +kernel
theorem d_LAW_law_319 : decode code 319 = .ok (.caload, 1) := by decide +kernel
theorem d_LAW_law_320 : decode code 320 = .ok (.iload 7, 2) := by decide +kernel
theorem d_LAW_law_322 : decode code 322 = .ok (.invokestatic 42, 3) := by decide +kernel
theorem d_LAW_law_325 : decode code 325 = .ok (.ifCond .eq 9, 3) := by decide +kernel
theorem d_LAW_law_328 : decode code 328 = .ok (.iinc 13 1, 3) := by decide +kernel
theorem d_LAW_law_331 : decode code 331 = .ok (.goto (-27), 3) := by decide +kernel
theorem d_LAW_law_334 : decode code 334 = .ok (.goto (-88), 3) := by decide +kernel
theorem d_LAW_law_337 : decode code 337 = .ok (.aload_n 1, 1) := by decide +kernel
theorem d_LAW_law_338 : decode code 338 = .ok (.invokevirtual 50, 3) := by decide +kernel
theorem d_LAW_law_341 : decode code 341 = .ok (.iload 12, 2) := by decide +kernel
theorem d_LAW_law_343 : decode code 343 = .ok (.if_icmp .eq 5, 3) := by decide +kernel
theorem d_LAW_law_346 : decode code 346 = .ok (.iconst 0, 1) := by decide +kernel
theorem d_LAW_law_347 : decode code 347 = .ok (.ireturn, 1) := by decide +kernel
theorem d_LAW_law_348 : decode code 348 = .ok (.iload 11, 2) := by decide +kernel
theorem d_LAW_law_350 : decode code 350 = .ok (.iload 5, 2) := by decide +kernel
theorem d_LAW_law_352 : decode code 352 = .ok (.if_icmp .ge 186, 3) := by decide +kernel
theorem d_LAW_law_355 : decode code 355 = .ok (.iload 11, 2) := by decide +kernel
theorem d_LAW_law_357 : decode code 357 = .ok (.istore 13, 2) := by decide +kernel
theorem d_LAW_law_359 : decode code 359 = .ok (.iload 13, 2) := by decide +kernel
theorem d_LAW_law_361 : decode code 361 = .ok (.iload 5, 2) := by decide +kernel
theorem d_LAW_law_363 : decode code 363 = .ok (.if_icmp .ge 21, 3) := by decide +kernel
theorem d_LAW_law_366 : decode code 366 = .ok (.aload_n 3, 1) := by decide +kernel
theorem d_LAW_law_367 : decode code 367 = .ok (.iload 13, 2) := by decide +kernel
theorem d_LAW_law_369 : decode code 369 = .ok (.caload, 1) := by decide +kernel
theorem d_LAW_law_370 : decode code 370 = .ok (.iload 7, 2) := by decide +kernel
theorem d_LAW_law_372 : decode code 372 = .ok (.invokestatic 42, 3) := by decide +kernel
theorem d_LAW_law_375 : decode code 375 = .ok (.ifCond .ne 9, 3) := by decide +kernel
theorem d_LAW_law_378 : decode code 378 = .ok (.iinc 13 1, 3) := by decide +kernel
theorem d_LAW_law_381 : decode code 381 = .ok (.goto (-22), 3) := by decide +kernel
theorem d_LAW_law_384 : decode code 384 = .ok (.iload 8, 2) := by decide +kernel
theorem d_LAW_law_386 : decode code 386 = .ok (.ifCond .eq 13, 3) := by decide +kernel
theorem d_LAW_law_389 : decode code 389 = .ok (.iload 13, 2) := by decide +kernel
theorem d_LAW_law_391 : decode code 391 = .ok (.iload 11, 2) := by decide +kernel
theorem d_LAW_law_393 : decode code 393 = .ok (.if_icmp .ne 6, 3) := by decide +kernel
theorem d_LAW_law_396 : decode code 396 = .ok (.iinc 13 1, 3) := by decide +kernel
theorem d_LAW_law_399 : decode code 399 = .ok (.aload_n 1, 1) := by decide +kernel
theorem d_LAW_law_400 : decode code 400 = .ok (.invokevirtual 54, 3) := by decide +kernel
theorem d_LAW_law_403 : decode code 403 = .ok (.astore 14, 2) := by decide +kernel
theorem d_LAW_law_405 : decode code 405 = .ok (.aload 14, 2) := by decide +kernel
theorem d_LAW_law_407 : decode code 407 = .ok (.invokevirtual 57, 3) := by decide +kernel
theorem d_LAW_law_410 : decode code 410 = .ok (.iload 13, 2) := by decide +kernel
theorem d_LAW_law_412 : decode code 412 = .ok (.iload 11, 2) := by decide +kernel
theorem d_LAW_law_414 : decode code 414 = .ok (.isub, 1) := by decide +kernel
theorem d_LAW_law_415 : decode code 415 = .ok (.if_icmp .eq 5, 3) := by decide +kernel
theorem d_LAW_law_418 : decode code 418 = .ok (.iconst 0, 1) := by decide +kernel
theorem d_LAW_law_419 : decode code 419 = .ok (.ireturn, 1) := by decide +kernel
theorem d_LAW_law_420 : decode code 420 = .ok (.iconst 0, 1) := by decide +kernel
theorem d_LAW_law_421 : decode code 421 = .ok (.istore 15, 2) := by decide +kernel
theorem d_LAW_law_423 : decode code 423 = .ok (.iload 15, 2) := by decide +kernel
theorem d_LAW_law_425 : decode code 425 = .ok (.aload 14, 2) := by decide +kernel
theorem d_LAW_law_427 : decode code 427 = .ok (.invokevirtual 57, 3) := by decide +kernel
theorem d_LAW_law_430 : decode code 430 = .ok (.if_icmp .ge 28, 3) := by decide +kernel
theorem d_LAW_law_433 : decode code 433 = .ok (.aload 14, 2) := by decide +kernel
theorem d_LAW_law_435 : decode code 435 = .ok (.iload 15, 2) := by decide +kernel
theorem d_LAW_law_437 : decode code 437 = .ok (.invokevirtual 62, 3) := by decide +kernel
theorem d_LAW_law_440 : decode code 440 = .ok (.aload_n 3, 1) := by decide +kernel
theorem d_LAW_law_441 : decode code 441 = .ok (.iload 11, 2) := by decide +kernel
theorem d_LAW_law_443 : decode code 443 = .ok (.iload 15, 2) := by decide +kernel
theorem d_LAW_law_445 : decode code 445 = .ok (.iadd, 1) := by decide +kernel
theorem d_LAW_law_446 : decode code 446 = .ok (.caload, 1) := by decide +kernel
theorem d_LAW_law_447 : decode code 447 = .ok (.if_icmp .eq 5, 3) := by decide +kernel
theorem d_LAW_law_450 : decode code 450 = .ok (.iconst 0, 1) := by decide +kernel
theorem d_LAW_law_451 : decode code 451 = .ok (.ireturn, 1) := by decide +kernel
theorem d_LAW_law_452 : decode code 452 = .ok (.iinc 15 1, 3) := by decide +kernel
theorem d_LAW_law_455 : decode code 455 = .ok (.goto (-32), 3) := by decide +kernel
theorem d_LAW_law_458 : decode code 458 = .ok (.iload 13, 2) := by decide +kernel
theorem d_LAW_law_460 : decode code 460 = .ok (.istore 6, 2) := by decide +kernel
theorem d_LAW_law_462 : decode code 462 = .ok (.goto 76, 3) := by decide +kernel
theorem d_LAW_law_465 : decode code 465 = .ok (.iload 10, 2) := by decide +kernel
theorem d_LAW_law_467 : decode code 467 = .ok (.iconst 4, 1) := by decide +kernel
theorem d_LAW_law_468 : decode code 468 = .ok (.ishr, 1) := by decide +kernel
theorem d_LAW_law_469 : decode code 469 = .ok (.bipush 7, 2) := by decide +kernel
theorem d_LAW_law_471 : decode code 471 = .ok (.iand, 1) := by decide +kernel
theorem d_LAW_law_472 : decode code 472 = .ok (.istore 11, 2) := by decide +kernel
theorem d_LAW_law_474 : decode code 474 = .ok (.iload 11, 2) := by decide +kernel
theorem d_LAW_law_476 : decode code 476 = .ok (.ifCond .ne 8, 3) := by decide +kernel
theorem d_LAW_law_479 : decode code 479 = .ok (.bipush 44, 2) := by decide +kernel
theorem d_LAW_law_481 : decode code 481 = .ok (.goto 37, 3) := by decide +kernel
theorem d_LAW_law_484 : decode code 484 = .ok (.iload 11, 2) := by decide +kernel
theorem d_LAW_law_486 : decode code 486 = .ok (.iconst 1, 1) := by decide +kernel
theorem d_LAW_law_487 : decode code 487 = .ok (.if_icmp .ne 8, 3) := by decide +kernel
theorem d_LAW_law_490 : decode code 490 = .ok (.bipush 32, 2) := by decide +kernel
theorem d_LAW_law_492 : decode code 492 = .ok (.goto 26, 3) := by decide +kernel
theorem d_LAW_law_495 : decode code 495 = .ok (.iload 11, 2) := by decide +kernel
theorem d_LAW_law_497 : decode code 497 = .ok (.iconst 2, 1) := by decide +kernel
theorem d_LAW_law_498 : decode code 498 = .ok (.if_icmp .ne 8, 3) := by decide +kernel
theorem d_LAW_law_501 : decode code 501 = .ok (.bipush 59, 2) := by decide +kernel
theorem d_LAW_law_503 : decode code 503 = .ok (.goto 15, 3) := by decide +kernel
theorem d_LAW_law_506 : decode code 506 = .ok (.bipush 97, 2) := by decide +kernel
theorem d_LAW_law_508 : decode code 508 = .ok (.iload 10, 2) := by decide +kernel
theorem d_LAW_law_510 : decode code 510 = .ok (.bipush 8, 2) := by decide +kernel
theorem d_LAW_law_512 : decode code 512 = .ok (.ishr, 1) := by decide +kernel
theorem d_LAW_law_513 : decode code 513 = .ok (.bipush 7, 2) := by decide +kernel
theorem d_LAW_law_515 : decode code 515 = .ok (.iand, 1) := by decide +kernel
theorem d_LAW_law_516 : decode code 516 = .ok (.iadd, 1) := by decide +kernel
theorem d_LAW_law_517 : decode code 517 = .ok (.i2c, 1) := by decide +kernel
theorem d_LAW_law_518 : decode code 518 = .ok (.istore 12, 2) := by decide +kernel
theorem d_LAW_law_520 : decode code 520 = .ok (.aload_n 1, 1) := by decide +kernel
theorem d_LAW_law_521 : decode code 521 = .ok (.iload 12, 2) := by decide +kernel
theorem d_LAW_law_523 : decode code 523 = .ok (.invokevirtual 66, 3) := by decide +kernel
theorem d_LAW_law_526 : decode code 526 = .ok (.aload_n 2, 1) := by decide +kernel
theorem d_LAW_law_527 : decode code 527 = .ok (.iload 4, 2) := by decide +kernel
theorem d_LAW_law_529 : decode code 529 = .ok (.iinc 4 1, 3) := by decide +kernel
theorem d_LAW_law_532 : decode code 532 = .ok (.iload 12, 2) := by decide +kernel
theorem d_LAW_law_534 : decode code 534 = .ok (.castore, 1) := by decide +kernel
theorem d_LAW_law_535 : decode code 535 = .ok (.goto 3, 3) := by decide +kernel
theorem d_LAW_law_538 : decode code 538 = .ok (.iinc 9 1, 3) := by decide +kernel
theorem d_LAW_law_541 : decode code 541 = .ok (.goto (-505), 3) := by decide +kernel
theorem d_LAW_law_544 : decode code 544 = .ok (.iconst 1, 1) := by decide +kernel
theorem d_LAW_law_545 : decode code 545 = .ok (.ireturn, 1) := by decide +kernel
end
section
/-! the frame of this proof: rooms by depth, one list of words, contracts, call sites, field sites -/
def rmd (d mc ms : Nat) : Room := { frames := d, cells := mc, slots := ms, locals := 30 * d }
def wd (y : MethodName) (b : ByteArray) (n : Nat) (r : Option FieldType) : List Cond := .code y b n r :: tb
/-- a contract of method y: depth d, mc cells of ms slots -/
def Ct (l : Launch) (y : MethodName) (b : ByteArray) (n : Nat) (r : Option FieldType) (d mc ms : Nat) (av : List Value) (B : State → Prop) (Qc : Array Value → State → Outcome → State → Prop) (free : Addr → Prop) : Prop :=
  Met l y (wd y b n r) (rmd d mc ms) (va_Pc av B) Qc mc ms free ∧ FrameBlind (va_Pc av B)
theorem ct_of {l : Launch} {y : MethodName} {b : ByteArray} {n : Nat} {r : Option FieldType} {d mc ms : Nat} {av : List Value} {B : State → Prop} {Qc : Array Value → State → Outcome → State → Prop} {free : Addr → Prop}
    (hy : plainName y.cls = true) (hlen : (lg_sl av).length ≤ n) (hbl : ∀ (U : State) (g : JFrame) (mk : MethodId) (a : Array Value), B U → B (U.calling g mk a))
    (body : ∀ (p : Program) (e : Env) (s : State) (m : MethodId) (below : List Frame) (meth : Method) (c : Code) (ls : Array Slot), CallFix p m c b n s av.toArray tb y.cls → meth.sig.returnType = r → meth.locks = false → meth.name = y.name → B s → lv_has ls n (lv_args 0 av) →
      W p l e (rmd d mc ms) s m av.toArray below meth c s.heap [] 0 0 (MQ below Qc av.toArray s mc ms free) (F0 m 0 ls [])) : Ct l y b n r d mc ms av B Qc free := by
  refine ⟨Met.ofW (cc := b) (maxL := n) (ret := r) hy rfl ?_, fun a U g mk q => ⟨q.1, hbl U g mk a q.2⟩⟩
  intro p e s m args below meth c s₁ B0 hml hv
  obtain ⟨rfl, hB⟩ := hv
  have hts := atoms_spec (ws := wd y b n r) B0.pre
  have hl := lv_entry av (n := n) hlen
  rw [lg_entry_eq]
  exact body p e s m below meth c _ ⟨B0.exec, B0.bytes, hml, findClass_of_methodNamed B0.named, fun w hw => hts w (List.mem_cons_of_mem _ hw)⟩ B0.returns B0.notSynchronized (name_of_methodNamed B0.named B0.method).1 hB hl
theorem gd_of (ws : List Cond) (h : ∀ w ∈ ws, w ∈ tb) : GoodIn tb ws := fun w hw => ⟨h w hw, tb_good w (h w hw)⟩
theorem wd_in {y : MethodName} {b : ByteArray} {n : Nat} {r : Option FieldType} (h : Cond.code y b n r ∈ tb) : ∀ w ∈ wd y b n r, w ∈ tb := fun w hw => by
  rcases List.mem_cons.mp hw with rfl | hw
  · exact h
  · exact hw
/-- call sites -/
def SV (own : String) (idx : Nat) (C : String) (y : MethodName) (b : ByteArray) (n : Nat) (r : Option FieldType) (k : Nat) : Prop :=
  Cond.methodLink own idx y ∈ tb ∧ Cond.instanceMethod y ∈ tb ∧ Cond.selects C y y ∈ tb ∧ Cond.initialized C ∈ tb ∧ Cond.code y b n r ∈ tb ∧ (y.cls = C ∧ y.cls ≠ "java/lang/invoke/MethodHandle" ∧ y.cls ≠ "java/lang/invoke/VarHandle" ∧ (parseMethodDescriptor y.desc).map (fun d => d.parameters.length) = some k)
def SS (own : String) (idx : Nat) (y : MethodName) (b : ByteArray) (n : Nat) (r : Option FieldType) (k : Nat) : Prop :=
  Cond.methodLink own idx y ∈ tb ∧ Cond.static y ∈ tb ∧ Cond.initialized y.cls ∈ tb ∧ Cond.code y b n r ∈ tb ∧ (y.cls ≠ "java/lang/invoke/MethodHandle" ∧ y.cls ≠ "java/lang/invoke/VarHandle" ∧ (parseMethodDescriptor y.desc).map (fun d => d.parameters.length) = some k)
def SI (own : String) (idx : Nat) (y : MethodName) (b : ByteArray) (n : Nat) (k : Nat) : Prop :=
  Cond.methodLink own idx y ∈ tb ∧ Cond.instanceMethod y ∈ tb ∧ Cond.initialized y.cls ∈ tb ∧ Cond.code y b n none ∈ tb ∧ y.name = "<init>" ∧ (y.cls ≠ "java/lang/invoke/MethodHandle" ∧ y.cls ≠ "java/lang/invoke/VarHandle" ∧ (parseMethodDescriptor y.desc).map (fun d => d.parameters.length) = some k)
/-- a method that the receiver's class C inherits -/
def SU (own : String) (idx : Nat) (C : String) (y : MethodName) (b : ByteArray) (n : Nat) (r : Option FieldType) (k : Nat) : Prop :=
  Cond.methodLink own idx y ∈ tb ∧ Cond.sameMethod y.cls y.cls y.name y.desc ∈ tb ∧ Cond.selects C y y ∈ tb ∧ Cond.instanceMethod y ∈ tb ∧ Cond.initialized y.cls ∈ tb ∧ Cond.code y b n r ∈ tb ∧ (y.cls ≠ "java/lang/invoke/MethodHandle" ∧ y.cls ≠ "java/lang/invoke/VarHandle" ∧ (parseMethodDescriptor y.desc).map (fun d => d.parameters.length) = some k)
/-- super.y(..) -/
def SP (own : String) (idx : Nat) (y : MethodName) (b : ByteArray) (n : Nat) (r : Option FieldType) (k : Nat) : Prop :=
  Cond.methodLink own idx y ∈ tb ∧ Cond.sameMethod y.cls y.cls y.name y.desc ∈ tb ∧ Cond.superclass own y.cls ∈ tb ∧ Cond.instanceMethod y ∈ tb ∧ Cond.initialized y.cls ∈ tb ∧ Cond.code y b n r ∈ tb ∧ (y.name ≠ "<init>" ∧ (parseMethodDescriptor y.desc).map (fun d => d.parameters.length) = some k)
section RUN
variable {p : Program} {l : Launch} {e : Env} {R : Room} {s : State} {m : MethodId} {args : Array Value} {below : List Frame} {meth : Method} {c : Code} {H : Heap} {locs : List Loc} {cells slots : Nat}
  {cc b : ByteArray} {nL n k idx d mc ms pc : Nat} {own C : String} {y : MethodName} {r : Option FieldType} {B : State → Prop} {Qc : Array Value → State → Outcome → State → Prop} {free : Addr → Prop} {a : Addr} {As rest st0 : List Value} {ls : Array Slot}
theorem rn_V (S : CallFix p m c cc nL s args tb own) (st : SV own idx C y b n r k) (hM : Ct l y b n r d mc ms (.ref a :: As) B Qc free) (hrecv : ∃ cell : Cell, H[a]? = some cell ∧ cell.vm.isStatics = false ∧ s.vm.findClass C = some cell.cls) (hB : ∀ U : State, U.heap = H → s.WarmedH U.vm → B U)
    (hfr : d + 1 ≤ R.frames) (hlo : 8 + (n + 11) + 30 * d ≤ R.locals) (hce : cells + mc ≤ R.cells) (hsl : slots + ms ≤ R.slots) (hk : As.length = k) (hls : ls.size = nL) (hst : st0 = As.reverse ++ .ref a :: rest) (hW : (rest.map fun v => v.category).sum ≤ 8) (hdg : decode cc pc = .ok (.invokevirtual idx, 3)) :
    va_Run p l e R s m args below meth c H locs cells slots mc ms (F0 m pc ls st0) rest (Qc (Value.ref a :: As).toArray) free := by
  obtain ⟨h1, h2, h3, h4, h5, h6⟩ := st
  refine va_runV (C := C) S hM.1 (cwV (rm := rmd d mc ms) (bytes := b) (maxL := n) (ret := r) k S.2.2.2.2 (gd_of _ ?_) rfl rfl rfl h6 ⟨hfr, hlo⟩) ⟨hM.2, hrecv, fun U g1 g2 => ⟨rfl, hB U g1 g2⟩⟩ rfl hk hls hst (lv_room hW) hdg ⟨hce, hsl⟩
  intro w hw
  rcases List.mem_append.mp hw with hw | hw
  · simp only [List.mem_cons, List.not_mem_nil, or_false] at hw
    rcases hw with rfl | rfl | rfl | rfl
    · exact h1
    · exact h2
    · exact h3
    · exact h4
  · exact wd_in h5 w hw
theorem rn_S (S : CallFix p m c cc nL s args tb own) (st : SS own idx y b n r k) (hM : Ct l y b n r d mc ms As B Qc free) (hB : ∀ U : State, U.heap = H → s.WarmedH U.vm → B U)
    (hfr : d + 1 ≤ R.frames) (hlo : 8 + (n + 11) + 30 * d ≤ R.locals) (hce : cells + mc ≤ R.cells) (hsl : slots + ms ≤ R.slots) (hk : As.length = k) (hls : ls.size = nL) (hst : st0 = As.reverse ++ rest) (hW : (rest.map fun v => v.category).sum ≤ 8) (hdg : decode cc pc = .ok (.invokestatic idx, 3)) :
    va_Run p l e R s m args below meth c H locs cells slots mc ms (F0 m pc ls st0) rest (Qc As.toArray) free := by
  obtain ⟨h1, h2, h3, h5, h6⟩ := st
  refine va_runS S hM.1 (va_cwS (rm := rmd d mc ms) (bytes := b) (maxL := n) (ret := r) k S.2.2.2.2 (gd_of _ ?_) rfl rfl rfl h6 ⟨hfr, hlo⟩) ⟨hM.2, fun U g1 g2 => ⟨rfl, hB U g1 g2⟩⟩ rfl hk hls hst (lv_room hW) hdg ⟨hce, hsl⟩
  intro w hw
  rcases List.mem_append.mp hw with hw | hw
  · simp only [List.mem_cons, List.not_mem_nil, or_false] at hw
    rcases hw with rfl | rfl | rfl
    · exact h1
    · exact h2
    · exact h3
  · exact wd_in h5 w hw
theorem rn_I (S : CallFix p m c cc nL s args tb own) (st : SI own idx y b n k) (hM : Ct l y b n none d mc ms (.ref a :: As) B Qc free) (hB : ∀ U : State, U.heap = H → s.WarmedH U.vm → B U)
    (hfr : d + 1 ≤ R.frames) (hlo : 8 + (n + 11) + 30 * d ≤ R.locals) (hce : cells + mc ≤ R.cells) (hsl : slots + ms ≤ R.slots) (hk : As.length = k) (hls : ls.size = nL) (hst : st0 = As.reverse ++ .ref a :: rest) (hW : (rest.map fun v => v.category).sum ≤ 8) (hdg : decode cc pc = .ok (.invokespecial idx, 3)) :
    va_Run p l e R s m args below meth c H locs cells slots mc ms (F0 m pc ls st0) rest (Qc (Value.ref a :: As).toArray) free := by
  obtain ⟨h1, h2, h3, h5, h7, h6⟩ := st
  exact va_runI S hM.1 (cwI (rm := rmd d mc ms) (bytes := b) (maxL := n) k S.2.2.2.2 (gd_of _ (wd_in h5)) rfl rfl rfl (S.2.2.2.2 _ h3) (S.2.2.2.2 _ h1) (S.2.2.2.2 _ h2) h7 h6 ⟨hfr, hlo⟩) ⟨hM.2, fun U g1 g2 => ⟨rfl, hB U g1 g2⟩⟩ rfl hk hls hst (lv_room hW) hdg ⟨hce, hsl⟩
theorem rn_U (S : CallFix p m c cc nL s args tb own) (st : SU own idx C y b n r k) (hM : Ct l y b n r d mc ms (.ref a :: As) B Qc free) (hrecv : ∃ cell : Cell, H[a]? = some cell ∧ cell.vm.isStatics = false ∧ s.vm.findClass C = some cell.cls) (hB : ∀ U : State, U.heap = H → s.WarmedH U.vm → B U)
    (hfr : d + 1 ≤ R.frames) (hlo : 8 + (n + 11) + 30 * d ≤ R.locals) (hce : cells + mc ≤ R.cells) (hsl : slots + ms ≤ R.slots) (hk : As.length = k) (hls : ls.size = nL) (hst : st0 = As.reverse ++ .ref a :: rest) (hW : (rest.map fun v => v.category).sum ≤ 8) (hdg : decode cc pc = .ok (.invokevirtual idx, 3)) :
    va_Run p l e R s m args below meth c H locs cells slots mc ms (F0 m pc ls st0) rest (Qc (Value.ref a :: As).toArray) free := by
  obtain ⟨h1, h2, h3, h4, h7, h5, h6⟩ := st
  refine va_runU (C := C) (owner := y.cls) (x := y) S hM.1 (va_cwU (rm := rmd d mc ms) (bytes := b) (maxL := n) (ret := r) k S.2.2.2.2 (gd_of _ ?_) rfl rfl rfl rfl h6 ⟨hfr, hlo⟩) ⟨hM.2, hrecv, fun U g1 g2 => ⟨rfl, hB U g1 g2⟩⟩ rfl hk hls hst (lv_room hW) hdg ⟨hce, hsl⟩
  intro w hw
  rcases List.mem_append.mp hw with hw | hw
  · simp only [List.mem_cons, List.not_mem_nil, or_false] at hw
    rcases hw with rfl | rfl | rfl | rfl | rfl
    · exact h1
    · exact h2
    · exact h3
    · exact h4
    · exact h7
  · exact wd_in h5 w hw
theorem rn_P {cC : ClassId} (hat : ClassAt s C cC) (S : CallFix p m c cc nL s args tb own) (st : SP own idx y b n r k) (hM : Ct l y b n r d mc ms (.ref a :: As) B Qc free) (hrecv : ∃ cell : Cell, H[a]? = some cell ∧ cell.vm.isStatics = false ∧ s.vm.findClass C = some cell.cls) (hB : ∀ U : State, U.heap = H → s.WarmedH U.vm → B U)
    (hfr : d + 1 ≤ R.frames) (hlo : 8 + (n + 11) + 30 * d ≤ R.locals) (hce : cells + mc ≤ R.cells) (hsl : slots + ms ≤ R.slots) (hk : As.length = k) (hls : ls.size = nL) (hst : st0 = As.reverse ++ .ref a :: rest) (hW : (rest.map fun v => v.category).sum ≤ 8) (hdg : decode cc pc = .ok (.invokespecial idx, 3)) :
    va_Run p l e R s m args below meth c H locs cells slots mc ms (F0 m pc ls st0) rest (Qc (Value.ref a :: As).toArray) free := by
  obtain ⟨h1, h2, h3, h4, h7, h5, h6⟩ := st
  refine va_runSU hat S hM.1 (va_cwSU (rm := rmd d mc ms) (bytes := b) (maxL := n) (ret := r) k S.2.2.2.2 (gd_of _ ?_) rfl rfl rfl h6 ⟨hfr, hlo⟩) ⟨hM.2, hrecv, fun U g1 g2 => ⟨rfl, hB U g1 g2⟩⟩ rfl hk hls hst (lv_room hW) hdg ⟨hce, hsl⟩
  intro w hw
  rcases List.mem_append.mp hw with hw | hw
  · simp only [List.mem_cons, List.not_mem_nil, or_false] at hw
    rcases hw with rfl | rfl | rfl | rfl | rfl
    · exact h1
    · exact h2
    · exact h3
    · exact h4
    · exact h7
  · exact wd_in h5 w hw
end RUN
/-! the environment: tables' classes, statics, and what is carried -/
def en (D : va_G) (cB cC : ClassId) (A : Nat → Prop) (U : State) (H : Heap) : Prop :=
  va_K D classes [(cB, .byte), (cC, .char)] U ∧ va_Z "java/lang/String" "COMPACT_STRINGS" "Z" (.int 1) A U H ∧ va_Zq "jdk/internal/util/Preconditions" "SIOOBE_FORMATTER" "Ljava/util/function/BiFunction;" A U H ∧ va_Nw (.castable "[B" "java/lang/Cloneable") U
abbrev nF : Nat → Prop := fun _ => False
theorem en.to {D : va_G} {cB cC : ClassId} {A A' : Nat → Prop} {s U : State} {H0 H : Heap} (h : en D cB cC A s H0) (hq : ∀ a : Nat, a < H0.size → ¬ A a → H[a]? = H0[a]?) (hU : U.heap = H) (hW : s.WarmedH U.vm) (hF : ∀ q, A' q → A q) : en D cB cC A' U U.heap := by
  obtain ⟨h1, h2, h3, h4⟩ := h
  subst hU
  exact ⟨va_K.moved hW.alike h1, ((h2.kept hq).narrow hF).moved hW.alike, ((h3.kept hq).narrow hF).moved hW.alike, va_Nw.warmC hW h4⟩
/-- a byte array that isn't written -/
def ar (v n : Nat) (f : Nat → Int32) (A : Nat → Prop) (U : State) (H : Heap) : Prop := va_T .byte v n (fun j => .int (f j)) A U H ∧ n < 2 ^ 30 ∧ ∀ j, j < n → fits .byte (.int (f j)) = true
theorem ar.to {v n : Nat} {f : Nat → Int32} {A A' : Nat → Prop} {s U : State} {H0 H : Heap} (h : ar v n f A s H0) (hq : ∀ a : Nat, a < H0.size → ¬ A a → H[a]? = H0[a]?) (hU : U.heap = H) (hW : s.vm.Alike U.vm) (hF : ∀ q, A' q → A q) : ar v n f A' U U.heap := by
  subst hU
  exact ⟨((h.1.kept hq).narrow hF).moved hW, h.2⟩
/-- an ASCII text at a, its bytes at v -/
def zsv (a v n : Nat) (t : Nat → Nat) (A : Nat → Prop) (U : State) (H : Heap) : Prop :=
  (va_O "java/lang/String" a A U H ∧ va_OF "java/lang/String" "coder" "B" (.int 0) a A U H ∧ va_OF "java/lang/String" "value" "[B" (.ref v) a A U H) ∧ ar v n (fun j => nI (t j)) A U H ∧ ∀ j, j < n → t j < 128
theorem zsv.to {a v n : Nat} {t : Nat → Nat} {A A' : Nat → Prop} {s U : State} {H0 H : Heap} (h : zsv a v n t A s H0) (hq : ∀ a : Nat, a < H0.size → ¬ A a → H[a]? = H0[a]?) (hU : U.heap = H) (hW : s.vm.Alike U.vm) (hF : ∀ q, A' q → A q) : zsv a v n t A' U U.heap := by
  obtain ⟨⟨h1, h2, h3⟩, h4, h5⟩ := h
  refine ⟨?_, h4.to hq hU hW hF, h5⟩
  subst hU
  exact ⟨((h1.kept hq).narrow hF).moved hW, ((h2.kept hq).narrow hF).moved hW, ((h3.kept hq).narrow hF).moved hW⟩
def zs (a n : Nat) (t : Nat → Nat) (A : Nat → Prop) (U : State) (H : Heap) : Prop := ∃ v, zsv a v n t A U H
theorem zs.to {a n : Nat} {t : Nat → Nat} {A A' : Nat → Prop} {s U : State} {H0 H : Heap} (h : zs a n t A s H0) (hq : ∀ a : Nat, a < H0.size → ¬ A a → H[a]? = H0[a]?) (hU : U.heap = H) (hW : s.vm.Alike U.vm) (hF : ∀ q, A' q → A q) : zs a n t A' U U.heap := by
  obtain ⟨v, h⟩ := h
  exact ⟨v, h.to hq hU hW hF⟩
theorem zsv.recv {a v n : Nat} {t : Nat → Nat} {A : Nat → Prop} {U : State} {H : Heap} (h : zsv a v n t A U H) : ∃ cell : Cell, H[a]? = some cell ∧ cell.vm.isStatics = false ∧ U.vm.findClass "java/lang/String" = some cell.cls := by
  obtain ⟨cell, h1, h2, h3, -⟩ := h.1.1
  exact ⟨cell, h1, h2, h3⟩
theorem zs.recv {a n : Nat} {t : Nat → Nat} {A : Nat → Prop} {U : State} {H : Heap} (h : zs a n t A U H) : ∃ cell : Cell, H[a]? = some cell ∧ cell.vm.isStatics = false ∧ U.vm.findClass "java/lang/String" = some cell.cls := by
  obtain ⟨v, h⟩ := h
  exact h.recv
theorem zs.lt {a n : Nat} {t : Nat → Nat} {A : Nat → Prop} {U : State} {H : Heap} (h : zs a n t A U H) : n < 2 ^ 30 ∧ ∀ j, j < n → t j < 128 := by
  obtain ⟨v, h⟩ := h
  exact ⟨h.2.1.2.1, h.2.2⟩
/-- a field site -/
def FS (own : String) (idx ci k : Nat) (ty : FieldType) (fin : Bool) : Prop := ∃ (C : String) (T : u_T) (N : Nat) (tf : Nat → FieldType), classes[ci]? = some (C, T, N) ∧ (∀ w ∈ u_ws C T N, w ∈ tb) ∧ k < N ∧ Cond.fieldLink own idx (T k).1 (T k).2.1 (T k).2.2.1 ∈ tb ∧
  (∀ j, j < N → parseFieldDescriptor (T j).2.2.1 = some (tf j)) ∧ (∀ a, a < N → ∀ b, b < N → a ≠ b → (T a).2.1 ≠ (T b).2.1) ∧ (T k).2.2.2 = fin ∧ parseFieldDescriptor (T k).2.2.1 = some ty ∧ (fin = true → (T k).1 = own)
section ROWS
variable {p : Program} {l : Launch} {e : Env} {R : Room} {s : State} {m : MethodId} {args : Array Value} {below : List Frame} {meth : Method} {c : Code} {H : Heap} {locs : List Loc} {cells slots : Nat} {Q : State → Prop}
variable {cc : ByteArray} {nL : Nat} {pc : Nat} {ls : Array Slot} {rest : List Value} {D : va_G} {A : Nat → Prop} {a : Nat} {tys : List (ClassId × FieldType)} {ws : va_W} {H0 : Heap} {own : String} {idx ci k : Nat} {ty : FieldType} {fin : Bool}
theorem q_top {x x' : Int32} (h : x = x') (kk : W p l e R s m args below meth c H locs cells slots Q (F0 m pc ls (.int x' :: rest))) : W p l e R s m args below meth c H locs cells slots Q (F0 m pc ls (.int x :: rest)) := by rw [h]; exact kk
theorem q_get (S : CallFix p m c cc nL s args tb own) (hK : va_K D classes tys s) (hP : va_P D classes ws H) (q0 : Nat) {fs : List Value} (he : ws[q0]? = some (a, .inr (ci, fs))) (fsite : FS own idx ci k ty fin) {v : Value} (hv : fs[k]? = some v) (hdg : decode cc pc = .ok (.getfield idx, 3))
    (kk : W p l e R s m args below meth c H locs cells slots Q (F0 m (pc + 3) ls (v :: rest))) : W p l e R s m args below meth c H locs cells slots Q (F0 m pc ls (.ref a :: rest)) := by
  obtain ⟨C, T, N, tf, h1, h2, h3, h4, -⟩ := fsite
  exact va_get S.1 S.2.1 S.2.2.2.2 h2 S.2.2.2.1 hK hP q0 he h1 k h3 (S.2.2.2.2 _ h4) (fun _ h9 => h9) hv hdg kk
theorem q_put (S : CallFix p m c cc nL s args tb own) (hK : va_K D classes tys s) (hP : va_P D classes ws H) (hD : va_D A ws) (hS : va_S A H0 H locs) (q0 : Nat) {fs : List Value} (he : ws[q0]? = some (a, .inr (ci, fs))) (fsite : FS own idx ci k ty false) {v : Value} (hn : narrow ty v = v) (hfit : fits ty v = true) (hl : k < fs.length) (hdg : decode cc pc = .ok (.putfield idx, 3))
    (kk : ∀ (H1 : Heap) (locs1 : List Loc), va_P D classes (ws.set q0 (a, .inr (ci, fs.set k v))) H1 → va_D A (ws.set q0 (a, .inr (ci, fs.set k v))) → va_S A H0 H1 locs1 → W p l e R s m args below meth c H1 locs1 cells slots Q (F0 m (pc + 3) ls rest)) : W p l e R s m args below meth c H locs cells slots Q (F0 m pc ls (v :: .ref a :: rest)) := by
  obtain ⟨C, T, N, tf, h1, h2, h3, h4, h5, h6, h7, h8, -⟩ := fsite
  exact va_put S.1 S.2.1 S.2.2.2.2 h2 tf h5 h6 S.2.2.2.1 hK hP hD hS q0 he h1 k h3 (S.2.2.2.2 _ h4) (fun _ h9 => h9) h7 h8 hn hfit hl hdg kk
theorem q_putF (S : CallFix p m c cc nL s args tb own) (hin : meth.name = "<init>") (hK : va_K D classes tys s) (hP : va_P D classes ws H) (hD : va_D A ws) (hS : va_S A H0 H locs) (q0 : Nat) {fs : List Value} (he : ws[q0]? = some (a, .inr (ci, fs))) (fsite : FS own idx ci k ty true) {v : Value} (hn : narrow ty v = v) (hfit : fits ty v = true) (hl : k < fs.length) (hdg : decode cc pc = .ok (.putfield idx, 3))
    (kk : ∀ (H1 : Heap) (locs1 : List Loc), va_P D classes (ws.set q0 (a, .inr (ci, fs.set k v))) H1 → va_D A (ws.set q0 (a, .inr (ci, fs.set k v))) → va_S A H0 H1 locs1 → W p l e R s m args below meth c H1 locs1 cells slots Q (F0 m (pc + 3) ls rest)) : W p l e R s m args below meth c H locs cells slots Q (F0 m pc ls (v :: .ref a :: rest)) := by
  obtain ⟨C, T, N, tf, h1, h2, h3, h4, h5, h6, h7, h8, h9⟩ := fsite
  exact va_putF S.1 S.2.1 S.2.2.2.2 h2 tf h5 h6 S.2.2.2.1 hK hP hD hS q0 he h1 k h3 (S.2.2.2.2 _ h4) (fun _ h9 => h9) h7 hin (h9 rfl) h8 hn hfit hl hdg kk
variable {cB cC : ClassId}
/-- String.COMPACT_STRINGS -/
theorem q_cs (S : CallFix p m c cc nL s args tb own) (hE : en D cB cC A s s.heap) (hS : va_S A s.heap H locs) (hl : Cond.fieldLink own idx "java/lang/String" "COMPACT_STRINGS" "Z" ∈ tb) (hdg : decode cc pc = .ok (.getstatic idx, 3))
    (kk : W p l e R s m args below meth c H locs cells slots Q (F0 m (pc + 3) ls (.int 1 :: rest))) : W p l e R s m args below meth c H locs cells slots Q (F0 m pc ls rest) :=
  va_gets S.1 S.2.1 hE.2.1 hS S.2.2.2.1 (S.2.2.2.2 _ hl) (fun _ h => h) hdg kk
variable {v n : Nat} {t : Nat → Nat} {f : Nat → Int32}
theorem q_zval (S : CallFix p m c cc nL s args tb own) (hz : zsv a v n t A s s.heap) (hS : va_S A s.heap H locs) (hl : Cond.fieldLink own idx "java/lang/String" "value" "[B" ∈ tb) (hdg : decode cc pc = .ok (.getfield idx, 3))
    (kk : W p l e R s m args below meth c H locs cells slots Q (F0 m (pc + 3) ls (.ref v :: rest))) : W p l e R s m args below meth c H locs cells slots Q (F0 m pc ls (.ref a :: rest)) :=
  vk_getf S.1 S.2.1 hz.1.2.2 hS S.2.2.2.1 (S.2.2.2.2 _ hl) (fun _ h => h) hdg kk
theorem q_zcod (S : CallFix p m c cc nL s args tb own) (hz : zsv a v n t A s s.heap) (hS : va_S A s.heap H locs) (hl : Cond.fieldLink own idx "java/lang/String" "coder" "B" ∈ tb) (hdg : decode cc pc = .ok (.getfield idx, 3))
    (kk : W p l e R s m args below meth c H locs cells slots Q (F0 m (pc + 3) ls (.int 0 :: rest))) : W p l e R s m args below meth c H locs cells slots Q (F0 m pc ls (.ref a :: rest)) :=
  vk_getf S.1 S.2.1 hz.1.2.1 hS S.2.2.2.1 (S.2.2.2.2 _ hl) (fun _ h => h) hdg kk
theorem q_alen (S : CallFix p m c cc nL s args tb own) (hz : ar v n f A s s.heap) (hS : va_S A s.heap H locs) (hdg : decode cc pc = .ok (.arraylength, 1))
    (kk : W p l e R s m args below meth c H locs cells slots Q (F0 m (pc + 1) ls (.int (nI n) :: rest))) : W p l e R s m args below meth c H locs cells slots Q (F0 m pc ls (.ref v :: rest)) :=
  va_tlen S.1 S.2.1 hz.1 hS rfl hdg kk
theorem q_ald (S : CallFix p m c cc nL s args tb own) (hz : ar v n f A s s.heap) (hS : va_S A s.heap H locs) {j : Nat} (hj : j < n) (hdg : decode cc pc = .ok (.baload, 1))
    (kk : W p l e R s m args below meth c H locs cells slots Q (F0 m (pc + 1) ls (.int (f j) :: rest))) : W p l e R s m args below meth c H locs cells slots Q (F0 m pc ls (.int (nI j) :: .ref v :: rest)) := by
  have h1 := hz.2.1
  exact va_tb S.1 S.2.1 hz.1 hS (vp_in_nI hj (by omega)) (by rw [nI_clamp (by omega)]) hdg kk
end ROWS
/-- a world's byte array, seen as one that isn't written -/
theorem ar_of {D : va_G} {cB cC : ClassId} {ws : va_W} {s : State} {H : Heap} {A : Nat → Prop} {v n k : Nat} {f : Nat → Int32} (hK : va_K D classes [(cB, .byte), (cC, .char)] s) (hP : va_P D classes ws H) (he : ws[k]? = some (v, .inl (cB, n, .inl f))) (hA : ¬ A v) (hn : n < 2 ^ 30) (hf : ∀ j, j < n → fits .byte (.int (f j)) = true) : ar v n f A s H := by
  have h1 : H[v]? = some (vp_cell cB (n, .inl f)) := hP k _ he
  refine ⟨⟨_, h1, ?_, ?_, ?_, ?_, ?_, hA⟩, hn, hf⟩
  · exact (hK.2 0 _ rfl).1 n (fun j => .int (f j))
  · intro h; cases h
  · show n ≤ (arrV _ _ _).slots.size
    rw [arrV_size]; exact Nat.le_refl _
  · show (arrV _ _ _).slots.size.toInt32 = _
    rw [arrV_size]
  · intro j hj
    show (arrV _ _ _).slots[j]? = _
    rw [arrV_read _ _ hj]
end
section
theorem fs_ASB_15 : FS "java/lang/AbstractStringBuilder" 15 1 0 (.array .byte) false := ⟨_, _, _, t_SB, rfl, i_SB, by decide, k_40, t_SB_ok, n_SB, rfl, by decide +kernel, fun h => by cases h⟩
theorem fs_ASB_22 : FS "java/lang/AbstractStringBuilder" 22 1 1 (.byte) false := ⟨_, _, _, t_SB, rfl, i_SB, by decide, k_41, t_SB_ok, n_SB, rfl, by decide +kernel, fun h => by cases h⟩
theorem fs_ASB_73 : FS "java/lang/AbstractStringBuilder" 73 1 2 (.boolean) false := ⟨_, _, _, t_SB, rfl, i_SB, by decide, k_42, t_SB_ok, n_SB, rfl, by decide +kernel, fun h => by cases h⟩
theorem fs_STR_1048 : FS "java/lang/String" 1048 1 2 (.boolean) false := ⟨_, _, _, t_SB, rfl, i_SB, by decide, k_43, t_SB_ok, n_SB, rfl, by decide +kernel, fun h => by cases h⟩
theorem fs_ASB_79 : FS "java/lang/AbstractStringBuilder" 79 1 3 (.int) false := ⟨_, _, _, t_SB, rfl, i_SB, by decide, k_44, t_SB_ok, n_SB, rfl, by decide +kernel, fun h => by cases h⟩
theorem fs_TK_46 : FS "java/util/StringTokenizer" 46 2 0 (.int) false := ⟨_, _, _, t_TK, rfl, i_TK, by decide, k_144, t_TK_ok, n_TK, rfl, by decide +kernel, fun h => by cases h⟩
theorem fs_TK_49 : FS "java/util/StringTokenizer" 49 2 1 (.int) false := ⟨_, _, _, t_TK, rfl, i_TK, by decide, k_145, t_TK_ok, n_TK, rfl, by decide +kernel, fun h => by cases h⟩
theorem fs_TK_58 : FS "java/util/StringTokenizer" 58 2 2 (.int) false := ⟨_, _, _, t_TK, rfl, i_TK, by decide, k_146, t_TK_ok, n_TK, rfl, by decide +kernel, fun h => by cases h⟩
theorem fs_TK_55 : FS "java/util/StringTokenizer" 55 2 3 (.object "java/lang/String") false := ⟨_, _, _, t_TK, rfl, i_TK, by decide, k_147, t_TK_ok, n_TK, rfl, by decide +kernel, fun h => by cases h⟩
theorem fs_TK_1 : FS "java/util/StringTokenizer" 1 2 4 (.object "java/lang/String") false := ⟨_, _, _, t_TK, rfl, i_TK, by decide, k_148, t_TK_ok, n_TK, rfl, by decide +kernel, fun h => by cases h⟩
theorem fs_TK_61 : FS "java/util/StringTokenizer" 61 2 5 (.boolean) false := ⟨_, _, _, t_TK, rfl, i_TK, by decide, k_149, t_TK_ok, n_TK, rfl, by decide +kernel, fun h => by cases h⟩
theorem fs_TK_52 : FS "java/util/StringTokenizer" 52 2 6 (.boolean) false := ⟨_, _, _, t_TK, rfl, i_TK, by decide, k_150, t_TK_ok, n_TK, rfl, by decide +kernel, fun h => by cases h⟩
theorem fs_TK_7 : FS "java/util/StringTokenizer" 7 2 7 (.int) false := ⟨_, _, _, t_TK, rfl, i_TK, by decide, k_151, t_TK_ok, n_TK, rfl, by decide +kernel, fun h => by cases h⟩
theorem fs_TK_29 : FS "java/util/StringTokenizer" 29 2 8 (.boolean) false := ⟨_, _, _, t_TK, rfl, i_TK, by decide, k_152, t_TK_ok, n_TK, rfl, by decide +kernel, fun h => by cases h⟩
theorem fs_TK_36 : FS "java/util/StringTokenizer" 36 2 9 (.array .int) false := ⟨_, _, _, t_TK, rfl, i_TK, by decide, k_153, t_TK_ok, n_TK, rfl, by decide +kernel, fun h => by cases h⟩
theorem fs_TD_10 : FS "TokenDrill" 10 0 0 (.object "java/lang/StringBuilder") true := ⟨_, _, _, t_TD, rfl, i_TD, by decide, k_176, t_TD_ok, n_TD, rfl, by decide +kernel, fun _ => rfl⟩
theorem fs_TD_25 : FS "TokenDrill" 25 0 1 (.object "java/util/StringTokenizer") false := ⟨_, _, _, t_TD, rfl, i_TD, by decide, k_177, t_TD_ok, n_TD, rfl, by decide +kernel, fun h => by cases h⟩
theorem fs_STR_9 : FS "java/lang/String" 9 3 0 (.array .byte) true := ⟨_, _, _, t_STR, rfl, i_STR, by decide, k_336, t_STR_ok, n_STR, rfl, by decide +kernel, fun _ => rfl⟩
theorem fs_STR_15 : FS "java/lang/String" 15 3 1 (.byte) true := ⟨_, _, _, t_STR, rfl, i_STR, by decide, k_337, t_STR_ok, n_STR, rfl, by decide +kernel, fun _ => rfl⟩
theorem sc_LAW_28 : SI "TokenDrillLaw" 28 y_TD_init b_TD_init 1 0 := ⟨k_16, k_17, k_1, k_18, rfl, by decide +kernel⟩
theorem sc_TD_9 : SI "TokenDrill" 9 y_SB_init b_SB_init 1 0 := ⟨k_24, k_25, k_3, k_26, rfl, by decide +kernel⟩
theorem sc_SB_1 : SI "java/lang/StringBuilder" 1 y_ASB_init b_ASB_init 2 1 := ⟨k_27, k_28, k_2, k_29, rfl, by decide +kernel⟩
theorem sc_TD_22 : SI "TokenDrill" 22 y_TK_init b_TK_init 4 3 := ⟨k_59, k_60, k_6, k_61, rfl, by decide +kernel⟩
theorem sc_TK_11 : SV "java/util/StringTokenizer" 11 "java/lang/String" y_STR_length b_STR_length 1 (Option.some FieldType.int) 0 := ⟨k_63, k_64, k_65, k_4, k_66, by decide +kernel⟩
theorem sc_STR_335 : SV "java/lang/String" 335 "java/lang/String" y_STR_coder b_STR_coder 1 (Option.some FieldType.byte) 0 := ⟨k_67, k_68, k_69, k_4, k_70, by decide +kernel⟩
theorem sc_TK_64 : SV "java/util/StringTokenizer" 64 "java/util/StringTokenizer" y_TK_setMax b_TK_setMax 6 (Option.none : Option FieldType) 0 := ⟨k_72, k_74, ks_TK_setMax, k_6, k_75, by decide +kernel⟩
theorem sc_TK_17 : SV "java/util/StringTokenizer" 17 "java/lang/String" y_STR_charAt b_STR_charAt 2 (Option.some FieldType.char) 1 := ⟨k_76, k_77, k_78, k_4, k_79, by decide +kernel⟩
theorem sc_STR_492 : SV "java/lang/String" 492 "java/lang/String" y_STR_isLatin1 b_STR_isLatin1 1 (Option.some FieldType.boolean) 0 := ⟨k_80, k_81, k_82, k_4, k_83, by decide +kernel⟩
theorem sc_STR_495 : SS "java/lang/String" 495 y_L1_charAt b_L1_charAt 2 (Option.some FieldType.char) 2 := ⟨k_84, k_85, k_7, k_86, by decide +kernel⟩
theorem sc_L1_9 : SS "java/lang/StringLatin1" 9 y_STR_checkIndex b_STR_checkIndex 2 (Option.none : Option FieldType) 2 := ⟨k_87, k_88, k_4, k_89, by decide +kernel⟩
theorem sc_STR_1059 : SS "java/lang/String" 1059 y_PRE_checkIndex b_PRE_checkIndex 3 (Option.some FieldType.int) 3 := ⟨k_92, k_93, k_8, k_94, by decide +kernel⟩
theorem sc_STR_499 : SS "java/lang/String" 499 y_STR_checkIndex b_STR_checkIndex 2 (Option.none : Option FieldType) 2 := ⟨k_120, k_88, k_4, k_89, by decide +kernel⟩
theorem sc_TK_33 : SS "java/util/StringTokenizer" 33 y_CHR_count b_CHR_count 1 (Option.some FieldType.int) 1 := ⟨k_140, k_141, k_9, k_142, by decide +kernel⟩
theorem sc_LAW_66 : SV "TokenDrillLaw" 66 "TokenDrill" y_TD_type b_TD_type 2 (Option.none : Option FieldType) 1 := ⟨k_183, k_184, k_185, k_1, k_186, by decide +kernel⟩
theorem sc_TD_29 : SV "TokenDrill" 29 "java/lang/StringBuilder" y_SB_appC b_SB_appC 2 (Option.some (FieldType.object "java/lang/StringBuilder")) 1 := ⟨k_187, k_188, k_189, k_3, k_190, by decide +kernel⟩
theorem sc_SB_50 : SP "java/lang/StringBuilder" 50 y_ASB_appC b_ASB_appC 2 (Option.some (FieldType.object "java/lang/AbstractStringBuilder")) 1 := ⟨k_191, k_506, k_53, k_192, k_2, k_193, by decide +kernel⟩
theorem sc_ASB_100 : SU "java/lang/AbstractStringBuilder" 100 "java/lang/StringBuilder" y_ASB_ensure b_ASB_ensure 3 (Option.none : Option FieldType) 1 := ⟨k_194, k_507, ks_ASB_ensure, k_196, k_2, k_197, by decide +kernel⟩
theorem sc_ASB_104 : SU "java/lang/AbstractStringBuilder" 104 "java/lang/StringBuilder" y_ASB_newCap b_ASB_newCap 6 (Option.some FieldType.int) 1 := ⟨k_198, k_508, ks_ASB_newCap, k_200, k_2, k_201, by decide +kernel⟩
theorem sc_ASB_114 : SS "java/lang/AbstractStringBuilder" 114 y_AS_newLength b_AS_newLength 4 (Option.some FieldType.int) 3 := ⟨k_202, k_203, k_10, k_204, by decide +kernel⟩
theorem sc_ASB_108 : SS "java/lang/AbstractStringBuilder" 108 y_ARR_copyOf b_ARR_copyOf 3 (Option.some (FieldType.array FieldType.byte)) 2 := ⟨k_213, k_214, k_12, k_215, by decide +kernel⟩
theorem sc_ASB_83 : SU "java/lang/AbstractStringBuilder" 83 "java/lang/StringBuilder" y_ASB_isLatin1 b_ASB_isLatin1 1 (Option.some FieldType.boolean) 0 := ⟨k_229, k_231, k_232, k_230, k_2, k_233, by decide +kernel⟩
theorem sc_ASB_191 : SS "java/lang/AbstractStringBuilder" 191 y_L1_canC b_L1_canC 1 (Option.some FieldType.boolean) 1 := ⟨k_234, k_235, k_7, k_236, by decide +kernel⟩
theorem sc_LAW_39 : SV "TokenDrillLaw" 39 "TokenDrill" y_TD_clear b_TD_clear 1 (Option.none : Option FieldType) 0 := ⟨k_262, k_263, k_264, k_1, k_265, by decide +kernel⟩
theorem sc_TD_33 : SV "TokenDrill" 33 "java/lang/StringBuilder" y_SB_setLen b_SB_setLen 2 (Option.none : Option FieldType) 1 := ⟨k_266, k_267, k_268, k_3, k_269, by decide +kernel⟩
theorem sc_SB_333 : SP "java/lang/StringBuilder" 333 y_ASB_setLen b_ASB_setLen 2 (Option.none : Option FieldType) 1 := ⟨k_270, k_510, k_53, k_271, k_2, k_272, by decide +kernel⟩
theorem sc_LAW_35 : SV "TokenDrillLaw" 35 "TokenDrill" y_TD_begin b_TD_begin 3 (Option.none : Option FieldType) 2 := ⟨k_286, k_287, k_288, k_1, k_289, by decide +kernel⟩
theorem sc_TD_37 : SV "TokenDrill" 37 "java/lang/StringBuilder" y_SB_toString b_SB_toString 1 (Option.some (FieldType.object "java/lang/String")) 0 := ⟨k_290, k_291, k_292, k_3, k_293, by decide +kernel⟩
theorem sc_SB_137 : SI "java/lang/StringBuilder" 137 y_STR_initSB b_STR_initSB 2 1 := ⟨k_296, k_297, k_4, k_298, rfl, by decide +kernel⟩
theorem sc_STR_489 : SI "java/lang/String" 489 y_STR_initAV b_STR_initAV 5 2 := ⟨k_299, k_300, k_4, k_301, rfl, by decide +kernel⟩
theorem sc_STR_552 : SU "java/lang/String" 552 "java/lang/StringBuilder" y_ASB_getValue b_ASB_getValue 1 (Option.some (FieldType.array FieldType.byte)) 0 := ⟨k_303, k_305, k_306, k_304, k_2, k_307, by decide +kernel⟩
theorem sc_SB_343 : SP "java/lang/StringBuilder" 343 y_ASB_length b_ASB_length 1 (Option.some FieldType.int) 0 := ⟨k_314, k_310, k_53, k_309, k_2, k_315, by decide +kernel⟩
theorem sc_STR_1047 : SU "java/lang/String" 1047 "java/lang/StringBuilder" y_ASB_isLatin1 b_ASB_isLatin1 1 (Option.some FieldType.boolean) 0 := ⟨k_316, k_231, k_232, k_230, k_2, k_233, by decide +kernel⟩
theorem sc_STR_54 : SS "java/lang/String" 54 y_ARR_cor b_ARR_cor 3 (Option.some (FieldType.array FieldType.byte)) 3 := ⟨k_317, k_318, k_12, k_319, by decide +kernel⟩
theorem sc_ARR_339 : SS "java/util/Arrays" 339 y_ARR_corb b_ARR_corb 5 (Option.some (FieldType.array FieldType.byte)) 3 := ⟨k_320, k_321, k_12, k_322, by decide +kernel⟩
theorem sc_ARR_343 : SS "java/util/Arrays" 343 y_ARR_checkLength b_ARR_checkLength 2 (Option.none : Option FieldType) 2 := ⟨k_323, k_324, k_12, k_325, by decide +kernel⟩
theorem sc_LAW_46 : SV "TokenDrillLaw" 46 "TokenDrill" y_TD_more b_TD_more 1 (Option.some FieldType.boolean) 0 := ⟨k_347, k_348, k_349, k_1, k_350, by decide +kernel⟩
theorem sc_TD_41 : SV "TokenDrill" 41 "java/util/StringTokenizer" y_TK_has b_TK_has 1 (Option.some FieldType.boolean) 0 := ⟨k_351, k_352, k_353, k_6, k_354, by decide +kernel⟩
theorem sc_TK_82 : SV "java/util/StringTokenizer" 82 "java/util/StringTokenizer" y_TK_skip b_TK_skip 4 (Option.some FieldType.int) 1 := ⟨k_355, k_357, ks_TK_skip, k_6, k_358, by decide +kernel⟩
theorem sc_TK_75 : SV "java/util/StringTokenizer" 75 "java/lang/String" y_STR_ix1 b_STR_ix1 2 (Option.some FieldType.int) 1 := ⟨k_359, k_360, k_361, k_4, k_362, by decide +kernel⟩
theorem sc_STR_633 : SV "java/lang/String" 633 "java/lang/String" y_STR_ix2 b_STR_ix2 3 (Option.some FieldType.int) 2 := ⟨k_363, k_364, k_365, k_4, k_366, by decide +kernel⟩
theorem sc_STR_505 : SV "java/lang/String" 505 "java/lang/String" y_STR_length b_STR_length 1 (Option.some FieldType.int) 0 := ⟨k_367, k_64, k_65, k_4, k_66, by decide +kernel⟩
theorem sc_STR_637 : SS "java/lang/String" 637 y_L1_ix b_L1_ix 4 (Option.some FieldType.int) 4 := ⟨k_368, k_369, k_7, k_370, by decide +kernel⟩
theorem sc_L1_88 : SS "java/lang/StringLatin1" 88 y_L1_canI b_L1_canI 1 (Option.some FieldType.boolean) 1 := ⟨k_371, k_372, k_7, k_373, by decide +kernel⟩
theorem sc_L1_95 : SS "java/lang/StringLatin1" 95 y_L1_ixChar b_L1_ixChar 6 (Option.some FieldType.int) 4 := ⟨k_376, k_377, k_7, k_378, by decide +kernel⟩
theorem sc_STR_1062 : SS "java/lang/String" 1062 y_PRE_checkFromTo b_PRE_checkFromTo 4 (Option.some FieldType.int) 4 := ⟨k_394, k_395, k_8, k_396, by decide +kernel⟩
theorem sc_LAW_50 : SV "TokenDrillLaw" 50 "TokenDrill" y_TD_left b_TD_left 1 (Option.some FieldType.int) 0 := ⟨k_417, k_418, k_419, k_1, k_420, by decide +kernel⟩
theorem sc_TD_45 : SV "TokenDrill" 45 "java/util/StringTokenizer" y_TK_count b_TK_count 3 (Option.some FieldType.int) 0 := ⟨k_421, k_422, k_423, k_6, k_424, by decide +kernel⟩
theorem sc_TK_88 : SV "java/util/StringTokenizer" 88 "java/util/StringTokenizer" y_TK_scan b_TK_scan 4 (Option.some FieldType.int) 1 := ⟨k_425, k_427, ks_TK_scan, k_6, k_428, by decide +kernel⟩
theorem sc_LAW_54 : SV "TokenDrillLaw" 54 "TokenDrill" y_TD_next b_TD_next 1 (Option.some (FieldType.object "java/lang/String")) 0 := ⟨k_429, k_430, k_431, k_1, k_432, by decide +kernel⟩
theorem sc_TD_49 : SV "TokenDrill" 49 "java/util/StringTokenizer" y_TK_next b_TK_next 2 (Option.some (FieldType.object "java/lang/String")) 0 := ⟨k_433, k_434, k_435, k_6, k_436, by decide +kernel⟩
theorem sc_TK_91 : SV "java/util/StringTokenizer" 91 "java/lang/String" y_STR_substring b_STR_substring 5 (Option.some (FieldType.object "java/lang/String")) 2 := ⟨k_437, k_438, k_439, k_4, k_440, by decide +kernel⟩
theorem sc_STR_521 : SS "java/lang/String" 521 y_STR_checkBBE b_STR_checkBBE 3 (Option.none : Option FieldType) 3 := ⟨k_441, k_392, k_4, k_393, by decide +kernel⟩
theorem sc_STR_685 : SS "java/lang/String" 685 y_L1_newString b_L1_newString 3 (Option.some (FieldType.object "java/lang/String")) 3 := ⟨k_442, k_443, k_7, k_444, by decide +kernel⟩
theorem sc_L1_232 : SS "java/lang/StringLatin1" 232 y_ARR_cor b_ARR_cor 3 (Option.some (FieldType.array FieldType.byte)) 3 := ⟨k_447, k_318, k_12, k_319, by decide +kernel⟩
theorem sc_L1_112 : SI "java/lang/StringLatin1" 112 y_STR_initBB b_STR_initBB 3 2 := ⟨k_448, k_449, k_4, k_450, rfl, by decide +kernel⟩
theorem sc_LAW_42 : SS "TokenDrillLaw" 42 y_LAW_sign b_LAW_sign 2 (Option.some FieldType.boolean) 2 := ⟨k_460, k_461, k_0, k_462, by decide +kernel⟩
theorem sc_LAW_29 : SS "TokenDrillLaw" 29 y_LAW_signs b_LAW_signs 1 (Option.some (FieldType.object "java/lang/String")) 1 := ⟨k_463, k_464, k_0, k_465, by decide +kernel⟩
theorem sc_LAW_9 : SI "TokenDrillLaw" 9 y_SB_init b_SB_init 1 0 := ⟨k_467, k_25, k_3, k_26, rfl, by decide +kernel⟩
theorem sc_LAW_14 : SV "TokenDrillLaw" 14 "java/lang/StringBuilder" y_SB_appS b_SB_appS 2 (Option.some (FieldType.object "java/lang/StringBuilder")) 1 := ⟨k_470, k_471, k_472, k_3, k_473, by decide +kernel⟩
theorem sc_SB_29 : SP "java/lang/StringBuilder" 29 y_ASB_appS b_ASB_appS 3 (Option.some (FieldType.object "java/lang/AbstractStringBuilder")) 1 := ⟨k_474, k_511, k_53, k_475, k_2, k_476, by decide +kernel⟩
theorem sc_ASB_32 : SV "java/lang/AbstractStringBuilder" 32 "java/lang/String" y_STR_length b_STR_length 1 (Option.some FieldType.int) 0 := ⟨k_484, k_64, k_65, k_4, k_66, by decide +kernel⟩
theorem sc_ASB_208 : SU "java/lang/AbstractStringBuilder" 208 "java/lang/StringBuilder" y_ASB_putStr b_ASB_putStr 3 (Option.none : Option FieldType) 2 := ⟨k_485, k_513, ks_ASB_putStr, k_487, k_2, k_488, by decide +kernel⟩
theorem sc_ASB_397 : SU "java/lang/AbstractStringBuilder" 397 "java/lang/StringBuilder" y_ASB_infl b_ASB_infl 2 (Option.none : Option FieldType) 1 := ⟨k_489, k_514, ks_ASB_infl, k_491, k_2, k_492, by decide +kernel⟩
theorem sc_ASB_40 : SV "java/lang/AbstractStringBuilder" 40 "java/lang/String" y_STR_coder b_STR_coder 1 (Option.some FieldType.byte) 0 := ⟨k_493, k_68, k_69, k_4, k_70, by decide +kernel⟩
theorem sc_ASB_399 : SV "java/lang/AbstractStringBuilder" 399 "java/lang/String" y_STR_getBytes b_STR_getBytes 4 (Option.none : Option FieldType) 3 := ⟨k_494, k_495, k_496, k_4, k_497, by decide +kernel⟩
theorem sc_LAW_22 : SV "TokenDrillLaw" 22 "java/lang/StringBuilder" y_SB_toString b_SB_toString 1 (Option.some (FieldType.object "java/lang/String")) 0 := ⟨k_502, k_291, k_292, k_3, k_293, by decide +kernel⟩
theorem sc_LAW_57 : SV "TokenDrillLaw" 57 "java/lang/String" y_STR_length b_STR_length 1 (Option.some FieldType.int) 0 := ⟨k_503, k_64, k_65, k_4, k_66, by decide +kernel⟩
theorem sc_LAW_62 : SV "TokenDrillLaw" 62 "java/lang/String" y_STR_charAt b_STR_charAt 2 (Option.some FieldType.char) 1 := ⟨k_504, k_77, k_78, k_4, k_79, by decide +kernel⟩
end
section
/-! small facts about ASCII numbers; the walk's own pure functions -/
theorem as_b : ∀ x, x < 128 → (nI x).toInt8.toInt32 = nI x := by decide +kernel
theorem as_c : ∀ x, x < 128 → ((nI x).toUInt32 % 65536).toInt32 = nI x := by decide +kernel
theorem as_255 : ∀ x, x < 128 → nI x &&& 255 = nI x := by decide +kernel
theorem as_fit : ∀ x, x < 128 → fits .byte (.int (nI x)) = true := by decide +kernel
theorem as_narC : ∀ x, x < 128 → narrow .char (.int (nI x)) = .int (nI x) := by decide +kernel
theorem as_fitC : ∀ x, x < 128 → fits .char (.int (nI x)) = true := by decide +kernel
/-- the first place at or behind i, before n, where P fails; or n -/
def rnF (P : Nat → Bool) : Nat → Nat → Nat
  | 0, i => i
  | k + 1, i => if P i then rnF P k (i + 1) else i
def rn (P : Nat → Bool) (n i : Nat) : Nat := rnF P (n - i) i
theorem rn_end {P : Nat → Bool} {n i : Nat} (h : n ≤ i) : rn P n i = i := by
  unfold rn
  rw [show n - i = 0 by omega]
  rfl
theorem rn_step {P : Nat → Bool} {n i : Nat} (h : i < n) (hp : P i = true) : rn P n i = rn P n (i + 1) := by
  unfold rn
  rw [show n - i = (n - (i + 1)) + 1 by omega]
  simp [rnF, hp]
theorem rn_stop {P : Nat → Bool} {n i : Nat} (hp : P i = false) : rn P n i = i := by
  unfold rn
  cases n - i with
  | zero => rfl
  | succ k => simp [rnF, hp]
theorem rn_le {P : Nat → Bool} {n : Nat} : ∀ (k i : Nat), n - i = k → i ≤ n → i ≤ rn P n i ∧ rn P n i ≤ n := by
  intro k
  induction k with
  | zero =>
    intro i h1 h2
    rw [rn_end (by omega)]
    omega
  | succ k ih =>
    intro i h1 h2
    by_cases hp : P i = true
    · rw [rn_step (by omega) hp]
      have := ih (i + 1) (by omega) (by omega)
      omega
    · rw [rn_stop (by simpa using hp)]
      omega
theorem rn_in {P : Nat → Bool} {n i : Nat} (h : i ≤ n) : i ≤ rn P n i ∧ rn P n i ≤ n := rn_le _ i rfl h
theorem rn_at {P : Nat → Bool} {n : Nat} : ∀ (k i : Nat), n - i = k → rn P n i < n → i ≤ n → P (rn P n i) = false := by
  intro k
  induction k with
  | zero =>
    intro i h1 h2 h3
    rw [rn_end (by omega)] at h2
    omega
  | succ k ih =>
    intro i h1 h2 h3
    by_cases hp : P i = true
    · rw [rn_step (by omega) hp] at h2 ⊢
      exact ih (i + 1) (by omega) h2 (by omega)
    · have hp : P i = false := by simpa using hp
      rw [rn_stop hp]
      exact hp
theorem rn_congr {P P' : Nat → Bool} {n : Nat} (h : ∀ j, j < n → P j = P' j) : ∀ (k i : Nat), n - i = k → i ≤ n → rn P n i = rn P' n i := by
  intro k
  induction k with
  | zero =>
    intro i h1 h2
    rw [rn_end (by omega), rn_end (by omega)]
  | succ k ih =>
    intro i h1 h2
    have hi : i < n := by omega
    by_cases hp : P i = true
    · rw [rn_step hi hp, rn_step hi (by rw [← h i hi]; exact hp)]
      exact ih (i + 1) (by omega) (by omega)
    · have hp : P i = false := by simpa using hp
      rw [rn_stop hp, rn_stop (by rw [← h i hi]; exact hp)]
/-- where a token search begins -/
def skp (ret : Bool) (P : Nat → Bool) (n i : Nat) : Nat := if ret then i else rn P n i
/-- where the token at i ends -/
def scn (ret : Bool) (P : Nat → Bool) (n i : Nat) : Nat := if ret && (rn (fun j => !P j) n i == i) then i + 1 else rn (fun j => !P j) n i
theorem skp_in {ret : Bool} {P : Nat → Bool} {n i : Nat} (h : i ≤ n) : i ≤ skp ret P n i ∧ skp ret P n i ≤ n := by
  unfold skp
  split
  · omega
  · exact rn_in h
/-- a token has at least one sign: with the signs given back always, else where none stands at its head -/
theorem scn_in {ret : Bool} {P : Nat → Bool} {n i : Nat} (h : i < n) (hp : ret = false → P i = false) : i < scn ret P n i ∧ scn ret P n i ≤ n := by
  have h1 := rn_in (P := fun j => !P j) (Nat.le_of_lt h)
  unfold scn
  cases ret with
  | true =>
    by_cases hq : rn (fun j => !P j) n i = i
    · simp [hq]; omega
    · simp [hq]; omega
  | false =>
    have hp := hp rfl
    simp only [Bool.false_and, Bool.false_eq_true, if_false]
    rw [rn_step h (by simp [hp])]
    have := rn_in (P := fun j => !P j) (n := n) (i := i + 1) (by omega)
    omega
theorem skp_P {ret : Bool} {P : Nat → Bool} {n i : Nat} (h : i ≤ n) (h2 : skp ret P n i < n) : ret = false → P (skp ret P n i) = false := by
  intro hr
  subst hr
  unfold skp at h2 ⊢
  simp only [Bool.false_eq_true, if_false] at h2 ⊢
  exact rn_at _ i rfl h2 h
/-- how many tokens from i on; k: fuel -/
def cntF (ret : Bool) (P : Nat → Bool) (n : Nat) : Nat → Nat → Nat
  | 0, _ => 0
  | k + 1, i => if skp ret P n i < n then 1 + cntF ret P n k (scn ret P n (skp ret P n i)) else 0
theorem cntF_end {ret : Bool} {P : Nat → Bool} {n k i : Nat} (h : n ≤ skp ret P n i) : cntF ret P n k i = 0 := by
  cases k with
  | zero => rfl
  | succ k => simp [cntF, Nat.not_lt.mpr h]
theorem cntF_more {ret : Bool} {P : Nat → Bool} {n : Nat} : ∀ (k k' i : Nat), n - i ≤ k → n - i ≤ k' → i ≤ n → cntF ret P n k i = cntF ret P n k' i := by
  intro k
  induction k with
  | zero =>
    intro k' i h1 h2 h3
    have h4 := (skp_in (ret := ret) (P := P) h3).1
    rw [cntF_end (by omega), cntF_end (by omega)]
  | succ k ih =>
    intro k' i h1 h2 h3
    cases k' with
    | zero =>
      have h4 := (skp_in (ret := ret) (P := P) h3).1
      rw [cntF_end (by omega), cntF_end (by omega)]
    | succ k' =>
      by_cases hq : skp ret P n i < n
      · have h4 := (skp_in (ret := ret) (P := P) h3).1
        have h5 := scn_in hq (skp_P h3 hq)
        simp only [cntF, hq, if_true]
        rw [ih k' _ (by omega) (by omega) h5.2]
      · simp [cntF, hq]
def cnt (ret : Bool) (P : Nat → Bool) (n i : Nat) : Nat := cntF ret P n (n - i) i
theorem cnt_end {ret : Bool} {P : Nat → Bool} {n i : Nat} (h : n ≤ skp ret P n i) : cnt ret P n i = 0 := cntF_end h
theorem cnt_step {ret : Bool} {P : Nat → Bool} {n i : Nat} (hi : i ≤ n) (h : skp ret P n i < n) : cnt ret P n i = 1 + cnt ret P n (scn ret P n (skp ret P n i)) := by
  have h4 := (skp_in (ret := ret) (P := P) hi).1
  have h5 := scn_in h (skp_P hi h)
  unfold cnt
  rw [cntF_more (n - i) (n - (i + 1) + 1) i (by omega) (by omega) hi]
  simp only [cntF, h, if_true]
  rw [cntF_more (n - (i + 1)) (n - scn ret P n (skp ret P n i)) _ (by omega) (by omega) h5.2]
theorem cnt_le {ret : Bool} {P : Nat → Bool} {n : Nat} : ∀ (k i : Nat), n - i ≤ k → i ≤ n → cnt ret P n i ≤ n - i := by
  intro k
  induction k with
  | zero =>
    intro i h1 h2
    have h4 := (skp_in (ret := ret) (P := P) h2).1
    rw [cnt_end (by omega)]
    omega
  | succ k ih =>
    intro i h1 h2
    by_cases hq : skp ret P n i < n
    · have h4 := (skp_in (ret := ret) (P := P) h2).1
      have h5 := scn_in hq (skp_P h2 hq)
      rw [cnt_step h2 hq]
      have := ih (scn ret P n (skp ret P n i)) (by omega) h5.2
      omega
    · rw [cnt_end (by omega)]
      omega
/-- the int of a flag -/
def bI (b : Bool) : Int32 := if b then 1 else 0
theorem bI_nar (b : Bool) : narrow .boolean (.int (bI b)) = .int (bI b) := by cases b <;> rfl
theorem bI_fit (b : Bool) : fits .boolean (.int (bI b)) = true := by cases b <;> rfl
section RET
variable {p : Program} {l : Launch} {e : Env} {R : Room} {s : State} {m : MethodId} {args : Array Value} {below : List Frame} {meth : Method} {c : Code} {H : Heap} {locs : List Loc} {cells slots : Nat} {Q : State → Prop}
variable {cc : ByteArray} {nL : Nat} {pc : Nat} {ls : Array Slot} {rest : List Value} {own : String} {idx : Nat}
/-- the ends of a method that only reads -/
theorem q_ri {post : Int32 → Prop} {v : Int32} (S : CallFix p m c cc nL s args tb own) (hr : meth.sig.returnType = some .int) (hlk : meth.locks = false) (hp : post v) (hdg : decode cc pc = .ok (.ireturn, 1)) :
    W p l e R s m args below meth c s.heap [] 0 0 (MQ below (vp_Si post) args s 0 0 nF) (F0 m pc ls [.int v]) :=
  W.iret S.1 S.2.1 hr (fun t ht _ => ⟨v, rfl, hp, ht⟩) (fun q h => by cases h) hdg hlk
theorem q_rz {post : Int32 → Prop} {v : Int32} {ty : FieldType} (S : CallFix p m c cc nL s args tb own) (hr : meth.sig.returnType = some ty) (hlk : meth.locks = false) (hn : narrow ty (.int v) = .int v) (hp : post v) (hdg : decode cc pc = .ok (.ireturn, 1)) :
    W p l e R s m args below meth c s.heap [] 0 0 (MQ below (vp_Si post) args s 0 0 nF) (F0 m pc ls [.int v]) :=
  W.zret S.1 S.2.1 hr hn (fun t ht _ => ⟨v, rfl, hp, ht⟩) (fun q h => by cases h) hdg hlk
theorem q_rv (S : CallFix p m c cc nL s args tb own) (hr : meth.sig.returnType = none) (hlk : meth.locks = false) (hdg : decode cc pc = .ok (.return_, 1)) :
    W p l e R s m args below meth c s.heap [] 0 0 (MQ below (va_Sv (fun _ => True)) args s 0 0 nF) (F0 m pc ls []) :=
  W.vret S.1 S.2.1 hr (fun t ht _ => ⟨rfl, trivial, ht⟩) (fun q h => by cases h) hdg hlk
theorem q_max (S : CallFix p m c cc nL s args tb own) (hls : ls.size = nL) (hl : Cond.methodLink own idx ⟨"java/lang/Math", "max", "(II)I"⟩ ∈ tb) (hf : 1 ≤ R.frames) (hlo : (rest.map fun v => v.category).sum + 13 ≤ R.locals) (hc : cells ≤ R.cells) (hs : slots ≤ R.slots) {a b : Nat} (ha : a < 2 ^ 31) (hb : b < 2 ^ 31) (hdg : decode cc pc = .ok (.invokestatic idx, 3))
    (kk : W p l e R s m args below meth c H locs cells slots Q (F0 m (pc + 3) ls (.int (nI (max a b)) :: rest))) : W p l e R s m args below meth c H locs cells slots Q (F0 m pc ls (.int (nI b) :: .int (nI a) :: rest)) := by
  refine va_mmax S.1 S.2.1 (by rw [S.2.2.1, hls]) S.2.2.2.1 (S.2.2.2.2 _ hl) (S.2.2.2.2 _ k_206) (S.2.2.2.2 _ k_11) (S.2.2.2.2 _ k_207) hf hlo hc hs hdg ?_
  refine q_top (x' := nI (max a b)) ?_ kk
  by_cases h : a < b
  · rw [if_pos (nI_lt h hb), Nat.max_eq_right (Nat.le_of_lt h)]
  · rw [if_neg (nI_nlt (by omega) ha), Nat.max_eq_left (by omega)]
theorem q_min (S : CallFix p m c cc nL s args tb own) (hls : ls.size = nL) (hl : Cond.methodLink own idx ⟨"java/lang/Math", "min", "(II)I"⟩ ∈ tb) (hf : 1 ≤ R.frames) (hlo : (rest.map fun v => v.category).sum + 13 ≤ R.locals) (hc : cells ≤ R.cells) (hs : slots ≤ R.slots) {a b : Nat} (ha : a < 2 ^ 31) (hb : b < 2 ^ 31) (hdg : decode cc pc = .ok (.invokestatic idx, 3))
    (kk : W p l e R s m args below meth c H locs cells slots Q (F0 m (pc + 3) ls (.int (nI (min a b)) :: rest))) : W p l e R s m args below meth c H locs cells slots Q (F0 m pc ls (.int (nI b) :: .int (nI a) :: rest)) := by
  refine va_mmin S.1 S.2.1 (by rw [S.2.2.1, hls]) S.2.2.2.1 (S.2.2.2.2 _ hl) (S.2.2.2.2 _ k_224) (S.2.2.2.2 _ k_11) (S.2.2.2.2 _ k_225) hf hlo hc hs hdg ?_
  refine q_top (x' := nI (min a b)) ?_ kk
  by_cases h : b < a
  · rw [if_pos (nI_lt h ha), Nat.min_eq_right (Nat.le_of_lt h)]
  · rw [if_neg (nI_nlt (by omega) hb), Nat.min_eq_left (by omega)]
end RET
end
section
set_option maxHeartbeats 4000000 in
set_option maxRecDepth 100000 in
/-- an index in range -/
theorem c_PRE_checkIndexn (l : Launch) {a b : Nat} (h1 : a < b) (h2 : b < 2 ^ 31) : Ct l y_PRE_checkIndex b_PRE_checkIndex 3 (Option.some FieldType.int) 0 0 0 [.int (nI a), .int (nI b), .null] (fun U => True) (vp_Si (fun r => r = (nI a))) nF := by
  refine ct_of (by decide) (Nat.le_of_ble_eq_true rfl) (fun _ _ _ _ h => h) ?_
  intro p e s m below meth c ls S hr hlk hnm hB hl
  have hl : lv_has ls 3 [(0, .int (nI a)), (1, .int (nI b)), (2, .null)] := hl
  refine lv_iload_n S.1 S.2.1 d_PRE_checkIndex_0 rfl (lv_at hl 0 rfl) ?_
  refine lv_if_lt (tgt := 9) S.1 S.2.1 d_PRE_checkIndex_1 (by decide) (fun c => absurd c (nI_pos (by omega))) (fun _ => ?_)
  refine lv_iload_n S.1 S.2.1 d_PRE_checkIndex_4 rfl (lv_at hl 0 rfl) ?_
  refine lv_iload_n S.1 S.2.1 d_PRE_checkIndex_5 rfl (lv_at hl 1 rfl) ?_
  refine lv_icmp_lt (tgt := 16) S.1 S.2.1 d_PRE_checkIndex_6 (by decide) (fun _ => ?_) (fun c => absurd (nI_lt h1 h2) c)
  refine lv_iload_n S.1 S.2.1 d_PRE_checkIndex_16 rfl (lv_at hl 0 rfl) ?_
  exact q_ri S hr hlk rfl d_PRE_checkIndex_17
set_option maxHeartbeats 4000000 in
set_option maxRecDepth 100000 in
/-- an index in range -/
theorem c_PRE_checkIndexr (l : Launch) {a b : Nat} (h1 : a < b) (h2 : b < 2 ^ 31) (q : Nat) : Ct l y_PRE_checkIndex b_PRE_checkIndex 3 (Option.some FieldType.int) 0 0 0 [.int (nI a), .int (nI b), .ref q] (fun U => True) (vp_Si (fun r => r = (nI a))) nF := by
  refine ct_of (by decide) (Nat.le_of_ble_eq_true rfl) (fun _ _ _ _ h => h) ?_
  intro p e s m below meth c ls S hr hlk hnm hB hl
  have hl : lv_has ls 3 [(0, .int (nI a)), (1, .int (nI b)), (2, .ref q)] := hl
  refine lv_iload_n S.1 S.2.1 d_PRE_checkIndex_0 rfl (lv_at hl 0 rfl) ?_
  refine lv_if_lt (tgt := 9) S.1 S.2.1 d_PRE_checkIndex_1 (by decide) (fun c => absurd c (nI_pos (by omega))) (fun _ => ?_)
  refine lv_iload_n S.1 S.2.1 d_PRE_checkIndex_4 rfl (lv_at hl 0 rfl) ?_
  refine lv_iload_n S.1 S.2.1 d_PRE_checkIndex_5 rfl (lv_at hl 1 rfl) ?_
  refine lv_icmp_lt (tgt := 16) S.1 S.2.1 d_PRE_checkIndex_6 (by decide) (fun _ => ?_) (fun c => absurd (nI_lt h1 h2) c)
  refine lv_iload_n S.1 S.2.1 d_PRE_checkIndex_16 rfl (lv_at hl 0 rfl) ?_
  exact q_ri S hr hlk rfl d_PRE_checkIndex_17
set_option maxHeartbeats 4000000 in
set_option maxRecDepth 100000 in
/-- a range in range -/
theorem c_PRE_checkFromTon (l : Launch) {a b k : Nat} (h1 : a ≤ b) (h2 : b ≤ k) (h3 : k < 2 ^ 31) : Ct l y_PRE_checkFromTo b_PRE_checkFromTo 4 (Option.some FieldType.int) 0 0 0 [.int (nI a), .int (nI b), .int (nI k), .null] (fun U => True) (vp_Si (fun r => r = (nI a))) nF := by
  refine ct_of (by decide) (Nat.le_of_ble_eq_true rfl) (fun _ _ _ _ h => h) ?_
  intro p e s m below meth c ls S hr hlk hnm hB hl
  have hl : lv_has ls 4 [(0, .int (nI a)), (1, .int (nI b)), (2, .int (nI k)), (3, .null)] := hl
  refine lv_iload_n S.1 S.2.1 d_PRE_checkFromTo_0 rfl (lv_at hl 0 rfl) ?_
  refine lv_if_lt (tgt := 14) S.1 S.2.1 d_PRE_checkFromTo_1 (by decide) (fun c => absurd c (nI_pos (by omega))) (fun _ => ?_)
  refine lv_iload_n S.1 S.2.1 d_PRE_checkFromTo_4 rfl (lv_at hl 0 rfl) ?_
  refine lv_iload_n S.1 S.2.1 d_PRE_checkFromTo_5 rfl (lv_at hl 1 rfl) ?_
  refine lv_icmp_gt (tgt := 14) S.1 S.2.1 d_PRE_checkFromTo_6 (by decide) (fun c => absurd c (nI_nlt h1 (by omega))) (fun _ => ?_)
  refine lv_iload_n S.1 S.2.1 d_PRE_checkFromTo_9 rfl (lv_at hl 1 rfl) ?_
  refine lv_iload_n S.1 S.2.1 d_PRE_checkFromTo_10 rfl (lv_at hl 2 rfl) ?_
  refine lv_icmp_le (tgt := 22) S.1 S.2.1 d_PRE_checkFromTo_11 (by decide) (fun _ => ?_) (fun c => absurd (nI_le h2 h3) c)
  refine lv_iload_n S.1 S.2.1 d_PRE_checkFromTo_22 rfl (lv_at hl 0 rfl) ?_
  exact q_ri S hr hlk rfl d_PRE_checkFromTo_23
set_option maxHeartbeats 4000000 in
set_option maxRecDepth 100000 in
/-- a range in range -/
theorem c_PRE_checkFromTor (l : Launch) {a b k : Nat} (h1 : a ≤ b) (h2 : b ≤ k) (h3 : k < 2 ^ 31) (q : Nat) : Ct l y_PRE_checkFromTo b_PRE_checkFromTo 4 (Option.some FieldType.int) 0 0 0 [.int (nI a), .int (nI b), .int (nI k), .ref q] (fun U => True) (vp_Si (fun r => r = (nI a))) nF := by
  refine ct_of (by decide) (Nat.le_of_ble_eq_true rfl) (fun _ _ _ _ h => h) ?_
  intro p e s m below meth c ls S hr hlk hnm hB hl
  have hl : lv_has ls 4 [(0, .int (nI a)), (1, .int (nI b)), (2, .int (nI k)), (3, .ref q)] := hl
  refine lv_iload_n S.1 S.2.1 d_PRE_checkFromTo_0 rfl (lv_at hl 0 rfl) ?_
  refine lv_if_lt (tgt := 14) S.1 S.2.1 d_PRE_checkFromTo_1 (by decide) (fun c => absurd c (nI_pos (by omega))) (fun _ => ?_)
  refine lv_iload_n S.1 S.2.1 d_PRE_checkFromTo_4 rfl (lv_at hl 0 rfl) ?_
  refine lv_iload_n S.1 S.2.1 d_PRE_checkFromTo_5 rfl (lv_at hl 1 rfl) ?_
  refine lv_icmp_gt (tgt := 14) S.1 S.2.1 d_PRE_checkFromTo_6 (by decide) (fun c => absurd c (nI_nlt h1 (by omega))) (fun _ => ?_)
  refine lv_iload_n S.1 S.2.1 d_PRE_checkFromTo_9 rfl (lv_at hl 1 rfl) ?_
  refine lv_iload_n S.1 S.2.1 d_PRE_checkFromTo_10 rfl (lv_at hl 2 rfl) ?_
  refine lv_icmp_le (tgt := 22) S.1 S.2.1 d_PRE_checkFromTo_11 (by decide) (fun _ => ?_) (fun c => absurd (nI_le h2 h3) c)
  refine lv_iload_n S.1 S.2.1 d_PRE_checkFromTo_22 rfl (lv_at hl 0 rfl) ?_
  exact q_ri S hr hlk rfl d_PRE_checkFromTo_23
set_option maxHeartbeats 4000000 in
set_option maxRecDepth 100000 in
/-- String.checkIndex -/
theorem c_STR_checkIndex (l : Launch) {D : va_G} {cB cC : ClassId} {a b : Nat} (h1 : a < b) (h2 : b < 2 ^ 31) : Ct l y_STR_checkIndex b_STR_checkIndex 2 (Option.none : Option FieldType) 1 0 0 [.int (nI a), .int (nI b)] (fun U => en D cB cC nF U U.heap) (va_Sv (fun _ => True)) nF := by
  refine ct_of (by decide) (Nat.le_of_ble_eq_true rfl) (fun _ _ _ _ h => h) ?_
  intro p e s m below meth c ls S hr hlk hnm hB hl
  have hl : lv_has ls 2 [(0, .int (nI a)), (1, .int (nI b))] := hl
  have hE := hB
  have hS : va_S nF s.heap s.heap [] := va_S.rf
  refine lv_iload_n S.1 S.2.1 d_STR_checkIndex_0 rfl (lv_at hl 0 rfl) ?_
  refine lv_iload_n S.1 S.2.1 d_STR_checkIndex_1 rfl (lv_at hl 1 rfl) ?_
  rcases hE.2.2.1 with hZ | ⟨q, hZ⟩
  ·
    refine va_gets S.1 S.2.1 hZ hS S.2.2.2.1 (S.2.2.2.2 _ k_90) (fun _ h => h) d_STR_checkIndex_2 ?_
    refine vp_callSi (va_Run.run (rn_S S sc_STR_1059 (As := [.int (nI a), .int (nI b), .null]) (rest := []) (c_PRE_checkIndexn l h1 h2) (fun U hU hW => trivial) (Nat.le_of_ble_eq_true rfl) (Nat.le_of_ble_eq_true rfl) (by dsimp only [rmd] <;> omega) (by dsimp only [rmd] <;> omega) rfl hl.1 rfl (Nat.le_of_ble_eq_true rfl) d_STR_checkIndex_5)) (fun r0 _ => ?_)
    refine lv_pop S.1 S.2.1 d_STR_checkIndex_8 rfl ?_
    exact q_rv S hr hlk d_STR_checkIndex_9
  ·
    refine va_gets S.1 S.2.1 hZ hS S.2.2.2.1 (S.2.2.2.2 _ k_90) (fun _ h => h) d_STR_checkIndex_2 ?_
    refine vp_callSi (va_Run.run (rn_S S sc_STR_1059 (As := [.int (nI a), .int (nI b), .ref q]) (rest := []) (c_PRE_checkIndexr l h1 h2 q) (fun U hU hW => trivial) (Nat.le_of_ble_eq_true rfl) (Nat.le_of_ble_eq_true rfl) (by dsimp only [rmd] <;> omega) (by dsimp only [rmd] <;> omega) rfl hl.1 rfl (Nat.le_of_ble_eq_true rfl) d_STR_checkIndex_5)) (fun r0 _ => ?_)
    refine lv_pop S.1 S.2.1 d_STR_checkIndex_8 rfl ?_
    exact q_rv S hr hlk d_STR_checkIndex_9
set_option maxHeartbeats 4000000 in
set_option maxRecDepth 100000 in
/-- String.checkBoundsBeginEnd -/
theorem c_STR_checkBBE (l : Launch) {D : va_G} {cB cC : ClassId} {a b k : Nat} (h1 : a ≤ b) (h2 : b ≤ k) (h3 : k < 2 ^ 31) : Ct l y_STR_checkBBE b_STR_checkBBE 3 (Option.none : Option FieldType) 1 0 0 [.int (nI a), .int (nI b), .int (nI k)] (fun U => en D cB cC nF U U.heap) (va_Sv (fun _ => True)) nF := by
  refine ct_of (by decide) (Nat.le_of_ble_eq_true rfl) (fun _ _ _ _ h => h) ?_
  intro p e s m below meth c ls S hr hlk hnm hB hl
  have hl : lv_has ls 3 [(0, .int (nI a)), (1, .int (nI b)), (2, .int (nI k))] := hl
  have hE := hB
  have hS : va_S nF s.heap s.heap [] := va_S.rf
  refine lv_iload_n S.1 S.2.1 d_STR_checkBBE_0 rfl (lv_at hl 0 rfl) ?_
  refine lv_iload_n S.1 S.2.1 d_STR_checkBBE_1 rfl (lv_at hl 1 rfl) ?_
  refine lv_iload_n S.1 S.2.1 d_STR_checkBBE_2 rfl (lv_at hl 2 rfl) ?_
  rcases hE.2.2.1 with hZ | ⟨q, hZ⟩
  ·
    refine va_gets S.1 S.2.1 hZ hS S.2.2.2.1 (S.2.2.2.2 _ k_90) (fun _ h => h) d_STR_checkBBE_3 ?_
    refine vp_callSi (va_Run.run (rn_S S sc_STR_1062 (As := [.int (nI a), .int (nI b), .int (nI k), .null]) (rest := []) (c_PRE_checkFromTon l h1 h2 h3) (fun U hU hW => trivial) (Nat.le_of_ble_eq_true rfl) (Nat.le_of_ble_eq_true rfl) (by dsimp only [rmd] <;> omega) (by dsimp only [rmd] <;> omega) rfl hl.1 rfl (Nat.le_of_ble_eq_true rfl) d_STR_checkBBE_6)) (fun r0 _ => ?_)
    refine lv_pop S.1 S.2.1 d_STR_checkBBE_9 rfl ?_
    exact q_rv S hr hlk d_STR_checkBBE_10
  ·
    refine va_gets S.1 S.2.1 hZ hS S.2.2.2.1 (S.2.2.2.2 _ k_90) (fun _ h => h) d_STR_checkBBE_3 ?_
    refine vp_callSi (va_Run.run (rn_S S sc_STR_1062 (As := [.int (nI a), .int (nI b), .int (nI k), .ref q]) (rest := []) (c_PRE_checkFromTor l h1 h2 h3 q) (fun U hU hW => trivial) (Nat.le_of_ble_eq_true rfl) (Nat.le_of_ble_eq_true rfl) (by dsimp only [rmd] <;> omega) (by dsimp only [rmd] <;> omega) rfl hl.1 rfl (Nat.le_of_ble_eq_true rfl) d_STR_checkBBE_6)) (fun r0 _ => ?_)
    refine lv_pop S.1 S.2.1 d_STR_checkBBE_9 rfl ?_
    exact q_rv S hr hlk d_STR_checkBBE_10
set_option maxHeartbeats 4000000 in
set_option maxRecDepth 100000 in
/-- String.coder() of an ASCII text -/
theorem c_STR_coder (l : Launch) {D : va_G} {cB cC : ClassId} {a v n : Nat} {t : Nat → Nat} : Ct l y_STR_coder b_STR_coder 1 (Option.some FieldType.byte) 0 0 0 [.ref a] (fun U => en D cB cC nF U U.heap ∧ zsv a v n t nF U U.heap) (vp_Si (fun r => r = 0)) nF := by
  refine ct_of (by decide) (Nat.le_of_ble_eq_true rfl) (fun _ _ _ _ h => h) ?_
  intro p e s m below meth c ls S hr hlk hnm hB hl
  have hl : lv_has ls 1 [(0, .ref a)] := hl
  obtain ⟨hE, hz⟩ := hB
  have hn := hz.2.1.2.1
  have hK := hE.1
  have hS : va_S nF s.heap s.heap [] := va_S.rf
  refine q_cs S hE hS k_71 d_STR_coder_0 ?_
  refine lv_if_eq (tgt := 13) S.1 S.2.1 d_STR_coder_3 (by decide) (fun c => absurd c (by decide)) (fun _ => ?_)
  refine lv_aload_n S.1 S.2.1 d_STR_coder_6 rfl (lv_at hl 0 rfl) ?_
  refine q_zcod S hz hS k_337 d_STR_coder_7 ?_
  refine lv_goto (tgt := 14) S.1 S.2.1 d_STR_coder_10 (by decide) ?_
  exact q_rz S hr hlk rfl rfl d_STR_coder_14
set_option maxHeartbeats 4000000 in
set_option maxRecDepth 100000 in
/-- String.isLatin1() -/
theorem c_STR_isLatin1 (l : Launch) {D : va_G} {cB cC : ClassId} {a v n : Nat} {t : Nat → Nat} : Ct l y_STR_isLatin1 b_STR_isLatin1 1 (Option.some FieldType.boolean) 0 0 0 [.ref a] (fun U => en D cB cC nF U U.heap ∧ zsv a v n t nF U U.heap) (vp_Si (fun r => r = 1)) nF := by
  refine ct_of (by decide) (Nat.le_of_ble_eq_true rfl) (fun _ _ _ _ h => h) ?_
  intro p e s m below meth c ls S hr hlk hnm hB hl
  have hl : lv_has ls 1 [(0, .ref a)] := hl
  obtain ⟨hE, hz⟩ := hB
  have hn := hz.2.1.2.1
  have hK := hE.1
  have hS : va_S nF s.heap s.heap [] := va_S.rf
  refine q_cs S hE hS k_71 d_STR_isLatin1_0 ?_
  refine lv_if_eq (tgt := 17) S.1 S.2.1 d_STR_isLatin1_3 (by decide) (fun c => absurd c (by decide)) (fun _ => ?_)
  refine lv_aload_n S.1 S.2.1 d_STR_isLatin1_6 rfl (lv_at hl 0 rfl) ?_
  refine q_zcod S hz hS k_337 d_STR_isLatin1_7 ?_
  refine lv_if_ne (tgt := 17) S.1 S.2.1 d_STR_isLatin1_10 (by decide) (fun c => absurd (rfl) c) (fun _ => ?_)
  refine lv_iconst (v := 1) S.1 S.2.1 d_STR_isLatin1_13 (by decide) ?_
  refine lv_goto (tgt := 18) S.1 S.2.1 d_STR_isLatin1_14 (by decide) ?_
  exact q_rz S hr hlk rfl rfl d_STR_isLatin1_18
set_option maxHeartbeats 4000000 in
set_option maxRecDepth 100000 in
/-- String.length() -/
theorem c_STR_length (l : Launch) {D : va_G} {cB cC : ClassId} {a v n : Nat} {t : Nat → Nat} : Ct l y_STR_length b_STR_length 1 (Option.some FieldType.int) 1 0 0 [.ref a] (fun U => en D cB cC nF U U.heap ∧ zsv a v n t nF U U.heap) (vp_Si (fun r => r = nI n)) nF := by
  refine ct_of (by decide) (Nat.le_of_ble_eq_true rfl) (fun _ _ _ _ h => h) ?_
  intro p e s m below meth c ls S hr hlk hnm hB hl
  have hl : lv_has ls 1 [(0, .ref a)] := hl
  obtain ⟨hE, hz⟩ := hB
  have hn := hz.2.1.2.1
  have hK := hE.1
  have hS : va_S nF s.heap s.heap [] := va_S.rf
  refine lv_aload_n S.1 S.2.1 d_STR_length_0 rfl (lv_at hl 0 rfl) ?_
  refine q_zval S hz hS k_336 d_STR_length_1 ?_
  refine q_alen S hz.2.1 hS d_STR_length_4 ?_
  refine lv_aload_n S.1 S.2.1 d_STR_length_5 rfl (lv_at hl 0 rfl) ?_
  refine vp_callSi (va_Run.run (rn_V S sc_STR_335 (As := []) (rest := [.int (nI n)]) (c_STR_coder l) (hz.recv) (fun U hU hW => ⟨hE.to hS.2.1 hU hW (fun _ h => h), hz.to hS.2.1 hU hW.alike (fun _ h => h)⟩) (Nat.le_of_ble_eq_true rfl) (Nat.le_of_ble_eq_true rfl) (by dsimp only [rmd] <;> omega) (by dsimp only [rmd] <;> omega) rfl hl.1 rfl (Nat.le_of_ble_eq_true rfl) d_STR_length_6)) (fun r0 h0 => ?_)
  subst h0
  refine lv_ishr S.1 S.2.1 d_STR_length_9 ?_
  refine q_top (x' := nI n) (sb_shr0 _) ?_
  exact q_ri S hr hlk rfl d_STR_length_10
set_option maxHeartbeats 4000000 in
set_option maxRecDepth 100000 in
/-- StringLatin1.charAt -/
theorem c_L1_charAt (l : Launch) {D : va_G} {cB cC : ClassId} {v n k : Nat} {t : Nat → Nat} (hk : k < n) : Ct l y_L1_charAt b_L1_charAt 2 (Option.some FieldType.char) 2 0 0 [.ref v, .int (nI k)] (fun U => en D cB cC nF U U.heap ∧ ar v n (fun j => nI (t j)) nF U U.heap ∧ ∀ j, j < n → t j < 128) (vp_Si (fun r => r = nI (t k))) nF := by
  refine ct_of (by decide) (Nat.le_of_ble_eq_true rfl) (fun _ _ _ _ h => h) ?_
  intro p e s m below meth c ls S hr hlk hnm hB hl
  have hl : lv_has ls 2 [(0, .ref v), (1, .int (nI k))] := hl
  obtain ⟨hE, hz, h8⟩ := hB
  have hn := hz.2.1
  have hS : va_S nF s.heap s.heap [] := va_S.rf
  refine lv_iload_n S.1 S.2.1 d_L1_charAt_0 rfl (lv_at hl 1 rfl) ?_
  refine lv_aload_n S.1 S.2.1 d_L1_charAt_1 rfl (lv_at hl 0 rfl) ?_
  refine q_alen S hz hS d_L1_charAt_2 ?_
  refine va_csv (va_Run.run (rn_S S sc_L1_9 (As := [.int (nI k), .int (nI n)]) (rest := []) (c_STR_checkIndex l hk (by omega)) (fun U hU hW => hE.to hS.2.1 hU hW (fun _ h => h)) (Nat.le_of_ble_eq_true rfl) (Nat.le_of_ble_eq_true rfl) (by dsimp only [rmd] <;> omega) (by dsimp only [rmd] <;> omega) rfl hl.1 rfl (Nat.le_of_ble_eq_true rfl) d_L1_charAt_3)) (fun _ => ?_)
  refine lv_aload_n S.1 S.2.1 d_L1_charAt_6 rfl (lv_at hl 0 rfl) ?_
  refine lv_iload_n S.1 S.2.1 d_L1_charAt_7 rfl (lv_at hl 1 rfl) ?_
  refine q_ald S hz hS hk d_L1_charAt_8 ?_
  refine lv_sipush (v := 255) S.1 S.2.1 d_L1_charAt_9 (by decide) ?_
  refine lv_iand S.1 S.2.1 d_L1_charAt_12 ?_
  refine q_top (x' := nI (t k)) (as_255 _ (h8 k hk)) ?_
  refine lv_i2c (v := nI (t k)) S.1 S.2.1 d_L1_charAt_13 (as_c _ (h8 k hk)) ?_
  exact q_rz S hr hlk (as_narC _ (h8 k hk)) rfl d_L1_charAt_14
set_option maxHeartbeats 4000000 in
set_option maxRecDepth 100000 in
/-- String.charAt -/
theorem c_STR_charAt (l : Launch) {D : va_G} {cB cC : ClassId} {a v n k : Nat} {t : Nat → Nat} (hk : k < n) : Ct l y_STR_charAt b_STR_charAt 2 (Option.some FieldType.char) 3 0 0 [.ref a, .int (nI k)] (fun U => en D cB cC nF U U.heap ∧ zsv a v n t nF U U.heap) (vp_Si (fun r => r = nI (t k))) nF := by
  refine ct_of (by decide) (Nat.le_of_ble_eq_true rfl) (fun _ _ _ _ h => h) ?_
  intro p e s m below meth c ls S hr hlk hnm hB hl
  have hl : lv_has ls 2 [(0, .ref a), (1, .int (nI k))] := hl
  obtain ⟨hE, hz⟩ := hB
  have hn := hz.2.1.2.1
  have hK := hE.1
  have hS : va_S nF s.heap s.heap [] := va_S.rf
  refine lv_aload_n S.1 S.2.1 d_STR_charAt_0 rfl (lv_at hl 0 rfl) ?_
  refine vp_callSi (va_Run.run (rn_V S sc_STR_492 (As := []) (rest := []) (c_STR_isLatin1 l) (hz.recv) (fun U hU hW => ⟨hE.to hS.2.1 hU hW (fun _ h => h), hz.to hS.2.1 hU hW.alike (fun _ h => h)⟩) (Nat.le_of_ble_eq_true rfl) (Nat.le_of_ble_eq_true rfl) (by dsimp only [rmd] <;> omega) (by dsimp only [rmd] <;> omega) rfl hl.1 rfl (Nat.le_of_ble_eq_true rfl) d_STR_charAt_1)) (fun r0 h0 => ?_)
  subst h0
  refine lv_if_eq (tgt := 16) S.1 S.2.1 d_STR_charAt_4 (by decide) (fun c => absurd c (by decide)) (fun _ => ?_)
  refine lv_aload_n S.1 S.2.1 d_STR_charAt_7 rfl (lv_at hl 0 rfl) ?_
  refine q_zval S hz hS k_336 d_STR_charAt_8 ?_
  refine lv_iload_n S.1 S.2.1 d_STR_charAt_11 rfl (lv_at hl 1 rfl) ?_
  refine vp_callSi (va_Run.run (rn_S S sc_STR_495 (As := [.ref v, .int (nI k)]) (rest := []) (c_L1_charAt l (t := t) hk) (fun U hU hW => ⟨hE.to hS.2.1 hU hW (fun _ h => h), hz.2.1.to hS.2.1 hU hW.alike (fun _ h => h), hz.2.2⟩) (Nat.le_of_ble_eq_true rfl) (Nat.le_of_ble_eq_true rfl) (by dsimp only [rmd] <;> omega) (by dsimp only [rmd] <;> omega) rfl hl.1 rfl (Nat.le_of_ble_eq_true rfl) d_STR_charAt_12)) (fun r0 h0 => ?_)
  subst h0
  exact q_rz S hr hlk (as_narC _ (hz.2.2 k hk)) rfl d_STR_charAt_15
set_option maxHeartbeats 4000000 in
set_option maxRecDepth 100000 in
/-- StringLatin1.canEncode -/
theorem c_L1_canC (l : Launch) {x : Nat} (hx : x < 128) : Ct l y_L1_canC b_L1_canC 1 (Option.some FieldType.boolean) 0 0 0 [.int (nI x)] (fun U => True) (vp_Si (fun r => r = 1)) nF := by
  refine ct_of (by decide) (Nat.le_of_ble_eq_true rfl) (fun _ _ _ _ h => h) ?_
  intro p e s m below meth c ls S hr hlk hnm hB hl
  have hl : lv_has ls 1 [(0, .int (nI x))] := hl
  refine lv_iload_n S.1 S.2.1 d_L1_canC_0 rfl (lv_at hl 0 rfl) ?_
  refine lv_sipush (v := 255) S.1 S.2.1 d_L1_canC_1 (by decide) ?_
  refine lv_icmp_gt (tgt := 11) S.1 S.2.1 d_L1_canC_4 (by decide) (fun c => absurd c (by rw [show (255 : Int32) = nI 255 from by decide]; exact nI_nlt (by omega) (by omega))) (fun _ => ?_)
  refine lv_iconst (v := 1) S.1 S.2.1 d_L1_canC_7 (by decide) ?_
  refine lv_goto (tgt := 12) S.1 S.2.1 d_L1_canC_8 (by decide) ?_
  exact q_rz S hr hlk rfl rfl d_L1_canC_12
set_option maxHeartbeats 4000000 in
set_option maxRecDepth 100000 in
/-- StringLatin1.canEncode -/
theorem c_L1_canI (l : Launch) {x : Nat} (hx : x < 128) : Ct l y_L1_canI b_L1_canI 1 (Option.some FieldType.boolean) 0 0 0 [.int (nI x)] (fun U => True) (vp_Si (fun r => r = 1)) nF := by
  refine ct_of (by decide) (Nat.le_of_ble_eq_true rfl) (fun _ _ _ _ h => h) ?_
  intro p e s m below meth c ls S hr hlk hnm hB hl
  have hl : lv_has ls 1 [(0, .int (nI x))] := hl
  refine lv_iload_n S.1 S.2.1 d_L1_canI_0 rfl (lv_at hl 0 rfl) ?_
  refine lv_if_lt (tgt := 15) S.1 S.2.1 d_L1_canI_1 (by decide) (fun c => absurd c (nI_pos (by omega))) (fun _ => ?_)
  refine lv_iload_n S.1 S.2.1 d_L1_canI_4 rfl (lv_at hl 0 rfl) ?_
  refine lv_sipush (v := 255) S.1 S.2.1 d_L1_canI_5 (by decide) ?_
  refine lv_icmp_gt (tgt := 15) S.1 S.2.1 d_L1_canI_8 (by decide) (fun c => absurd c (by rw [show (255 : Int32) = nI 255 from by decide]; exact nI_nlt (by omega) (by omega))) (fun _ => ?_)
  refine lv_iconst (v := 1) S.1 S.2.1 d_L1_canI_11 (by decide) ?_
  refine lv_goto (tgt := 16) S.1 S.2.1 d_L1_canI_12 (by decide) ?_
  exact q_rz S hr hlk rfl rfl d_L1_canI_16
set_option maxHeartbeats 4000000 in
set_option maxRecDepth 100000 in
/-- StringLatin1.indexOfChar from 0 -/
theorem c_L1_ixChar (l : Launch) {v n x : Nat} {t : Nat → Nat} (hx : x < 128) : Ct l y_L1_ixChar b_L1_ixChar 6 (Option.some FieldType.int) 0 0 0 [.ref v, .int (nI x), .int 0, .int (nI n)] (fun U => ar v n (fun j => nI (t j)) nF U U.heap ∧ ∀ j, j < n → t j < 128) (vp_Si (fun r => (r = -1 ∧ ∀ j, j < n → t j ≠ x) ∨ ∃ j, j < n ∧ t j = x ∧ r = nI j)) nF := by
  refine ct_of (by decide) (Nat.le_of_ble_eq_true rfl) (fun _ _ _ _ h => h) ?_
  intro p e s m below meth c ls S hr hlk hnm hB hl
  have hl : lv_has ls 6 [(0, .ref v), (1, .int (nI x)), (2, .int 0), (3, .int (nI n))] := hl
  obtain ⟨hz, h8⟩ := hB
  have hn := hz.2.1
  have hS : va_S nF s.heap s.heap [] := va_S.rf
  have loop : ∀ (k i : Nat) (ls : Array Slot), i + k = n → (∀ j, j < i → t j ≠ x) → lv_has ls 6 [(5, .int (nI i)), (4, .int (nI x)), (0, .ref v), (1, .int (nI x)), (2, .int 0), (3, .int (nI n))] → W p l e (rmd 0 0 0) s m ([.ref v, .int (nI x), .int 0, .int (nI n)] : List Value).toArray below meth c s.heap [] 0 0 (MQ below (vp_Si (fun r => (r = -1 ∧ ∀ j, j < n → t j ≠ x) ∨ ∃ j, j < n ∧ t j = x ∧ r = nI j)) ([.ref v, .int (nI x), .int 0, .int (nI n)] : List Value).toArray s 0 0 nF) (F0 m 7 ls []) := by
    intro k
    induction k with
    | zero =>
      intro i ls hi hno hl
      refine lv_iload S.1 S.2.1 d_L1_ixChar_7 (lv_at hl 0 rfl) ?_
      refine lv_iload_n S.1 S.2.1 d_L1_ixChar_9 rfl (lv_at hl 5 rfl) ?_
      refine lv_icmp_ge (tgt := 31) S.1 S.2.1 d_L1_ixChar_10 (by decide) (fun _ => ?_) (fun c => absurd (nI_le (by omega) (by omega)) c)
      refine lv_iconst (v := (-1)) S.1 S.2.1 d_L1_ixChar_31 (by decide) ?_
      exact q_ri S hr hlk (Or.inl ⟨rfl, fun j hj => hno j (by omega)⟩) d_L1_ixChar_32
    | succ k ih =>
      intro i ls hi hno hl
      refine lv_iload S.1 S.2.1 d_L1_ixChar_7 (lv_at hl 0 rfl) ?_
      refine lv_iload_n S.1 S.2.1 d_L1_ixChar_9 rfl (lv_at hl 5 rfl) ?_
      refine lv_icmp_ge (tgt := 31) S.1 S.2.1 d_L1_ixChar_10 (by decide) (fun c => absurd c (nI_ge (by omega) (by omega))) (fun _ => ?_)
      refine lv_aload_n S.1 S.2.1 d_L1_ixChar_13 rfl (lv_at hl 2 rfl) ?_
      refine lv_iload S.1 S.2.1 d_L1_ixChar_14 (lv_at hl 0 rfl) ?_
      refine q_ald S hz hS (j := i) (by omega) d_L1_ixChar_16 ?_
      refine lv_iload S.1 S.2.1 d_L1_ixChar_17 (lv_at hl 1 rfl) ?_
      refine lv_icmp_ne (tgt := 25) S.1 S.2.1 d_L1_ixChar_19 (by decide) (fun cc => ?_) (fun cc => ?_)
      ·
        refine lv_iinc (v := nI (i + 1)) (lv' := [(5, .int (nI (i + 1))), (4, .int (nI x)), (0, .ref v), (1, .int (nI x)), (2, .int 0), (3, .int (nI n))]) S.1 S.2.1 d_L1_ixChar_25 hl (k := 0) rfl (nI_1 i) (by decide) rfl (fun ls hl => ?_)
        refine lv_goto (tgt := 7) S.1 S.2.1 d_L1_ixChar_28 (by decide) ?_
        refine ih (i + 1) ls (by omega) (fun j hj => ?_) (lv_sub hl [0, 1, 2, 3, 4, 5] rfl)
        rcases Nat.lt_or_ge j i with h | h
        · exact hno j h
        · rw [show j = i by omega]; intro h; exact cc (by rw [h])
      ·
        refine lv_iload S.1 S.2.1 d_L1_ixChar_22 (lv_at hl 0 rfl) ?_
        exact q_ri S hr hlk (Or.inr ⟨i, by omega, (nI_eq (by have := h8 i (by omega); omega) (by omega)).mp cc, rfl⟩) d_L1_ixChar_24
  refine lv_iload_n S.1 S.2.1 d_L1_ixChar_0 rfl (lv_at hl 1 rfl) ?_
  refine lv_i2b (v := nI x) S.1 S.2.1 d_L1_ixChar_1 (as_b _ hx) ?_
  refine lv_istore (lv' := [(4, .int (nI x)), (0, .ref v), (1, .int (nI x)), (2, .int 0), (3, .int (nI n))]) S.1 S.2.1 d_L1_ixChar_2 hl (by decide) rfl (fun ls hl => ?_)
  refine lv_iload_n S.1 S.2.1 d_L1_ixChar_4 rfl (lv_at hl 3 rfl) ?_
  refine lv_istore (lv' := [(5, .int 0), (4, .int (nI x)), (0, .ref v), (1, .int (nI x)), (2, .int 0), (3, .int (nI n))]) S.1 S.2.1 d_L1_ixChar_5 hl (by decide) rfl (fun ls hl => ?_)
  exact loop n 0 ls (by omega) (fun j hj => absurd hj (by omega)) (lv_sub hl [0, 1, 2, 3, 4, 5] rfl)
set_option maxHeartbeats 4000000 in
set_option maxRecDepth 100000 in
/-- StringLatin1.indexOf from 0 -/
theorem c_L1_ix (l : Launch) {v n x : Nat} {t : Nat → Nat} (hx : x < 128) : Ct l y_L1_ix b_L1_ix 4 (Option.some FieldType.int) 1 0 0 [.ref v, .int (nI x), .int 0, .int (nI n)] (fun U => ar v n (fun j => nI (t j)) nF U U.heap ∧ ∀ j, j < n → t j < 128) (vp_Si (fun r => (r = -1 ∧ ∀ j, j < n → t j ≠ x) ∨ ∃ j, j < n ∧ t j = x ∧ r = nI j)) nF := by
  refine ct_of (by decide) (Nat.le_of_ble_eq_true rfl) (fun _ _ _ _ h => h) ?_
  intro p e s m below meth c ls S hr hlk hnm hB hl
  have hl : lv_has ls 4 [(0, .ref v), (1, .int (nI x)), (2, .int 0), (3, .int (nI n))] := hl
  obtain ⟨hz, h8⟩ := hB
  have hn := hz.2.1
  have hS : va_S nF s.heap s.heap [] := va_S.rf
  refine lv_iload_n S.1 S.2.1 d_L1_ix_0 rfl (lv_at hl 1 rfl) ?_
  refine vp_callSi (va_Run.run (rn_S S sc_L1_88 (As := [.int (nI x)]) (rest := []) (c_L1_canI l hx) (fun U hU hW => trivial) (Nat.le_of_ble_eq_true rfl) (Nat.le_of_ble_eq_true rfl) (by dsimp only [rmd] <;> omega) (by dsimp only [rmd] <;> omega) rfl hl.1 rfl (Nat.le_of_ble_eq_true rfl) d_L1_ix_1)) (fun r0 h0 => ?_)
  subst h0
  refine lv_if_ne (tgt := 9) S.1 S.2.1 d_L1_ix_4 (by decide) (fun _ => ?_) (fun c => absurd c (by decide))
  refine lv_iload_n S.1 S.2.1 d_L1_ix_9 rfl (lv_at hl 2 rfl) ?_
  refine lv_iconst (v := 0) S.1 S.2.1 d_L1_ix_10 (by decide) ?_
  refine q_max S hl.1 k_374 (a := 0) (b := 0) (Nat.le_of_ble_eq_true rfl) (Nat.le_of_ble_eq_true rfl) (Nat.zero_le _) (Nat.zero_le _) (by omega) (by omega) d_L1_ix_11 ?_
  refine q_top (x' := 0) (by decide) ?_
  refine lv_istore_n (lv' := [(2, .int 0), (0, .ref v), (1, .int (nI x)), (3, .int (nI n))]) S.1 S.2.1 d_L1_ix_14 rfl hl (by decide) rfl (fun ls hl => ?_)
  refine lv_iload_n S.1 S.2.1 d_L1_ix_15 rfl (lv_at hl 3 rfl) ?_
  refine lv_aload_n S.1 S.2.1 d_L1_ix_16 rfl (lv_at hl 1 rfl) ?_
  refine q_alen S hz hS d_L1_ix_17 ?_
  refine q_min S hl.1 k_375 (a := n) (b := n) (Nat.le_of_ble_eq_true rfl) (Nat.le_of_ble_eq_true rfl) (Nat.zero_le _) (Nat.zero_le _) (by omega) (by omega) d_L1_ix_18 ?_
  refine q_top (x' := nI n) (by rw [Nat.min_self]) ?_
  refine lv_istore_n (lv' := [(3, .int (nI n)), (2, .int 0), (0, .ref v), (1, .int (nI x))]) S.1 S.2.1 d_L1_ix_21 rfl hl (by decide) rfl (fun ls hl => ?_)
  refine lv_iload_n S.1 S.2.1 d_L1_ix_22 rfl (lv_at hl 1 rfl) ?_
  refine lv_iload_n S.1 S.2.1 d_L1_ix_23 rfl (lv_at hl 0 rfl) ?_
  refine lv_icmp_lt (tgt := 29) S.1 S.2.1 d_L1_ix_24 (by decide) (fun cc => ?_) (fun cc => ?_)
  ·
    refine lv_aload_n S.1 S.2.1 d_L1_ix_29 rfl (lv_at hl 2 rfl) ?_
    refine lv_iload_n S.1 S.2.1 d_L1_ix_30 rfl (lv_at hl 3 rfl) ?_
    refine lv_iload_n S.1 S.2.1 d_L1_ix_31 rfl (lv_at hl 1 rfl) ?_
    refine lv_iload_n S.1 S.2.1 d_L1_ix_32 rfl (lv_at hl 0 rfl) ?_
    refine vp_callSi (va_Run.run (rn_S S sc_L1_95 (As := [.ref v, .int (nI x), .int 0, .int (nI n)]) (rest := []) (c_L1_ixChar l hx (t := t)) (fun U hU hW => ⟨hz.to hS.2.1 hU hW.alike (fun _ h => h), h8⟩) (Nat.le_of_ble_eq_true rfl) (Nat.le_of_ble_eq_true rfl) (by dsimp only [rmd] <;> omega) (by dsimp only [rmd] <;> omega) rfl hl.1 rfl (Nat.le_of_ble_eq_true rfl) d_L1_ix_33)) (fun r0 h0 => ?_)
    exact q_ri S hr hlk h0 d_L1_ix_36
  ·
    refine lv_iconst (v := (-1)) S.1 S.2.1 d_L1_ix_27 (by decide) ?_
    refine q_ri S hr hlk (Or.inl ⟨rfl, fun j hj => absurd ?_ cc⟩) d_L1_ix_28
    exact nI_lt (a := 0) (by omega) (by omega)
set_option maxHeartbeats 4000000 in
set_option maxRecDepth 100000 in
/-- String.indexOf from 0 -/
theorem c_STR_ix2 (l : Launch) {D : va_G} {cB cC : ClassId} {a v n x : Nat} {t : Nat → Nat} (hx : x < 128) : Ct l y_STR_ix2 b_STR_ix2 3 (Option.some FieldType.int) 2 0 0 [.ref a, .int (nI x), .int 0] (fun U => en D cB cC nF U U.heap ∧ zsv a v n t nF U U.heap) (vp_Si (fun r => (r = -1 ∧ ∀ j, j < n → t j ≠ x) ∨ ∃ j, j < n ∧ t j = x ∧ r = nI j)) nF := by
  refine ct_of (by decide) (Nat.le_of_ble_eq_true rfl) (fun _ _ _ _ h => h) ?_
  intro p e s m below meth c ls S hr hlk hnm hB hl
  have hl : lv_has ls 3 [(0, .ref a), (1, .int (nI x)), (2, .int 0)] := hl
  obtain ⟨hE, hz⟩ := hB
  have hn := hz.2.1.2.1
  have hK := hE.1
  have hS : va_S nF s.heap s.heap [] := va_S.rf
  refine lv_aload_n S.1 S.2.1 d_STR_ix2_0 rfl (lv_at hl 0 rfl) ?_
  refine vp_callSi (va_Run.run (rn_V S sc_STR_492 (As := []) (rest := []) (c_STR_isLatin1 l) (hz.recv) (fun U hU hW => ⟨hE.to hS.2.1 hU hW (fun _ h => h), hz.to hS.2.1 hU hW.alike (fun _ h => h)⟩) (Nat.le_of_ble_eq_true rfl) (Nat.le_of_ble_eq_true rfl) (by dsimp only [rmd] <;> omega) (by dsimp only [rmd] <;> omega) rfl hl.1 rfl (Nat.le_of_ble_eq_true rfl) d_STR_ix2_1)) (fun r0 h0 => ?_)
  subst h0
  refine lv_if_eq (tgt := 23) S.1 S.2.1 d_STR_ix2_4 (by decide) (fun c => absurd c (by decide)) (fun _ => ?_)
  refine lv_aload_n S.1 S.2.1 d_STR_ix2_7 rfl (lv_at hl 0 rfl) ?_
  refine q_zval S hz hS k_336 d_STR_ix2_8 ?_
  refine lv_iload_n S.1 S.2.1 d_STR_ix2_11 rfl (lv_at hl 1 rfl) ?_
  refine lv_iload_n S.1 S.2.1 d_STR_ix2_12 rfl (lv_at hl 2 rfl) ?_
  refine lv_aload_n S.1 S.2.1 d_STR_ix2_13 rfl (lv_at hl 0 rfl) ?_
  refine vp_callSi (va_Run.run (rn_V S sc_STR_505 (As := []) (rest := [.int 0, .int (nI x), .ref v]) (c_STR_length l) (hz.recv) (fun U hU hW => ⟨hE.to hS.2.1 hU hW (fun _ h => h), hz.to hS.2.1 hU hW.alike (fun _ h => h)⟩) (Nat.le_of_ble_eq_true rfl) (Nat.le_of_ble_eq_true rfl) (by dsimp only [rmd] <;> omega) (by dsimp only [rmd] <;> omega) rfl hl.1 rfl (Nat.le_of_ble_eq_true rfl) d_STR_ix2_14)) (fun r0 h0 => ?_)
  subst h0
  refine vp_callSi (va_Run.run (rn_S S sc_STR_637 (As := [.ref v, .int (nI x), .int 0, .int (nI n)]) (rest := []) (c_L1_ix l hx (t := t)) (fun U hU hW => ⟨hz.2.1.to hS.2.1 hU hW.alike (fun _ h => h), hz.2.2⟩) (Nat.le_of_ble_eq_true rfl) (Nat.le_of_ble_eq_true rfl) (by dsimp only [rmd] <;> omega) (by dsimp only [rmd] <;> omega) rfl hl.1 rfl (Nat.le_of_ble_eq_true rfl) d_STR_ix2_17)) (fun r0 h0 => ?_)
  refine lv_goto (tgt := 36) S.1 S.2.1 d_STR_ix2_20 (by decide) ?_
  exact q_ri S hr hlk h0 d_STR_ix2_36
set_option maxHeartbeats 4000000 in
set_option maxRecDepth 100000 in
/-- String.indexOf -/
theorem c_STR_ix1 (l : Launch) {D : va_G} {cB cC : ClassId} {a v n x : Nat} {t : Nat → Nat} (hx : x < 128) : Ct l y_STR_ix1 b_STR_ix1 2 (Option.some FieldType.int) 3 0 0 [.ref a, .int (nI x)] (fun U => en D cB cC nF U U.heap ∧ zsv a v n t nF U U.heap) (vp_Si (fun r => (r = -1 ∧ ∀ j, j < n → t j ≠ x) ∨ ∃ j, j < n ∧ t j = x ∧ r = nI j)) nF := by
  refine ct_of (by decide) (Nat.le_of_ble_eq_true rfl) (fun _ _ _ _ h => h) ?_
  intro p e s m below meth c ls S hr hlk hnm hB hl
  have hl : lv_has ls 2 [(0, .ref a), (1, .int (nI x))] := hl
  obtain ⟨hE, hz⟩ := hB
  have hn := hz.2.1.2.1
  have hK := hE.1
  have hS : va_S nF s.heap s.heap [] := va_S.rf
  refine lv_aload_n S.1 S.2.1 d_STR_ix1_0 rfl (lv_at hl 0 rfl) ?_
  refine lv_iload_n S.1 S.2.1 d_STR_ix1_1 rfl (lv_at hl 1 rfl) ?_
  refine lv_iconst (v := 0) S.1 S.2.1 d_STR_ix1_2 (by decide) ?_
  refine vp_callSi (va_Run.run (rn_V S sc_STR_633 (As := [.int (nI x), .int 0]) (rest := []) (c_STR_ix2 l hx) (hz.recv) (fun U hU hW => ⟨hE.to hS.2.1 hU hW (fun _ h => h), hz.to hS.2.1 hU hW.alike (fun _ h => h)⟩) (Nat.le_of_ble_eq_true rfl) (Nat.le_of_ble_eq_true rfl) (by dsimp only [rmd] <;> omega) (by dsimp only [rmd] <;> omega) rfl hl.1 rfl (Nat.le_of_ble_eq_true rfl) d_STR_ix1_3)) (fun r0 h0 => ?_)
  exact q_ri S hr hlk h0 d_STR_ix1_6
set_option maxHeartbeats 4000000 in
set_option maxRecDepth 100000 in
/-- Character.charCount -/
theorem c_CHR_count (l : Launch) {x : Nat} (hx : x < 128) : Ct l y_CHR_count b_CHR_count 1 (Option.some FieldType.int) 0 0 0 [.int (nI x)] (fun U => True) (vp_Si (fun r => r = 1)) nF := by
  refine ct_of (by decide) (Nat.le_of_ble_eq_true rfl) (fun _ _ _ _ h => h) ?_
  intro p e s m below meth c ls S hr hlk hnm hB hl
  have hl : lv_has ls 1 [(0, .int (nI x))] := hl
  refine lv_iload_n S.1 S.2.1 d_CHR_count_0 rfl (lv_at hl 0 rfl) ?_
  refine lv_ldc (v := 65536) S.1 S.2.1 S.2.2.2.1 (S.2.2.2.2 _ k_143) d_CHR_count_1 ?_
  refine lv_icmp_lt (tgt := 10) S.1 S.2.1 d_CHR_count_3 (by decide) (fun _ => ?_) (fun c => absurd (by rw [show (65536 : Int32) = nI 65536 from by decide]; exact nI_lt (by omega) (by omega)) c)
  refine lv_iconst (v := 1) S.1 S.2.1 d_CHR_count_10 (by decide) ?_
  exact q_ri S hr hlk rfl d_CHR_count_11
set_option maxHeartbeats 4000000 in
set_option maxRecDepth 100000 in
/-- Arrays.checkLength -/
theorem c_ARR_checkLength (l : Launch) {a b : Nat} (h1 : a ≤ b) (h2 : b < 2 ^ 31) : Ct l y_ARR_checkLength b_ARR_checkLength 2 (Option.none : Option FieldType) 0 0 0 [.int (nI a), .int (nI b)] (fun U => True) (va_Sv (fun _ => True)) nF := by
  refine ct_of (by decide) (Nat.le_of_ble_eq_true rfl) (fun _ _ _ _ h => h) ?_
  intro p e s m below meth c ls S hr hlk hnm hB hl
  have hl : lv_has ls 2 [(0, .int (nI a)), (1, .int (nI b))] := hl
  refine lv_iload_n S.1 S.2.1 d_ARR_checkLength_0 rfl (lv_at hl 1 rfl) ?_
  refine lv_iload_n S.1 S.2.1 d_ARR_checkLength_1 rfl (lv_at hl 0 rfl) ?_
  refine lv_icmp_ge (tgt := 37) S.1 S.2.1 d_ARR_checkLength_2 (by decide) (fun _ => ?_) (fun c => absurd (nI_le h1 h2) c)
  exact q_rv S hr hlk d_ARR_checkLength_37
set_option maxHeartbeats 4000000 in
set_option maxRecDepth 100000 in
/-- ArraysSupport.newLength -/
theorem c_AS_newLength (l : Launch) {a b k : Nat} (h1 : a < 2 ^ 20) (h2 : b < 2 ^ 20) (h3 : k < 2 ^ 20) (h4 : 0 < k) : Ct l y_AS_newLength b_AS_newLength 4 (Option.some FieldType.int) 1 0 0 [.int (nI a), .int (nI b), .int (nI k)] (fun U => True) (vp_Si (fun r => r = nI (a + max b k))) nF := by
  refine ct_of (by decide) (Nat.le_of_ble_eq_true rfl) (fun _ _ _ _ h => h) ?_
  intro p e s m below meth c ls S hr hlk hnm hB hl
  have hl : lv_has ls 4 [(0, .int (nI a)), (1, .int (nI b)), (2, .int (nI k))] := hl
  have hmx : max b k < 2 ^ 20 ∧ k ≤ max b k := by omega
  refine lv_iload_n S.1 S.2.1 d_AS_newLength_0 rfl (lv_at hl 0 rfl) ?_
  refine lv_iload_n S.1 S.2.1 d_AS_newLength_1 rfl (lv_at hl 1 rfl) ?_
  refine lv_iload_n S.1 S.2.1 d_AS_newLength_2 rfl (lv_at hl 2 rfl) ?_
  refine q_max S hl.1 k_205 (a := b) (b := k) (Nat.le_of_ble_eq_true rfl) (Nat.le_of_ble_eq_true rfl) (Nat.zero_le _) (Nat.zero_le _) (by omega) (by omega) d_AS_newLength_3 ?_
  refine lv_iadd S.1 S.2.1 d_AS_newLength_6 ?_
  refine q_top (x' := nI (a + max b k)) (nI_add _ _) ?_
  refine lv_istore_n (lv' := [(3, .int (nI (a + max b k))), (0, .int (nI a)), (1, .int (nI b)), (2, .int (nI k))]) S.1 S.2.1 d_AS_newLength_7 rfl hl (by decide) rfl (fun ls hl => ?_)
  refine lv_iconst (v := 0) S.1 S.2.1 d_AS_newLength_8 (by decide) ?_
  refine lv_iload_n S.1 S.2.1 d_AS_newLength_9 rfl (lv_at hl 0 rfl) ?_
  refine lv_icmp_ge (tgt := 21) S.1 S.2.1 d_AS_newLength_10 (by decide) (fun c => absurd c (nI_nle (by omega) (by omega))) (fun _ => ?_)
  refine lv_iload_n S.1 S.2.1 d_AS_newLength_13 rfl (lv_at hl 0 rfl) ?_
  refine lv_ldc (v := 2147483639) S.1 S.2.1 S.2.2.2.1 (S.2.2.2.2 _ k_208) d_AS_newLength_14 ?_
  refine lv_icmp_gt (tgt := 21) S.1 S.2.1 d_AS_newLength_16 (by decide) (fun c => absurd c (by rw [show (2147483639 : Int32) = nI 2147483639 from by decide]; exact nI_nlt (by omega) (by omega))) (fun _ => ?_)
  refine lv_iload_n S.1 S.2.1 d_AS_newLength_19 rfl (lv_at hl 0 rfl) ?_
  exact q_ri S hr hlk rfl d_AS_newLength_20
end
section
set_option maxHeartbeats 4000000 in
set_option maxRecDepth 100000 in
/-- StringTokenizer.skipDelimiters -/
theorem c_TK_skip (l : Launch) {D : va_G} {cB cC : ClassId} {h cp n a b k mx : Nat} {np : Int32} {ret : Bool} {t dl : Nat → Nat} {P : Nat → Bool} {pos : Nat} (hpos : pos ≤ n) (hmx : mx < 128) (hPd : ∀ j, j < n → (P j = true ↔ ∃ i, i < k ∧ dl i = t j)) (hdm : ∀ i, i < k → dl i ≤ mx) : Ct l y_TK_skip b_TK_skip 4 (Option.some FieldType.int) 4 0 0 [.ref h, .int (nI pos)] (fun U => en D cB cC nF U U.heap ∧ va_P D classes [(h, .inr (2, [.int (nI cp), .int np, .int (nI n), .ref a, .ref b, .int (bI ret), .int 0, .int (nI mx), .int 0, .null]))] U.heap ∧ zs a n t nF U U.heap ∧ zs b k dl nF U U.heap) (vp_Si (fun r => r = nI (skp ret P n pos))) nF := by
  refine ct_of (by decide) (Nat.le_of_ble_eq_true rfl) (fun _ _ _ _ h => h) ?_
  intro p e s m below meth c ls S hr hlk hnm hB hl
  have hl : lv_has ls 4 [(0, .ref h), (1, .int (nI pos))] := hl
  obtain ⟨hE, hP, ⟨va, hza⟩, ⟨vb, hzb⟩⟩ := hB
  have hn := hza.2.1.2.1
  have hK := hE.1
  have hS : va_S nF s.heap s.heap [] := va_S.rf
  refine lv_aload_n S.1 S.2.1 d_TK_skip_0 rfl (lv_at hl 0 rfl) ?_
  refine q_get S hK hP 0 rfl fs_TK_1 (v := .ref b) rfl d_TK_skip_1 ?_
  refine lv_ifnonnull (tgt := 15) S.1 S.2.1 d_TK_skip_4 (by decide) ?_
  refine lv_iload_n S.1 S.2.1 d_TK_skip_15 rfl (lv_at hl 1 rfl) ?_
  refine lv_istore_n (lv' := [(2, .int (nI pos)), (0, .ref h), (1, .int (nI pos))]) S.1 S.2.1 d_TK_skip_16 rfl hl (by decide) rfl (fun ls hl => ?_)
  cases ret with
  | true =>
    refine lv_aload_n S.1 S.2.1 d_TK_skip_17 rfl (lv_at hl 1 rfl) ?_
    refine q_get S hK hP 0 rfl fs_TK_61 (v := .int (bI true)) rfl d_TK_skip_18 ?_
    refine lv_if_ne (tgt := 114) S.1 S.2.1 d_TK_skip_21 (by decide) (fun _ => ?_) (fun c => absurd c (by decide))
    refine lv_iload_n S.1 S.2.1 d_TK_skip_114 rfl (lv_at hl 0 rfl) ?_
    exact q_ri S hr hlk rfl d_TK_skip_115
  | false =>
    have loop : ∀ (q i : Nat) (ls : Array Slot), i + q = n → rn P n pos = rn P n i → lv_has ls 4 [(2, .int (nI i)), (0, .ref h), (1, .int (nI pos))] → W p l e (rmd 4 0 0) s m ([.ref h, .int (nI pos)] : List Value).toArray below meth c s.heap [] 0 0 (MQ below (vp_Si (fun r => r = nI (skp false P n pos))) ([.ref h, .int (nI pos)] : List Value).toArray s 0 0 nF) (F0 m 17 ls []) := by
      intro q
      induction q with
      | zero =>
        intro i ls hi hrn hl
        refine lv_aload_n S.1 S.2.1 d_TK_skip_17 rfl (lv_at hl 1 rfl) ?_
        refine q_get S hK hP 0 rfl fs_TK_61 (v := .int (bI false)) rfl d_TK_skip_18 ?_
        refine lv_if_ne (tgt := 114) S.1 S.2.1 d_TK_skip_21 (by decide) (fun c => absurd (rfl) c) (fun _ => ?_)
        refine lv_iload_n S.1 S.2.1 d_TK_skip_24 rfl (lv_at hl 0 rfl) ?_
        refine lv_aload_n S.1 S.2.1 d_TK_skip_25 rfl (lv_at hl 1 rfl) ?_
        refine q_get S hK hP 0 rfl fs_TK_58 (v := .int (nI n)) rfl d_TK_skip_26 ?_
        refine lv_icmp_ge (tgt := 114) S.1 S.2.1 d_TK_skip_29 (by decide) (fun _ => ?_) (fun c => absurd (nI_le (by omega) (by omega)) c)
        refine lv_iload_n S.1 S.2.1 d_TK_skip_114 rfl (lv_at hl 0 rfl) ?_
        refine q_ri S hr hlk ?_ d_TK_skip_115
        show nI i = nI (rn P n pos)
        rw [hrn, rn_end (by omega)]
      | succ q ih =>
        intro i ls hi hrn hl
        have hin : i < n := by omega
        refine lv_aload_n S.1 S.2.1 d_TK_skip_17 rfl (lv_at hl 1 rfl) ?_
        refine q_get S hK hP 0 rfl fs_TK_61 (v := .int (bI false)) rfl d_TK_skip_18 ?_
        refine lv_if_ne (tgt := 114) S.1 S.2.1 d_TK_skip_21 (by decide) (fun c => absurd (rfl) c) (fun _ => ?_)
        refine lv_iload_n S.1 S.2.1 d_TK_skip_24 rfl (lv_at hl 0 rfl) ?_
        refine lv_aload_n S.1 S.2.1 d_TK_skip_25 rfl (lv_at hl 1 rfl) ?_
        refine q_get S hK hP 0 rfl fs_TK_58 (v := .int (nI n)) rfl d_TK_skip_26 ?_
        refine lv_icmp_ge (tgt := 114) S.1 S.2.1 d_TK_skip_29 (by decide) (fun c => absurd c (nI_ge (by omega) (by omega))) (fun _ => ?_)
        refine lv_aload_n S.1 S.2.1 d_TK_skip_32 rfl (lv_at hl 1 rfl) ?_
        refine q_get S hK hP 0 rfl fs_TK_29 (v := .int 0) rfl d_TK_skip_33 ?_
        refine lv_if_ne (tgt := 76) S.1 S.2.1 d_TK_skip_36 (by decide) (fun c => absurd (rfl) c) (fun _ => ?_)
        refine lv_aload_n S.1 S.2.1 d_TK_skip_39 rfl (lv_at hl 1 rfl) ?_
        refine q_get S hK hP 0 rfl fs_TK_55 (v := .ref a) rfl d_TK_skip_40 ?_
        refine lv_iload_n S.1 S.2.1 d_TK_skip_43 rfl (lv_at hl 0 rfl) ?_
        have h8 := hza.2.2 i hin
        refine vp_callSi (va_Run.run (rn_V S sc_TK_17 (As := [.int (nI i)]) (rest := []) (c_STR_charAt l (t := t) (k := i) (hin)) (hza.recv) (fun U hU hW => ⟨hE.to hS.2.1 hU hW (fun _ h => h), hza.to hS.2.1 hU hW.alike (fun _ h => h)⟩) (Nat.le_of_ble_eq_true rfl) (Nat.le_of_ble_eq_true rfl) (by dsimp only [rmd] <;> omega) (by dsimp only [rmd] <;> omega) rfl hl.1 rfl (Nat.le_of_ble_eq_true rfl) d_TK_skip_44)) (fun r0 h0 => ?_)
        subst h0
        refine lv_istore_n (lv' := [(3, .int (nI (t i))), (2, .int (nI i)), (0, .ref h), (1, .int (nI pos))]) S.1 S.2.1 d_TK_skip_47 rfl hl (by decide) rfl (fun ls hl => ?_)
        refine lv_iload_n S.1 S.2.1 d_TK_skip_48 rfl (lv_at hl 0 rfl) ?_
        refine lv_aload_n S.1 S.2.1 d_TK_skip_49 rfl (lv_at hl 2 rfl) ?_
        refine q_get S hK hP 0 rfl fs_TK_7 (v := .int (nI mx)) rfl d_TK_skip_50 ?_
        refine lv_icmp_gt (tgt := 114) S.1 S.2.1 d_TK_skip_53 (by decide) (fun cc => ?_) (fun cc => ?_)
        ·
          have hPi : P i = false := by
            rw [← Bool.not_eq_true]; intro hp
            obtain ⟨z, hz1, hz2⟩ := (hPd i hin).mp hp
            exact nI_nlt (a := mx) (b := t i) (by rw [← hz2]; exact hdm z hz1) (by omega) cc
          refine lv_iload_n S.1 S.2.1 d_TK_skip_114 rfl (lv_at hl 1 rfl) ?_
          refine q_ri S hr hlk ?_ d_TK_skip_115
          show nI i = nI (rn P n pos)
          rw [hrn, rn_stop hPi]
        ·
          refine lv_aload_n S.1 S.2.1 d_TK_skip_56 rfl (lv_at hl 2 rfl) ?_
          refine q_get S hK hP 0 rfl fs_TK_1 (v := .ref b) rfl d_TK_skip_57 ?_
          refine lv_iload_n S.1 S.2.1 d_TK_skip_60 rfl (lv_at hl 0 rfl) ?_
          refine vp_callSi (va_Run.run (rn_V S sc_TK_75 (As := [.int (nI (t i))]) (rest := []) (c_STR_ix1 l (hza.2.2 i (hin))) (hzb.recv) (fun U hU hW => ⟨hE.to hS.2.1 hU hW (fun _ h => h), hzb.to hS.2.1 hU hW.alike (fun _ h => h)⟩) (Nat.le_of_ble_eq_true rfl) (Nat.le_of_ble_eq_true rfl) (by dsimp only [rmd] <;> omega) (by dsimp only [rmd] <;> omega) rfl hl.1 rfl (Nat.le_of_ble_eq_true rfl) d_TK_skip_61)) (fun r0 h0 => ?_)
          rcases h0 with ⟨h0, hno⟩ | ⟨z, hz1, hz2, h0⟩
          ·
            subst h0
            have hPi : P i = false := by
              rw [← Bool.not_eq_true]; intro hp
              obtain ⟨z, hz1, hz2⟩ := (hPd i hin).mp hp
              exact hno z hz1 hz2
            refine lv_if_ge (tgt := 70) S.1 S.2.1 d_TK_skip_64 (by decide) (fun c => absurd c (by decide)) (fun _ => ?_)
            refine lv_goto (tgt := 114) S.1 S.2.1 d_TK_skip_67 (by decide) ?_
            refine lv_iload_n S.1 S.2.1 d_TK_skip_114 rfl (lv_at hl 1 rfl) ?_
            refine q_ri S hr hlk ?_ d_TK_skip_115
            show nI i = nI (rn P n pos)
            rw [hrn, rn_stop hPi]
          ·
            subst h0
            have hk := hzb.2.1.2.1
            refine lv_if_ge (tgt := 70) S.1 S.2.1 d_TK_skip_64 (by decide) (fun _ => ?_) (fun c => absurd (nI_pos' (by omega)) c)
            refine lv_iinc (v := nI (i + 1)) (lv' := [(2, .int (nI (i + 1))), (3, .int (nI (t i))), (0, .ref h), (1, .int (nI pos))]) S.1 S.2.1 d_TK_skip_70 hl (k := 1) rfl (nI_1 i) (by decide) rfl (fun ls hl => ?_)
            refine lv_goto (tgt := 17) S.1 S.2.1 d_TK_skip_73 (by decide) ?_
            exact ih (i + 1) ls (by omega) (by rw [hrn, rn_step hin ((hPd i hin).mpr ⟨z, hz1, hz2⟩)]) (lv_sub hl [0, 2, 3] rfl)
    exact loop (n - pos) pos ls (by omega) rfl (lv_sub hl [0, 1, 2] rfl)
set_option maxHeartbeats 4000000 in
set_option maxRecDepth 100000 in
/-- StringTokenizer.scanToken -/
theorem c_TK_scan (l : Launch) {D : va_G} {cB cC : ClassId} {h cp n a b k mx : Nat} {np : Int32} {ret : Bool} {t dl : Nat → Nat} {P : Nat → Bool} {pos : Nat} (hpos : pos < n) (hmx : mx < 128) (hPd : ∀ j, j < n → (P j = true ↔ ∃ i, i < k ∧ dl i = t j)) (hdm : ∀ i, i < k → dl i ≤ mx) : Ct l y_TK_scan b_TK_scan 4 (Option.some FieldType.int) 4 0 0 [.ref h, .int (nI pos)] (fun U => en D cB cC nF U U.heap ∧ va_P D classes [(h, .inr (2, [.int (nI cp), .int np, .int (nI n), .ref a, .ref b, .int (bI ret), .int 0, .int (nI mx), .int 0, .null]))] U.heap ∧ zs a n t nF U U.heap ∧ zs b k dl nF U U.heap) (vp_Si (fun r => r = nI (scn ret P n pos))) nF := by
  refine ct_of (by decide) (Nat.le_of_ble_eq_true rfl) (fun _ _ _ _ h => h) ?_
  intro p e s m below meth c ls S hr hlk hnm hB hl
  have hl : lv_has ls 4 [(0, .ref h), (1, .int (nI pos))] := hl
  obtain ⟨hE, hP, ⟨va, hza⟩, ⟨vb, hzb⟩⟩ := hB
  have hn := hza.2.1.2.1
  have hK := hE.1
  have hS : va_S nF s.heap s.heap [] := va_S.rf
  have tail : ∀ (i : Nat) (ls : Array Slot), i ≤ n → rn (fun j => !P j) n pos = i → lv_has ls 4 [(2, .int (nI i)), (0, .ref h), (1, .int (nI pos))] → W p l e (rmd 4 0 0) s m ([.ref h, .int (nI pos)] : List Value).toArray below meth c s.heap [] 0 0 (MQ below (vp_Si (fun r => r = nI (scn ret P n pos))) ([.ref h, .int (nI pos)] : List Value).toArray s 0 0 nF) (F0 m 92 ls []) := by
    intro i ls hi hrn hl
    cases ret with
    | false =>
      refine lv_aload_n S.1 S.2.1 d_TK_scan_92 rfl (lv_at hl 1 rfl) ?_
      refine q_get S hK hP 0 rfl fs_TK_61 (v := .int (bI false)) rfl d_TK_scan_93 ?_
      refine lv_if_eq (tgt := 177) S.1 S.2.1 d_TK_scan_96 (by decide) (fun _ => ?_) (fun c => absurd (rfl) c)
      refine lv_iload_n S.1 S.2.1 d_TK_scan_177 rfl (lv_at hl 0 rfl) ?_
      refine q_ri S hr hlk ?_ d_TK_scan_178
      show nI i = nI (rn (fun j => !P j) n pos)
      rw [hrn]
    | true =>
      refine lv_aload_n S.1 S.2.1 d_TK_scan_92 rfl (lv_at hl 1 rfl) ?_
      refine q_get S hK hP 0 rfl fs_TK_61 (v := .int (bI true)) rfl d_TK_scan_93 ?_
      refine lv_if_eq (tgt := 177) S.1 S.2.1 d_TK_scan_96 (by decide) (fun c => absurd c (by decide)) (fun _ => ?_)
      refine lv_iload_n S.1 S.2.1 d_TK_scan_99 rfl (lv_at hl 2 rfl) ?_
      refine lv_iload_n S.1 S.2.1 d_TK_scan_100 rfl (lv_at hl 0 rfl) ?_
      refine lv_icmp_ne (tgt := 177) S.1 S.2.1 d_TK_scan_101 (by decide) (fun cc => ?_) (fun cc => ?_)
      ·
        refine lv_iload_n S.1 S.2.1 d_TK_scan_177 rfl (lv_at hl 0 rfl) ?_
        refine q_ri S hr hlk ?_ d_TK_scan_178
        have hne : ¬ (i = pos) := fun h => cc (by rw [h])
        simp [scn, hrn, hne]
      ·
        have hip : pos = i := (nI_eq (by omega) (by omega)).mp cc
        subst hip
        have hPp : P pos = true := by
          have h1 := rn_at (P := (fun j => !P j)) (n := n) _ pos rfl (by omega) (by omega)
          rw [hrn] at h1
          simpa using h1
        obtain ⟨y, hy1, hy2⟩ := (hPd pos hpos).mp hPp
        have hym := hdm y hy1
        refine lv_aload_n S.1 S.2.1 d_TK_scan_104 rfl (lv_at hl 1 rfl) ?_
        refine q_get S hK hP 0 rfl fs_TK_29 (v := .int 0) rfl d_TK_scan_105 ?_
        refine lv_if_ne (tgt := 145) S.1 S.2.1 d_TK_scan_108 (by decide) (fun c => absurd (rfl) c) (fun _ => ?_)
        refine lv_aload_n S.1 S.2.1 d_TK_scan_111 rfl (lv_at hl 1 rfl) ?_
        refine q_get S hK hP 0 rfl fs_TK_55 (v := .ref a) rfl d_TK_scan_112 ?_
        refine lv_iload_n S.1 S.2.1 d_TK_scan_115 rfl (lv_at hl 0 rfl) ?_
        have h8 := hza.2.2 pos hpos
        refine vp_callSi (va_Run.run (rn_V S sc_TK_17 (As := [.int (nI pos)]) (rest := []) (c_STR_charAt l (t := t) (k := pos) (hpos)) (hza.recv) (fun U hU hW => ⟨hE.to hS.2.1 hU hW (fun _ h => h), hza.to hS.2.1 hU hW.alike (fun _ h => h)⟩) (Nat.le_of_ble_eq_true rfl) (Nat.le_of_ble_eq_true rfl) (by dsimp only [rmd] <;> omega) (by dsimp only [rmd] <;> omega) rfl hl.1 rfl (Nat.le_of_ble_eq_true rfl) d_TK_scan_116)) (fun r0 h0 => ?_)
        subst h0
        refine lv_istore_n (lv' := [(3, .int (nI (t pos))), (2, .int (nI pos)), (0, .ref h), (1, .int (nI pos))]) S.1 S.2.1 d_TK_scan_119 rfl hl (by decide) rfl (fun ls hl => ?_)
        refine lv_iload_n S.1 S.2.1 d_TK_scan_120 rfl (lv_at hl 0 rfl) ?_
        refine lv_aload_n S.1 S.2.1 d_TK_scan_121 rfl (lv_at hl 2 rfl) ?_
        refine q_get S hK hP 0 rfl fs_TK_7 (v := .int (nI mx)) rfl d_TK_scan_122 ?_
        refine lv_icmp_gt (tgt := 142) S.1 S.2.1 d_TK_scan_125 (by decide) (fun c => absurd c (nI_nlt (by omega) (by omega))) (fun _ => ?_)
        refine lv_aload_n S.1 S.2.1 d_TK_scan_128 rfl (lv_at hl 2 rfl) ?_
        refine q_get S hK hP 0 rfl fs_TK_1 (v := .ref b) rfl d_TK_scan_129 ?_
        refine lv_iload_n S.1 S.2.1 d_TK_scan_132 rfl (lv_at hl 0 rfl) ?_
        refine vp_callSi (va_Run.run (rn_V S sc_TK_75 (As := [.int (nI (t pos))]) (rest := []) (c_STR_ix1 l (hza.2.2 pos (hpos))) (hzb.recv) (fun U hU hW => ⟨hE.to hS.2.1 hU hW (fun _ h => h), hzb.to hS.2.1 hU hW.alike (fun _ h => h)⟩) (Nat.le_of_ble_eq_true rfl) (Nat.le_of_ble_eq_true rfl) (by dsimp only [rmd] <;> omega) (by dsimp only [rmd] <;> omega) rfl hl.1 rfl (Nat.le_of_ble_eq_true rfl) d_TK_scan_133)) (fun r0 h0 => ?_)
        rcases h0 with ⟨h0, hno⟩ | ⟨z, hz1, hz2, h0⟩
        · exact absurd hy2 (hno y hy1)
        subst h0
        have hk := hzb.2.1.2.1
        refine lv_if_lt (tgt := 142) S.1 S.2.1 d_TK_scan_136 (by decide) (fun c => absurd c (nI_pos (by omega))) (fun _ => ?_)
        refine lv_iinc (v := nI (pos + 1)) (lv' := [(2, .int (nI (pos + 1))), (3, .int (nI (t pos))), (0, .ref h), (1, .int (nI pos))]) S.1 S.2.1 d_TK_scan_139 hl (k := 1) rfl (nI_1 pos) (by decide) rfl (fun ls hl => ?_)
        refine lv_goto (tgt := 177) S.1 S.2.1 d_TK_scan_142 (by decide) ?_
        refine lv_iload_n S.1 S.2.1 d_TK_scan_177 rfl (lv_at hl 0 rfl) ?_
        refine q_ri S hr hlk ?_ d_TK_scan_178
        simp [scn, hrn]
  have loop : ∀ (q i : Nat) (ls : Array Slot), i + q = n → rn (fun j => !P j) n pos = rn (fun j => !P j) n i → lv_has ls 4 [(2, .int (nI i)), (0, .ref h), (1, .int (nI pos))] → W p l e (rmd 4 0 0) s m ([.ref h, .int (nI pos)] : List Value).toArray below meth c s.heap [] 0 0 (MQ below (vp_Si (fun r => r = nI (scn ret P n pos))) ([.ref h, .int (nI pos)] : List Value).toArray s 0 0 nF) (F0 m 2 ls []) := by
    intro q
    induction q with
    | zero =>
      intro i ls hi hrn hl
      refine lv_iload_n S.1 S.2.1 d_TK_scan_2 rfl (lv_at hl 0 rfl) ?_
      refine lv_aload_n S.1 S.2.1 d_TK_scan_3 rfl (lv_at hl 1 rfl) ?_
      refine q_get S hK hP 0 rfl fs_TK_58 (v := .int (nI n)) rfl d_TK_scan_4 ?_
      refine lv_icmp_ge (tgt := 92) S.1 S.2.1 d_TK_scan_7 (by decide) (fun _ => ?_) (fun c => absurd (nI_le (by omega) (by omega)) c)
      exact tail i ls (by omega) (by rw [hrn, rn_end (by omega)]) hl
    | succ q ih =>
      intro i ls hi hrn hl
      have hin : i < n := by omega
      refine lv_iload_n S.1 S.2.1 d_TK_scan_2 rfl (lv_at hl 0 rfl) ?_
      refine lv_aload_n S.1 S.2.1 d_TK_scan_3 rfl (lv_at hl 1 rfl) ?_
      refine q_get S hK hP 0 rfl fs_TK_58 (v := .int (nI n)) rfl d_TK_scan_4 ?_
      refine lv_icmp_ge (tgt := 92) S.1 S.2.1 d_TK_scan_7 (by decide) (fun c => absurd c (nI_ge (by omega) (by omega))) (fun _ => ?_)
      refine lv_aload_n S.1 S.2.1 d_TK_scan_10 rfl (lv_at hl 1 rfl) ?_
      refine q_get S hK hP 0 rfl fs_TK_29 (v := .int 0) rfl d_TK_scan_11 ?_
      refine lv_if_ne (tgt := 54) S.1 S.2.1 d_TK_scan_14 (by decide) (fun c => absurd (rfl) c) (fun _ => ?_)
      refine lv_aload_n S.1 S.2.1 d_TK_scan_17 rfl (lv_at hl 1 rfl) ?_
      refine q_get S hK hP 0 rfl fs_TK_55 (v := .ref a) rfl d_TK_scan_18 ?_
      refine lv_iload_n S.1 S.2.1 d_TK_scan_21 rfl (lv_at hl 0 rfl) ?_
      have h8 := hza.2.2 i hin
      refine vp_callSi (va_Run.run (rn_V S sc_TK_17 (As := [.int (nI i)]) (rest := []) (c_STR_charAt l (t := t) (k := i) (hin)) (hza.recv) (fun U hU hW => ⟨hE.to hS.2.1 hU hW (fun _ h => h), hza.to hS.2.1 hU hW.alike (fun _ h => h)⟩) (Nat.le_of_ble_eq_true rfl) (Nat.le_of_ble_eq_true rfl) (by dsimp only [rmd] <;> omega) (by dsimp only [rmd] <;> omega) rfl hl.1 rfl (Nat.le_of_ble_eq_true rfl) d_TK_scan_22)) (fun r0 h0 => ?_)
      subst h0
      refine lv_istore_n (lv' := [(3, .int (nI (t i))), (2, .int (nI i)), (0, .ref h), (1, .int (nI pos))]) S.1 S.2.1 d_TK_scan_25 rfl hl (by decide) rfl (fun ls hl => ?_)
      refine lv_iload_n S.1 S.2.1 d_TK_scan_26 rfl (lv_at hl 0 rfl) ?_
      refine lv_aload_n S.1 S.2.1 d_TK_scan_27 rfl (lv_at hl 2 rfl) ?_
      refine q_get S hK hP 0 rfl fs_TK_7 (v := .int (nI mx)) rfl d_TK_scan_28 ?_
      refine lv_icmp_gt (tgt := 48) S.1 S.2.1 d_TK_scan_31 (by decide) (fun cc => ?_) (fun cc => ?_)
      ·
        have hPi : P i = false := by
          rw [← Bool.not_eq_true]; intro hp
          obtain ⟨z, hz1, hz2⟩ := (hPd i hin).mp hp
          exact nI_nlt (a := mx) (b := t i) (by rw [← hz2]; exact hdm z hz1) (by omega) cc
        refine lv_iinc (v := nI (i + 1)) (lv' := [(2, .int (nI (i + 1))), (3, .int (nI (t i))), (0, .ref h), (1, .int (nI pos))]) S.1 S.2.1 d_TK_scan_48 hl (k := 1) rfl (nI_1 i) (by decide) rfl (fun ls hl => ?_)
        refine lv_goto (tgt := 2) S.1 S.2.1 d_TK_scan_51 (by decide) ?_
        exact ih (i + 1) ls (by omega) (by rw [hrn, rn_step hin (by simp [hPi])]) (lv_sub hl [0, 2, 3] rfl)
      ·
        refine lv_aload_n S.1 S.2.1 d_TK_scan_34 rfl (lv_at hl 2 rfl) ?_
        refine q_get S hK hP 0 rfl fs_TK_1 (v := .ref b) rfl d_TK_scan_35 ?_
        refine lv_iload_n S.1 S.2.1 d_TK_scan_38 rfl (lv_at hl 0 rfl) ?_
        refine vp_callSi (va_Run.run (rn_V S sc_TK_75 (As := [.int (nI (t i))]) (rest := []) (c_STR_ix1 l (hza.2.2 i (hin))) (hzb.recv) (fun U hU hW => ⟨hE.to hS.2.1 hU hW (fun _ h => h), hzb.to hS.2.1 hU hW.alike (fun _ h => h)⟩) (Nat.le_of_ble_eq_true rfl) (Nat.le_of_ble_eq_true rfl) (by dsimp only [rmd] <;> omega) (by dsimp only [rmd] <;> omega) rfl hl.1 rfl (Nat.le_of_ble_eq_true rfl) d_TK_scan_39)) (fun r0 h0 => ?_)
        rcases h0 with ⟨h0, hno⟩ | ⟨z, hz1, hz2, h0⟩
        ·
          subst h0
          have hPi : P i = false := by
            rw [← Bool.not_eq_true]; intro hp
            obtain ⟨z, hz1, hz2⟩ := (hPd i hin).mp hp
            exact hno z hz1 hz2
          refine lv_if_lt (tgt := 48) S.1 S.2.1 d_TK_scan_42 (by decide) (fun _ => ?_) (fun c => absurd (by decide) c)
          refine lv_iinc (v := nI (i + 1)) (lv' := [(2, .int (nI (i + 1))), (3, .int (nI (t i))), (0, .ref h), (1, .int (nI pos))]) S.1 S.2.1 d_TK_scan_48 hl (k := 1) rfl (nI_1 i) (by decide) rfl (fun ls hl => ?_)
          refine lv_goto (tgt := 2) S.1 S.2.1 d_TK_scan_51 (by decide) ?_
          exact ih (i + 1) ls (by omega) (by rw [hrn, rn_step hin (by simp [hPi])]) (lv_sub hl [0, 2, 3] rfl)
        ·
          subst h0
          have hk := hzb.2.1.2.1
          refine lv_if_lt (tgt := 48) S.1 S.2.1 d_TK_scan_42 (by decide) (fun c => absurd c (nI_pos (by omega))) (fun _ => ?_)
          refine lv_goto (tgt := 92) S.1 S.2.1 d_TK_scan_45 (by decide) ?_
          exact tail i ls (by omega) (by rw [hrn, rn_stop (by simp [(hPd i hin).mpr ⟨z, hz1, hz2⟩])]) (lv_sub hl [1, 2, 3] rfl)
  refine lv_iload_n S.1 S.2.1 d_TK_scan_0 rfl (lv_at hl 1 rfl) ?_
  refine lv_istore_n (lv' := [(2, .int (nI pos)), (0, .ref h), (1, .int (nI pos))]) S.1 S.2.1 d_TK_scan_1 rfl hl (by decide) rfl (fun ls hl => ?_)
  exact loop (n - pos) pos ls (by omega) rfl (lv_sub hl [0, 1, 2] rfl)
set_option maxHeartbeats 4000000 in
set_option maxRecDepth 100000 in
/-- StringTokenizer.countTokens -/
theorem c_TK_count (l : Launch) {D : va_G} {cB cC : ClassId} {h cp n a b k mx : Nat} {np : Int32} {ret : Bool} {t dl : Nat → Nat} {P : Nat → Bool} (hcp : cp ≤ n) (hmx : mx < 128) (hPd : ∀ j, j < n → (P j = true ↔ ∃ i, i < k ∧ dl i = t j)) (hdm : ∀ i, i < k → dl i ≤ mx) : Ct l y_TK_count b_TK_count 3 (Option.some FieldType.int) 5 0 0 [.ref h] (fun U => en D cB cC nF U U.heap ∧ va_P D classes [(h, .inr (2, [.int (nI cp), .int np, .int (nI n), .ref a, .ref b, .int (bI ret), .int 0, .int (nI mx), .int 0, .null]))] U.heap ∧ zs a n t nF U U.heap ∧ zs b k dl nF U U.heap) (vp_Si (fun r => r = nI (cnt ret P n cp))) nF := by
  refine ct_of (by decide) (Nat.le_of_ble_eq_true rfl) (fun _ _ _ _ h => h) ?_
  intro p e s m below meth c ls S hr hlk hnm hB hl
  have hl : lv_has ls 3 [(0, .ref h)] := hl
  obtain ⟨hE, hP, ⟨va, hza⟩, ⟨vb, hzb⟩⟩ := hB
  have hn := hza.2.1.2.1
  have hK := hE.1
  have hS : va_S nF s.heap s.heap [] := va_S.rf
  have loop : ∀ (z i q : Nat) (ls : Array Slot), n - i < z → i ≤ n → q + cnt ret P n i = cnt ret P n cp → lv_has ls 3 [(2, .int (nI i)), (1, .int (nI q)), (0, .ref h)] → W p l e (rmd 5 0 0) s m ([.ref h] : List Value).toArray below meth c s.heap [] 0 0 (MQ below (vp_Si (fun r => r = nI (cnt ret P n cp))) ([.ref h] : List Value).toArray s 0 0 nF) (F0 m 7 ls []) := by
    intro z
    induction z with
    | zero => intro i q ls hz; omega
    | succ z ih =>
      intro i q ls hz hi hq hl
      refine lv_iload_n S.1 S.2.1 d_TK_count_7 rfl (lv_at hl 0 rfl) ?_
      refine lv_aload_n S.1 S.2.1 d_TK_count_8 rfl (lv_at hl 2 rfl) ?_
      refine q_get S hK hP 0 rfl fs_TK_58 (v := .int (nI n)) rfl d_TK_count_9 ?_
      have hsi := skp_in (ret := ret) (P := P) hi
      refine lv_icmp_ge (tgt := 44) S.1 S.2.1 d_TK_count_12 (by decide) (fun cc => ?_) (fun cc => ?_)
      ·
        have hge : n ≤ i := (nI_leI (by omega) (by omega)).mp cc
        refine lv_iload_n S.1 S.2.1 d_TK_count_44 rfl (lv_at hl 1 rfl) ?_
        refine q_ri S hr hlk ?_ d_TK_count_45
        rw [cnt_end (by omega)] at hq
        rw [← hq]; rfl
      ·
        have hlt : i < n := by
          rcases Nat.lt_or_ge i n with h | h
          · exact h
          · exact absurd (nI_le h (by omega)) cc
        refine lv_aload_n S.1 S.2.1 d_TK_count_15 rfl (lv_at hl 2 rfl) ?_
        refine lv_iload_n S.1 S.2.1 d_TK_count_16 rfl (lv_at hl 0 rfl) ?_
        refine vp_callSi (va_Run.run (rn_V S sc_TK_82 (As := [.int (nI i)]) (rest := []) (c_TK_skip l hi hmx hPd hdm (t := t) (dl := dl)) (va_recv hK hP (ci := 2) (q0 := 0) rfl rfl) (fun U hU hW => ⟨hE.to hS.2.1 hU hW (fun _ h => h), by rw [hU]; exact hP, ⟨va, hza.to hS.2.1 hU hW.alike (fun _ h => h)⟩, ⟨vb, hzb.to hS.2.1 hU hW.alike (fun _ h => h)⟩⟩) (Nat.le_of_ble_eq_true rfl) (Nat.le_of_ble_eq_true rfl) (by dsimp only [rmd] <;> omega) (by dsimp only [rmd] <;> omega) rfl hl.1 rfl (Nat.le_of_ble_eq_true rfl) d_TK_count_17)) (fun r0 h0 => ?_)
        subst h0
        refine lv_istore_n (lv' := [(2, .int (nI (skp ret P n i))), (1, .int (nI q)), (0, .ref h)]) S.1 S.2.1 d_TK_count_20 rfl hl (by decide) rfl (fun ls hl => ?_)
        refine lv_iload_n S.1 S.2.1 d_TK_count_21 rfl (lv_at hl 0 rfl) ?_
        refine lv_aload_n S.1 S.2.1 d_TK_count_22 rfl (lv_at hl 2 rfl) ?_
        refine q_get S hK hP 0 rfl fs_TK_58 (v := .int (nI n)) rfl d_TK_count_23 ?_
        by_cases hlt2 : skp ret P n i < n
        ·
          refine lv_icmp_lt (tgt := 32) S.1 S.2.1 d_TK_count_26 (by decide) (fun _ => ?_) (fun c => absurd (nI_lt hlt2 (by omega)) c)
          refine lv_aload_n S.1 S.2.1 d_TK_count_32 rfl (lv_at hl 2 rfl) ?_
          refine lv_iload_n S.1 S.2.1 d_TK_count_33 rfl (lv_at hl 0 rfl) ?_
          refine vp_callSi (va_Run.run (rn_V S sc_TK_88 (As := [.int (nI (skp ret P n i))]) (rest := []) (c_TK_scan l hlt2 hmx hPd hdm (t := t) (dl := dl)) (va_recv hK hP (ci := 2) (q0 := 0) rfl rfl) (fun U hU hW => ⟨hE.to hS.2.1 hU hW (fun _ h => h), by rw [hU]; exact hP, ⟨va, hza.to hS.2.1 hU hW.alike (fun _ h => h)⟩, ⟨vb, hzb.to hS.2.1 hU hW.alike (fun _ h => h)⟩⟩) (Nat.le_of_ble_eq_true rfl) (Nat.le_of_ble_eq_true rfl) (by dsimp only [rmd] <;> omega) (by dsimp only [rmd] <;> omega) rfl hl.1 rfl (Nat.le_of_ble_eq_true rfl) d_TK_count_34)) (fun r0 h0 => ?_)
          subst h0
          refine lv_istore_n (lv' := [(2, .int (nI (scn ret P n (skp ret P n i)))), (1, .int (nI q)), (0, .ref h)]) S.1 S.2.1 d_TK_count_37 rfl hl (by decide) rfl (fun ls hl => ?_)
          have hsc := scn_in hlt2 (skp_P hi hlt2)
          refine lv_iinc (v := nI (q + 1)) (lv' := [(1, .int (nI (q + 1))), (2, .int (nI (scn ret P n (skp ret P n i)))), (0, .ref h)]) S.1 S.2.1 d_TK_count_38 hl (k := 1) rfl (nI_1 q) (by decide) rfl (fun ls hl => ?_)
          refine lv_goto (tgt := 7) S.1 S.2.1 d_TK_count_41 (by decide) ?_
          exact ih _ (q + 1) ls (by omega) hsc.2 (by rw [cnt_step hi hlt2] at hq; omega) (lv_sub hl [1, 0, 2] rfl)
        ·
          refine lv_icmp_lt (tgt := 32) S.1 S.2.1 d_TK_count_26 (by decide) (fun c => absurd c (nI_nlt (by omega) (by omega))) (fun _ => ?_)
          refine lv_goto (tgt := 44) S.1 S.2.1 d_TK_count_29 (by decide) ?_
          refine lv_iload_n S.1 S.2.1 d_TK_count_44 rfl (lv_at hl 1 rfl) ?_
          refine q_ri S hr hlk ?_ d_TK_count_45
          rw [cnt_end (by omega)] at hq
          rw [← hq]; rfl
  refine lv_iconst (v := 0) S.1 S.2.1 d_TK_count_0 (by decide) ?_
  refine lv_istore_n (lv' := [(1, .int 0), (0, .ref h)]) S.1 S.2.1 d_TK_count_1 rfl hl (by decide) rfl (fun ls hl => ?_)
  refine lv_aload_n S.1 S.2.1 d_TK_count_2 rfl (lv_at hl 1 rfl) ?_
  refine q_get S hK hP 0 rfl fs_TK_46 (v := .int (nI cp)) rfl d_TK_count_3 ?_
  refine lv_istore_n (lv' := [(2, .int (nI cp)), (1, .int 0), (0, .ref h)]) S.1 S.2.1 d_TK_count_6 rfl hl (by decide) rfl (fun ls hl => ?_)
  exact loop (n - cp + 1) cp 0 ls (by omega) hcp (by omega) (lv_sub hl [0, 1, 2] rfl)
end
section
/-! rows for methods that make and write cells -/
theorem na_nil {v sz : Nat} (h : v < sz) : ¬ va_A [] sz v := fun q => by
  rcases q with ⟨k, e, q⟩ | q
  · simp at q
  · omega
/-- a cell of the world that isn't among the callee's -/
theorem na_of {A : Nat → Prop} {D : va_G} {ws wc : va_W} {H : Heap} (hD : va_D A ws) (hP : va_P D classes ws H) (k : Nat) {v : Nat} {e : va_E} (hk : ws[k]? = some (v, e)) (isC : List Nat) (hC : isC.map (fun i => ws[i]?) = wc.map some) (hn : k ∉ isC) : ¬ va_A wc H.size v := by
  intro h
  have hl := (hP k _ hk).lt
  rcases h with ⟨k2, e2, h⟩ | h
  · have h1 : (isC.map (fun i => ws[i]?))[k2]? = some (some (v, e2)) := by rw [hC, List.getElem?_map, h]; rfl
    rw [List.getElem?_map] at h1
    cases hi : isC[k2]? with
    | none => rw [hi] at h1; cases h1
    | some j =>
      rw [hi] at h1
      have h4 : ws[j]? = some (v, e2) := Option.some.inj h1
      have hij := hD.1 k j (v, e) (v, e2) hk h4 rfl
      subst hij
      exact hn (List.mem_of_getElem? hi)
  · exact absurd hl (Nat.not_lt.mpr h)
theorem va_A_lt {ws : va_W} {D : va_G} {H : Heap} {sz q : Nat} (hP : va_P D classes ws H) (h : va_A ws sz q) (hq : q < sz) : q < H.size := by
  rcases h with ⟨k, e, h⟩ | h
  · exact (hP k _ h).lt
  · omega
section NAR
variable {a v n : Nat} {t : Nat → Nat} {f : Nat → Int32} {A A' : Nat → Prop} {U : State} {H : Heap}
theorem ar.lt (h : ar v n f A U H) : v < H.size := by
  obtain ⟨cell, h1, -⟩ := h.1
  exact (Array.getElem?_eq_some_iff.mp h1).1
theorem zsv.lt (h : zsv a v n t A U H) : a < H.size := by
  obtain ⟨cell, h1, -⟩ := h.1.1
  exact (Array.getElem?_eq_some_iff.mp h1).1
theorem ar.nar (h : ar v n f A U H) (hF : ∀ q, q < H.size → A' q → A q) : ar v n f A' U H := by
  have hl := h.lt
  obtain ⟨⟨cell, h1, h2, h3, h4, h5, h6, h7⟩, h8⟩ := h
  exact ⟨⟨cell, h1, h2, h3, h4, h5, h6, fun z => h7 (hF v hl z)⟩, h8⟩
theorem zsv.nar (h : zsv a v n t A U H) (hF : ∀ q, q < H.size → A' q → A q) : zsv a v n t A' U H := by
  have hl := h.lt
  obtain ⟨⟨⟨cell, h1, h2, h3, h4⟩, ⟨cf, k, i, fd, cell2, g1, g2, g3, g4, g5, g6⟩, ⟨cf', k', i', fd', cell3, e1, e2, e3, e4, e5, e6⟩⟩, h5, h6⟩ := h
  exact ⟨⟨⟨cell, h1, h2, h3, fun z => h4 (hF a hl z)⟩, ⟨cf, k, i, fd, cell2, g1, g2, g3, g4, g5, fun z => g6 (hF a hl z)⟩, ⟨cf', k', i', fd', cell3, e1, e2, e3, e4, e5, fun z => e6 (hF a hl z)⟩⟩, h5.nar hF, h6⟩
theorem zs.nar (h : zs a n t A U H) (hF : ∀ q, q < H.size → A' q → A q) : zs a n t A' U H := by
  obtain ⟨v, h⟩ := h
  exact ⟨v, h.nar hF⟩
theorem zs.kept {H1 : Heap} (h : zs a n t A U H) (hq : ∀ q : Nat, q < H.size → ¬ A q → H1[q]? = H[q]?) : zs a n t A U H1 := by
  obtain ⟨v, ⟨h1, h2, h3⟩, h4, h5⟩ := h
  exact ⟨v, ⟨h1.kept hq, h2.kept hq, h3.kept hq⟩, ⟨h4.1.kept hq, h4.2⟩, h5⟩
theorem zs.moved {u : State} (h : zs a n t A u H) (hvm : u.vm.Alike U.vm) : zs a n t A U H := by
  obtain ⟨v, ⟨h1, h2, h3⟩, h4, h5⟩ := h
  exact ⟨v, ⟨h1.moved hvm, h2.moved hvm, h3.moved hvm⟩, ⟨h4.1.moved hvm, h4.2⟩, h5⟩
theorem zs.text {t' : Nat → Nat} (h : zs a n t A U H) (ht : ∀ j, j < n → t' j = t j) : zs a n t' A U H := by
  obtain ⟨v, h0, ⟨⟨cell, h1, h2, h3, h4, h5, h6, h7⟩, h8, h9⟩, h10⟩ := h
  exact ⟨v, h0, ⟨⟨cell, h1, h2, h3, h4, h5, fun j hj => by rw [h6 j hj]; show some (Value.int (nI (t j))) = some (Value.int (nI (t' j))); rw [ht j hj], h7⟩, h8, fun j hj => by show fits .byte (.int (nI (t' j))) = true; rw [ht j hj]; exact h9 j hj⟩, fun j hj => by rw [ht j hj]; exact h10 j hj⟩
end NAR
/-- a text out of its two cells -/
theorem zs_of {D : va_G} {cB cC : ClassId} {args : Array Value} {ws : va_W} {s : State} {H : Heap} {A : Nat → Prop} {h v n k1 k2 : Nat} {g : Nat → Int32} {t : Nat → Nat} {x y : Value} (htt : ∀ w ∈ tb, w.before args s = true) (hK : va_K D classes [(cB, .byte), (cC, .char)] s) (hP : va_P D classes ws H)
    (he : ws[k1]? = some (h, .inr (3, [.ref v, .int 0, x, y]))) (hv : ws[k2]? = some (v, .inl (cB, n, .inl g))) (hA : ¬ A h) (hA2 : ¬ A v) (hn : n < 2 ^ 30) (hg : ∀ j, j < n → g j = nI (t j)) (ht : ∀ j, j < n → t j < 128) : zs h n t A s H := by
  have hr := va_recv hK hP (ci := 3) (q0 := k1) rfl he
  obtain ⟨r, h1, cell, q1, q2, q3, q4⟩ := hP k1 _ he
  have hrr : r = (R_STR, F_STR, 4) := Option.some.inj h1.symm
  subst hrr
  obtain ⟨hS, hfc, kC, hkC, hkind⟩ := hK.1 3 _ rfl
  have fld : ∀ (k : Nat) (hk : k < 4) (w : Value), ([.ref v, .int 0, x, y] : List Value)[k]? = some w → va_OF (F_STR k).1 (F_STR k).2.1 (F_STR k).2.2.1 w h A s H := by
    intro k hk w hw
    obtain ⟨cf, kf, fi, f, hi, hsl⟩ := hS k hk
    refine ⟨cf, kf, fi, f, cell, hi, (u_facts hfc hkC (u_lays htt i_STR hk) hi).1, q1, ?_, ?_, hA⟩
    · rw [q3]; exact fun h => by cases h
    · rw [hsl, q4 k hk]
      simp [vp_V, hw]
  obtain ⟨cell2, r1, r2, r3⟩ := hr
  refine ⟨v, ⟨⟨cell2, r1, r2, r3, hA⟩, fld 1 (by decide) _ rfl, fld 0 (by decide) _ rfl⟩, ?_, ht⟩
  have har := ar_of (A := A) hK hP hv hA2 hn (fun j hj => by rw [hg j hj]; exact as_fit _ (ht j hj))
  obtain ⟨⟨cell3, e1, e2, e3, e4, e5, e6, e7⟩, e8⟩ := har
  exact ⟨⟨cell3, e1, e2, e3, e4, e5, fun j hj => by rw [e6 j hj]; show some (Value.int (g j)) = some (Value.int (nI (t j))); rw [hg j hj], e7⟩, e8.1, fun j hj => as_fit _ (ht j hj)⟩
section MAKE
variable {p : Program} {l : Launch} {e : Env} {R : Room} {s : State} {m : MethodId} {args : Array Value} {below : List Frame} {meth : Method} {c : Code} {H : Heap} {locs : List Loc} {cells slots : Nat} {Q : State → Prop}
variable {cc : ByteArray} {nL : Nat} {pc : Nat} {ls : Array Slot} {rest : List Value} {D : va_G} {A : Nat → Prop} {a : Nat} {ws : va_W} {H0 : Heap} {own : String} {idx : Nat} {cB cC : ClassId}
theorem q_newB (S : CallFix p m c cc nL s args tb own) (hK : va_K D classes [(cB, .byte), (cC, .char)] s) (hP : va_P D classes ws H) (hD : va_D A ws) (hS : va_S A H0 H locs) (hA : ∀ q, H0.size ≤ q → A q) {N : Nat} (hN : N < 2 ^ 28) (hce : cells + 1 ≤ R.cells) (hsl : slots + N ≤ R.slots) (hdg : decode cc pc = .ok (.newarray .byte, 2))
    (kk : ∀ (q : Nat) (H1 : Heap), va_P D classes (ws ++ [(q, .inl (cB, N, .inl (fun _ => 0)))]) H1 → va_D A (ws ++ [(q, .inl (cB, N, .inl (fun _ => 0)))]) → va_S A H0 H1 locs →
      W p l e R s m args below meth c H1 locs (cells + 1) (slots + N) Q (F0 m (pc + 2) ls (.ref q :: rest))) : W p l e R s m args below meth c H locs cells slots Q (F0 m pc ls (.int (nI N) :: rest)) := by
  refine va_newa (atype := .byte) (a0 := (N, .inl (fun _ => 0))) S.1 S.2.1 (S.2.2.2.2 _ k_54) rfl hK hP hD hS hA (fun _ => rfl) (nI_pos (by omega)) (nI_clamp (by omega)) (by show N * 1 ≤ _; omega) hce hsl hdg (fun q cA H1 hK1 hP1 hD1 hS1 => ?_)
  have e1 := va_nm_byte (hK1.2 2 _ rfl).2
  have e2 := va_nm_byte (hK.2 0 _ rfl).2
  cases e1.symm.trans e2
  exact kk q H1 hP1 hD1 hS1
theorem q_newC (S : CallFix p m c cc nL s args tb own) (hK : va_K D classes [(cB, .byte), (cC, .char)] s) (hP : va_P D classes ws H) (hD : va_D A ws) (hS : va_S A H0 H locs) (hA : ∀ q, H0.size ≤ q → A q) {N : Nat} (hN : N < 2 ^ 28) (hce : cells + 1 ≤ R.cells) (hsl : slots + N ≤ R.slots) (hdg : decode cc pc = .ok (.newarray .char, 2))
    (kk : ∀ (q : Nat) (H1 : Heap), va_P D classes (ws ++ [(q, .inl (cC, N, .inl (fun _ => 0)))]) H1 → va_D A (ws ++ [(q, .inl (cC, N, .inl (fun _ => 0)))]) → va_S A H0 H1 locs →
      W p l e R s m args below meth c H1 locs (cells + 1) (slots + N) Q (F0 m (pc + 2) ls (.ref q :: rest))) : W p l e R s m args below meth c H locs cells slots Q (F0 m pc ls (.int (nI N) :: rest)) := by
  refine va_newa (atype := .char) (a0 := (N, .inl (fun _ => 0))) S.1 S.2.1 (S.2.2.2.2 _ k_505) rfl hK hP hD hS hA (fun _ => rfl) (nI_pos (by omega)) (nI_clamp (by omega)) (by show N * 2 ≤ _; omega) hce hsl hdg (fun q cA H1 hK1 hP1 hD1 hS1 => ?_)
  have e1 := va_nm_char (hK1.2 2 _ rfl).2
  have e2 := va_nm_char (hK.2 1 _ rfl).2
  cases e1.symm.trans e2
  exact kk q H1 hP1 hD1 hS1
theorem q_obj (S : CallFix p m c cc nL s args tb own) (hls : ls.size = nL) (hl : Cond.methodLink own idx ⟨"java/lang/Object", "<init>", "()V"⟩ ∈ tb) (hf : 1 ≤ R.frames) (hlo : (rest.map fun v => v.category).sum + 12 ≤ R.locals) (hdg : decode cc pc = .ok (.invokespecial idx, 3))
    (kk : W p l e R s m args below meth c H locs cells slots Q (F0 m (pc + 3) ls rest)) : W p l e R s m args below meth c H locs cells slots Q (F0 m pc ls (.ref a :: rest)) :=
  W.objInit (g := F0 m pc ls (.ref a :: rest)) S.1 S.2.1 S.2.2.2.1 (S.2.2.2.2 _ hl) (S.2.2.2.2 _ k_20) (S.2.2.2.2 _ k_21) rfl (by rw [S.2.2.1]; exact hls) rfl hdg hf (by show 2 * 0 + _ + 12 ≤ _; omega) kk
theorem q_copy (S : CallFix p m c cc nL s args tb own) (hls : ls.size = nL) (hl : Cond.methodLink own idx ⟨"java/lang/System", "arraycopy", "(Ljava/lang/Object;ILjava/lang/Object;II)V"⟩ ∈ tb) (hK : va_K D classes [(cB, .byte), (cC, .char)] s) (hP : va_P D classes ws H) (hD : va_D A ws) (hS : va_S A s.heap H locs) {b0 n0 : Nat} {f : Nat → Int32} (hz : ar b0 n0 f A s s.heap) (q1 : Nat) {n1 : Nat} {g : Nat → Int32} (ha1 : ws[q1]? = some (a, .inl (cB, n1, .inl g)))
    {sp dp k : Nat} (h4 : sp + k ≤ n0) (h5 : dp + k ≤ n1) (hn1 : n1 < 2 ^ 30) (hf : 1 ≤ R.frames) (hlo : (rest.map fun v => v.category).sum + (nativeFrameWords "java/lang/System" "arraycopy" 5 + 11) ≤ R.locals) (hdg : decode cc pc = .ok (.invokestatic idx, 3))
    (kk : ∀ (H1 : Heap) (locs1 : List Loc), va_P D classes (ws.set q1 (a, .inl (cB, n1, .inl (va_cpy f g sp dp k)))) H1 → va_D A (ws.set q1 (a, .inl (cB, n1, .inl (va_cpy f g sp dp k)))) → va_S A s.heap H1 locs1 → W p l e R s m args below meth c H1 locs1 cells slots Q (F0 m (pc + 3) ls rest)) : W p l e R s m args below meth c H locs cells slots Q (F0 m pc ls (.int (nI k) :: .int (nI dp) :: .ref a :: .int (nI sp) :: .ref b0 :: rest)) := by
  have hn0 := hz.2.1
  have e1 : (nI sp).toNatClampNeg = sp := nI_clamp (by omega)
  have e2 : (nI dp).toNatClampNeg = dp := nI_clamp (by omega)
  have e3 : (nI k).toNatClampNeg = k := nI_clamp (by omega)
  refine vk_copyt (f := f) S.1 S.2.1 (by rw [S.2.2.1, hls]) S.2.2.2.1 (S.2.2.2.2 _ hl) (S.2.2.2.2 _ k_228) (S.2.2.2.2 _ k_227) (S.2.2.2.2 _ k_13) hK hP hD hS hz.1 q1 0 ha1 rfl (nI_pos (by omega)) (nI_pos (by omega)) (nI_pos (by omega)) (by rw [e1, e3]; exact h4) (by rw [e2, e3]; exact h5) (fun i hi => ?_) hf hlo hdg ?_
  · rw [e3] at hi
    rw [e1]
    exact hz.2.2 _ (by omega)
  · rw [e1, e2, e3]
    exact kk
end MAKE
end
section
set_option maxHeartbeats 4000000 in
set_option maxRecDepth 100000 in
/-- Arrays.copyOfRangeByte out of an array that stays -/
theorem c_ARR_corb (l : Launch) {D : va_G} {cB cC : ClassId} {sz : Nat} {v n i j : Nat} {f : Nat → Int32} (hij : i ≤ j) (hjn : j ≤ n) (hj8 : j < 2 ^ 28) : Ct l y_ARR_corb b_ARR_corb 5 (Option.some (FieldType.array FieldType.byte)) 1 1 (j - i) [.ref v, .int (nI i), .int (nI j)] (fun U => U.heap.size = sz ∧ en D cB cC (va_A ([] : va_W) sz) U U.heap ∧ va_P D classes ([] : va_W) U.heap ∧ va_D (fun _ => True) ([] : va_W) ∧ ar v n f (va_A ([] : va_W) sz) U U.heap) (va_Qr (fun _ : Unit => True) (fun _ q t => ∃ g, va_P D classes [(q, .inl (cB, j - i, .inl g))] t.heap ∧ va_D (va_A ([] : va_W) sz) [(q, .inl (cB, j - i, .inl g))] ∧ ∀ x, x < j - i → g x = f (i + x)) (va_A ([] : va_W) sz)) (va_A ([] : va_W) sz) := by
  refine ct_of (by decide) (Nat.le_of_ble_eq_true rfl) (fun _ _ _ _ h => h) ?_
  intro p e s m below meth c ls S hr hlk hnm hB hl
  have hl : lv_has ls 5 [(0, .ref v), (1, .int (nI i)), (2, .int (nI j))] := hl
  obtain ⟨hsz, hE, hP, hD0, hz⟩ := hB
  subst hsz
  have hD := hD0.self (sz := s.heap.size)
  generalize hAe : va_A ([] : va_W) s.heap.size = A at hD hE hz ⊢
  have hA : ∀ q : Nat, s.heap.size ≤ q → A q := fun q h => by rw [← hAe]; exact Or.inr h
  have hS : va_S A s.heap s.heap [] := va_S.rf
  have hK := hE.1
  have hP : va_P D classes ([] : va_W) s.heap := hP
  have hn := hz.2.1
  refine lv_iload_n S.1 S.2.1 d_ARR_corb_0 rfl (lv_at hl 1 rfl) ?_
  refine lv_iload_n S.1 S.2.1 d_ARR_corb_1 rfl (lv_at hl 2 rfl) ?_
  refine va_csv (va_Run.run (rn_S S sc_ARR_343 (As := [.int (nI i), .int (nI j)]) (rest := []) (c_ARR_checkLength l hij (by omega)) (fun U hU hW => trivial) (Nat.le_of_ble_eq_true rfl) (Nat.le_of_ble_eq_true rfl) (by dsimp only [rmd] <;> omega) (by dsimp only [rmd] <;> omega) rfl hl.1 rfl (Nat.le_of_ble_eq_true rfl) d_ARR_corb_2)) (fun _ => ?_)
  refine lv_iload_n S.1 S.2.1 d_ARR_corb_5 rfl (lv_at hl 2 rfl) ?_
  refine lv_iload_n S.1 S.2.1 d_ARR_corb_6 rfl (lv_at hl 1 rfl) ?_
  refine lv_isub S.1 S.2.1 d_ARR_corb_7 ?_
  refine q_top (x' := nI (j - i)) (pk_sub hij) ?_
  refine lv_istore_n (lv' := [(3, .int (nI (j - i))), (0, .ref v), (1, .int (nI i)), (2, .int (nI j))]) S.1 S.2.1 d_ARR_corb_8 rfl hl (by decide) rfl (fun ls hl => ?_)
  refine lv_iload_n S.1 S.2.1 d_ARR_corb_9 rfl (lv_at hl 0 rfl) ?_
  refine q_newB S hK hP hD hS hA (N := (j - i)) (by omega) (by dsimp only [rmd] <;> omega) (by dsimp only [rmd] <;> omega) d_ARR_corb_10 (fun q H hP hD hS => ?_)
  have hP : va_P D classes [(q, .inl (cB, (j - i), .inl (fun _ => 0)))] H := hP
  have hD : va_D A [(q, .inl (cB, (j - i), .inl (fun _ => 0)))] := hD
  refine lv_astore (lv' := [(4, .ref q), (3, .int (nI (j - i))), (0, .ref v), (1, .int (nI i)), (2, .int (nI j))]) S.1 S.2.1 d_ARR_corb_12 hl (by decide) rfl (fun ls hl => ?_)
  refine lv_aload_n S.1 S.2.1 d_ARR_corb_14 rfl (lv_at hl 2 rfl) ?_
  refine lv_iload_n S.1 S.2.1 d_ARR_corb_15 rfl (lv_at hl 3 rfl) ?_
  refine lv_aload S.1 S.2.1 d_ARR_corb_16 (lv_at hl 0 rfl) ?_
  refine lv_iconst (v := 0) S.1 S.2.1 d_ARR_corb_18 (by decide) ?_
  refine lv_aload_n S.1 S.2.1 d_ARR_corb_19 rfl (lv_at hl 2 rfl) ?_
  refine q_alen S hz hS d_ARR_corb_20 ?_
  refine lv_iload_n S.1 S.2.1 d_ARR_corb_21 rfl (lv_at hl 3 rfl) ?_
  refine lv_isub S.1 S.2.1 d_ARR_corb_22 ?_
  refine q_top (x' := nI (n - i)) (pk_sub (by omega)) ?_
  refine lv_iload_n S.1 S.2.1 d_ARR_corb_23 rfl (lv_at hl 1 rfl) ?_
  refine q_min S hl.1 k_223 (a := n - i) (b := j - i) (Nat.le_of_ble_eq_true rfl) (Nat.le_of_ble_eq_true rfl) (by dsimp only [rmd] <;> omega) (by dsimp only [rmd] <;> omega) (by omega) (by omega) d_ARR_corb_24 ?_
  refine q_top (x' := nI (j - i)) (by rw [Nat.min_eq_right (by omega)]) ?_
  refine q_copy S hl.1 k_226 hK hP hD hS hz 0 rfl (sp := i) (dp := 0) (k := (j - i)) (by omega) (by omega) (by omega) (Nat.le_of_ble_eq_true rfl) (Nat.le_of_ble_eq_true rfl) d_ARR_corb_27 (fun H locs hP hD hS => ?_)
  have hP : va_P D classes [(q, .inl (cB, (j - i), .inl (va_cpy f (fun _ => 0) i 0 (j - i))))] H := hP
  have hD : va_D A [(q, .inl (cB, (j - i), .inl (va_cpy f (fun _ => 0) i 0 (j - i))))] := hD
  refine lv_aload S.1 S.2.1 d_ARR_corb_30 (lv_at hl 0 rfl) ?_
  refine W.widen (k := 1) (n := (j - i)) (by omega) (by omega) ?_
  exact W.aret S.1 S.2.1 hr (Or.inr ⟨_, rfl⟩) (Or.inr ⟨_, rfl⟩) (fun t ht hW => ⟨⟨(), _, rfl, trivial, _, by rw [ht]; exact hP, hD, fun x hx => by rw [pk_cpy_in (by omega) (by omega)]; rfl⟩, hS.F ht⟩) hS.2.2 d_ARR_corb_32 hlk
set_option maxHeartbeats 4000000 in
set_option maxRecDepth 100000 in
/-- Arrays.copyOfRange out of an array that stays, not the whole -/
theorem c_ARR_cor (l : Launch) {D : va_G} {cB cC : ClassId} {sz : Nat} {v n i j : Nat} {f : Nat → Int32} (hij : i ≤ j) (hjn : j ≤ n) (hj8 : j < 2 ^ 28) (hnw : ¬ (i = 0 ∧ j = n)) : Ct l y_ARR_cor b_ARR_cor 3 (Option.some (FieldType.array FieldType.byte)) 2 1 (j - i) [.ref v, .int (nI i), .int (nI j)] (fun U => U.heap.size = sz ∧ en D cB cC (va_A ([] : va_W) sz) U U.heap ∧ va_P D classes ([] : va_W) U.heap ∧ va_D (fun _ => True) ([] : va_W) ∧ ar v n f (va_A ([] : va_W) sz) U U.heap) (va_Qr (fun _ : Unit => True) (fun _ q t => ∃ g, va_P D classes [(q, .inl (cB, j - i, .inl g))] t.heap ∧ va_D (va_A ([] : va_W) sz) [(q, .inl (cB, j - i, .inl g))] ∧ ∀ x, x < j - i → g x = f (i + x)) (va_A ([] : va_W) sz)) (va_A ([] : va_W) sz) := by
  refine ct_of (by decide) (Nat.le_of_ble_eq_true rfl) (fun _ _ _ _ h => h) ?_
  intro p e s m below meth c ls S hr hlk hnm hB hl
  have hl : lv_has ls 3 [(0, .ref v), (1, .int (nI i)), (2, .int (nI j))] := hl
  obtain ⟨hsz, hE, hP, hD0, hz⟩ := hB
  subst hsz
  have hD := hD0.self (sz := s.heap.size)
  generalize hAe : va_A ([] : va_W) s.heap.size = A at hD hE hz ⊢
  have hA : ∀ q : Nat, s.heap.size ≤ q → A q := fun q h => by rw [← hAe]; exact Or.inr h
  have hS : va_S A s.heap s.heap [] := va_S.rf
  have hK := hE.1
  have hP : va_P D classes ([] : va_W) s.heap := hP
  have hn := hz.2.1
  refine lv_iload_n S.1 S.2.1 d_ARR_cor_0 rfl (lv_at hl 1 rfl) ?_
  by_cases hi0 : i = 0
  ·
    refine lv_if_ne (tgt := 10) S.1 S.2.1 d_ARR_cor_1 (by decide) (fun c => absurd (by rw [hi0]; rfl) c) (fun _ => ?_)
    refine lv_iload_n S.1 S.2.1 d_ARR_cor_4 rfl (lv_at hl 2 rfl) ?_
    refine lv_aload_n S.1 S.2.1 d_ARR_cor_5 rfl (lv_at hl 0 rfl) ?_
    refine q_alen S hz hS d_ARR_cor_6 ?_
    refine lv_icmp_eq (tgt := 17) S.1 S.2.1 d_ARR_cor_7 (by decide) (fun c => absurd c (fun h => hnw ⟨hi0, (nI_eq (by omega) (by omega)).mp h⟩)) (fun _ => ?_)
    refine lv_aload_n S.1 S.2.1 d_ARR_cor_10 rfl (lv_at hl 0 rfl) ?_
    refine lv_iload_n S.1 S.2.1 d_ARR_cor_11 rfl (lv_at hl 1 rfl) ?_
    refine lv_iload_n S.1 S.2.1 d_ARR_cor_12 rfl (lv_at hl 2 rfl) ?_
    have hPc := hP.sub (ws' := []) [] rfl
    have hDc := hD.sub (ws' := []) [] (by decide) rfl
    have hFc := va_free (wc := []) hD hS hA [] rfl
    refine va_callr (rn_S S sc_ARR_339 (As := [.ref v, .int (nI i), .int (nI j)]) (rest := []) (c_ARR_corb l hij hjn hj8 (f := f) (n := n)) (fun U hU hW => ⟨by rw [hU], hE.to hS.2.1 hU hW hFc, by rw [hU]; exact hPc, hDc.weaken (fun _ _ _ _ => trivial), hz.to hS.2.1 hU hW.alike hFc⟩) (Nat.le_of_ble_eq_true rfl) (Nat.le_of_ble_eq_true rfl) (by dsimp only [rmd] <;> omega) (by dsimp only [rmd] <;> omega) rfl hl.1 rfl (Nat.le_of_ble_eq_true rfl) d_ARR_cor_13) hS (fun q _ h => hFc q h) hFc (fun _ q t_ H_1 locs ht_2 hv_5 _ hB hz_4 hk_3 hS => ?_)
    obtain ⟨g, hP1, hD1, hg⟩ := hB
    rw [ht_2] at hP1
    obtain ⟨hP, hD⟩ := va_join (wr := []) (w1 := [(q, .inl (cB, j - i, .inl g))]) hP hD [] [] rfl rfl (by decide) (by decide) hk_3 hFc hP1 hD1
    have hP : va_P D classes [(q, .inl (cB, j - i, .inl g))] H_1 := hP
    have hD : va_D A [(q, .inl (cB, j - i, .inl g))] := hD
    refine W.widen (k := 1) (n := (j - i)) (by omega) (by omega) ?_
    exact W.aret S.1 S.2.1 hr (Or.inr ⟨_, rfl⟩) (Or.inr ⟨_, rfl⟩) (fun t ht hW => ⟨⟨(), _, rfl, trivial, g, by rw [ht]; exact hP, hD, hg⟩, hS.F ht⟩) hS.2.2 d_ARR_cor_16 hlk
  ·
    refine lv_if_ne (tgt := 10) S.1 S.2.1 d_ARR_cor_1 (by decide) (fun _ => ?_) (fun c => absurd c (nI_ne0 (by omega) (by omega)))
    refine lv_aload_n S.1 S.2.1 d_ARR_cor_10 rfl (lv_at hl 0 rfl) ?_
    refine lv_iload_n S.1 S.2.1 d_ARR_cor_11 rfl (lv_at hl 1 rfl) ?_
    refine lv_iload_n S.1 S.2.1 d_ARR_cor_12 rfl (lv_at hl 2 rfl) ?_
    have hPc := hP.sub (ws' := []) [] rfl
    have hDc := hD.sub (ws' := []) [] (by decide) rfl
    have hFc := va_free (wc := []) hD hS hA [] rfl
    refine va_callr (rn_S S sc_ARR_339 (As := [.ref v, .int (nI i), .int (nI j)]) (rest := []) (c_ARR_corb l hij hjn hj8 (f := f) (n := n)) (fun U hU hW => ⟨by rw [hU], hE.to hS.2.1 hU hW hFc, by rw [hU]; exact hPc, hDc.weaken (fun _ _ _ _ => trivial), hz.to hS.2.1 hU hW.alike hFc⟩) (Nat.le_of_ble_eq_true rfl) (Nat.le_of_ble_eq_true rfl) (by dsimp only [rmd] <;> omega) (by dsimp only [rmd] <;> omega) rfl hl.1 rfl (Nat.le_of_ble_eq_true rfl) d_ARR_cor_13) hS (fun q _ h => hFc q h) hFc (fun _ q t_ H_6 locs ht_7 hv_10 _ hB hz_9 hk_8 hS => ?_)
    obtain ⟨g, hP1, hD1, hg⟩ := hB
    rw [ht_7] at hP1
    obtain ⟨hP, hD⟩ := va_join (wr := []) (w1 := [(q, .inl (cB, j - i, .inl g))]) hP hD [] [] rfl rfl (by decide) (by decide) hk_8 hFc hP1 hD1
    have hP : va_P D classes [(q, .inl (cB, j - i, .inl g))] H_6 := hP
    have hD : va_D A [(q, .inl (cB, j - i, .inl g))] := hD
    refine W.widen (k := 1) (n := (j - i)) (by omega) (by omega) ?_
    exact W.aret S.1 S.2.1 hr (Or.inr ⟨_, rfl⟩) (Or.inr ⟨_, rfl⟩) (fun t ht hW => ⟨⟨(), _, rfl, trivial, g, by rw [ht]; exact hP, hD, hg⟩, hS.F ht⟩) hS.2.2 d_ARR_cor_16 hlk
set_option maxHeartbeats 4000000 in
set_option maxRecDepth 100000 in
/-- Arrays.copyOfRange from 0 on, of an array of the world -/
theorem c_ARR_corW (l : Launch) {D : va_G} {cB cC : ClassId} {sz : Nat} {v n j : Nat} {f : Nat → Int32} (hjn : j ≤ n) (hn : n < 2 ^ 28) (hf : ∀ x, x < n → fits .byte (.int (f x)) = true) : Ct l y_ARR_cor b_ARR_cor 3 (Option.some (FieldType.array FieldType.byte)) 2 1 j [.ref v, .int 0, .int (nI j)] (fun U => U.heap.size = sz ∧ en D cB cC (va_A [(v, .inl (cB, n, .inl f))] sz) U U.heap ∧ va_P D classes [(v, .inl (cB, n, .inl f))] U.heap ∧ va_D (fun _ => True) [(v, .inl (cB, n, .inl f))]) (va_Qr (fun _ : Unit => True) (fun _ q t => ∃ g, va_P D classes [(v, .inl (cB, n, .inl f)), (q, .inl (cB, j, .inl g))] t.heap ∧ va_D (va_A [(v, .inl (cB, n, .inl f))] sz) [(v, .inl (cB, n, .inl f)), (q, .inl (cB, j, .inl g))] ∧ ∀ x, x < j → g x = f x) (va_A [(v, .inl (cB, n, .inl f))] sz)) (va_A [(v, .inl (cB, n, .inl f))] sz) := by
  refine ct_of (by decide) (Nat.le_of_ble_eq_true rfl) (fun _ _ _ _ h => h) ?_
  intro p e s m below meth c ls S hr hlk hnm hB hl
  have hl : lv_has ls 3 [(0, .ref v), (1, .int 0), (2, .int (nI j))] := hl
  obtain ⟨hsz, hE, hP, hD0⟩ := hB
  subst hsz
  have hD := hD0.self (sz := s.heap.size)
  generalize hAe : va_A [(v, .inl (cB, n, .inl f))] s.heap.size = A at hD hE ⊢
  have hA : ∀ q : Nat, s.heap.size ≤ q → A q := fun q h => by rw [← hAe]; exact Or.inr h
  have hS : va_S A s.heap s.heap [] := va_S.rf
  have hK := hE.1
  have hP : va_P D classes [(v, .inl (cB, n, .inl f))] s.heap := hP
  refine lv_iload_n S.1 S.2.1 d_ARR_cor_0 rfl (lv_at hl 1 rfl) ?_
  refine lv_if_ne (tgt := 10) S.1 S.2.1 d_ARR_cor_1 (by decide) (fun c => absurd (rfl) c) (fun _ => ?_)
  refine lv_iload_n S.1 S.2.1 d_ARR_cor_4 rfl (lv_at hl 2 rfl) ?_
  refine lv_aload_n S.1 S.2.1 d_ARR_cor_5 rfl (lv_at hl 0 rfl) ?_
  refine va_alen S.1 S.2.1 hK hP 0 0 rfl rfl (show _ = nI n from rfl) d_ARR_cor_6 ?_
  refine lv_icmp_eq (tgt := 17) S.1 S.2.1 d_ARR_cor_7 (by decide) (fun cc => ?_) (fun cc => ?_)
  ·
    have hjn2 : j = n := (nI_eq (by omega) (by omega)).mp cc
    subst hjn2
    refine lv_aload_n S.1 S.2.1 d_ARR_cor_17 rfl (lv_at hl 0 rfl) ?_
    refine va_clone S.1 S.2.1 (by rw [S.2.2.1]; exact hl.1.symm) (ad := "[B") S.2.2.2.1 (S.2.2.2.2 _ k_216) (S.2.2.2.2 _ k_217) (S.2.2.2.2 _ k_218) (S.2.2.2.2 _ k_219) (S.2.2.2.2 _ k_220) hE.2.2.2 hK hP hD hS hA 0 0 rfl rfl (va_nm_byte (hK.2 0 _ rfl).2) (va_fit (fun i hi => hf i hi)) (Nat.le_of_ble_eq_true rfl) (Nat.le_of_ble_eq_true rfl) (by dsimp only [rmd] <;> omega) (by dsimp only [rmd] <;> omega) d_ARR_cor_18 (fun q H _ hP hD hS => ?_)
    have hP : va_P D classes [(v, .inl (cB, j, .inl f)), (q, .inl (cB, j, .inl f))] H := hP
    have hD : va_D A [(v, .inl (cB, j, .inl f)), (q, .inl (cB, j, .inl f))] := hD
    refine va_castA S.1 S.2.1 S.2.2.2.1 (S.2.2.2.2 _ k_222) hP 1 rfl (va_nm_byte (hK.2 0 _ rfl).2) d_ARR_cor_21 ?_
    refine W.widen (k := 1) (n := j) (by omega) (by show 0 + j ≤ j; omega) ?_
    exact W.aret S.1 S.2.1 hr (Or.inr ⟨_, rfl⟩) (Or.inr ⟨_, rfl⟩) (fun t ht hW => ⟨⟨(), _, rfl, trivial, f, by rw [ht]; exact hP, hD, fun x hx => rfl⟩, hS.F ht⟩) hS.2.2 d_ARR_cor_24 hlk
  ·
    have hne : ¬ j = n := fun h => cc (by rw [h])
    refine lv_aload_n S.1 S.2.1 d_ARR_cor_10 rfl (lv_at hl 0 rfl) ?_
    refine lv_iload_n S.1 S.2.1 d_ARR_cor_11 rfl (lv_at hl 1 rfl) ?_
    refine lv_iload_n S.1 S.2.1 d_ARR_cor_12 rfl (lv_at hl 2 rfl) ?_
    have hz := ar_of (A := va_A ([] : va_W) s.heap.size) (k := 0) hK hP rfl (na_nil (hP 0 _ rfl).lt) (by omega) hf
    have hPc := hP.sub (ws' := []) [] rfl
    have hDc := hD.sub (ws' := []) [] (by decide) rfl
    have hFc := va_free (wc := []) hD hS hA [] rfl
    refine va_callr (rn_S S sc_ARR_339 (As := [.ref v, .int 0, .int (nI j)]) (rest := []) (c_ARR_corb l (i := 0) (Nat.zero_le j) hjn (by omega) (f := f) (n := n)) (fun U hU hW => ⟨by rw [hU], hE.to hS.2.1 hU hW hFc, by rw [hU]; exact hPc, hDc.weaken (fun _ _ _ _ => trivial), hz.to (fun _ _ _ => rfl) hU hW.alike (fun _ h => h)⟩) (Nat.le_of_ble_eq_true rfl) (Nat.le_of_ble_eq_true rfl) (by dsimp only [rmd] <;> omega) (by dsimp only [rmd] <;> omega) rfl hl.1 rfl (Nat.le_of_ble_eq_true rfl) d_ARR_cor_13) hS (fun q _ h => hFc q h) hFc (fun _ q t_ H_11 locs ht_12 hv_15 _ hB hz_14 hk_13 hS => ?_)
    obtain ⟨g, hP1, hD1, hg⟩ := hB
    rw [ht_12] at hP1
    obtain ⟨hP, hD⟩ := va_join (wr := [(v, .inl (cB, n, .inl f))]) (w1 := [(q, .inl (cB, j - 0, .inl g))]) hP hD [] [0] rfl rfl (by decide) (by decide) hk_13 hFc hP1 hD1
    have hP : va_P D classes [(v, .inl (cB, n, .inl f)), (q, .inl (cB, j - 0, .inl g))] H_11 := hP
    have hD : va_D A [(v, .inl (cB, n, .inl f)), (q, .inl (cB, j - 0, .inl g))] := hD
    refine W.widen (k := 1) (n := j) (by omega) (by omega) ?_
    exact W.aret S.1 S.2.1 hr (Or.inr ⟨_, rfl⟩) (Or.inr ⟨_, rfl⟩) (fun t ht hW => ⟨⟨(), _, rfl, trivial, g, by rw [ht]; exact hP, hD, fun x hx => by rw [hg x hx, Nat.zero_add]⟩, hS.F ht⟩) hS.2.2 d_ARR_cor_16 hlk
set_option maxHeartbeats 4000000 in
set_option maxRecDepth 100000 in
/-- Arrays.copyOf to a longer array -/
theorem c_ARR_copyOf (l : Launch) {D : va_G} {cB cC : ClassId} {sz : Nat} {v n j : Nat} {f : Nat → Int32} (hnj : n < j) (hj8 : j < 2 ^ 28) : Ct l y_ARR_copyOf b_ARR_copyOf 3 (Option.some (FieldType.array FieldType.byte)) 1 1 j [.ref v, .int (nI j)] (fun U => U.heap.size = sz ∧ en D cB cC (va_A ([] : va_W) sz) U U.heap ∧ va_P D classes ([] : va_W) U.heap ∧ va_D (fun _ => True) ([] : va_W) ∧ ar v n f (va_A ([] : va_W) sz) U U.heap) (va_Qr (fun _ : Unit => True) (fun _ q t => ∃ g, va_P D classes [(q, .inl (cB, j, .inl g))] t.heap ∧ va_D (va_A ([] : va_W) sz) [(q, .inl (cB, j, .inl g))] ∧ (∀ x, x < n → g x = f x) ∧ ∀ x, n ≤ x → g x = 0) (va_A ([] : va_W) sz)) (va_A ([] : va_W) sz) := by
  refine ct_of (by decide) (Nat.le_of_ble_eq_true rfl) (fun _ _ _ _ h => h) ?_
  intro p e s m below meth c ls S hr hlk hnm hB hl
  have hl : lv_has ls 3 [(0, .ref v), (1, .int (nI j))] := hl
  obtain ⟨hsz, hE, hP, hD0, hz⟩ := hB
  subst hsz
  have hD := hD0.self (sz := s.heap.size)
  generalize hAe : va_A ([] : va_W) s.heap.size = A at hD hE hz ⊢
  have hA : ∀ q : Nat, s.heap.size ≤ q → A q := fun q h => by rw [← hAe]; exact Or.inr h
  have hS : va_S A s.heap s.heap [] := va_S.rf
  have hK := hE.1
  have hP : va_P D classes ([] : va_W) s.heap := hP
  have hn := hz.2.1
  refine lv_iload_n S.1 S.2.1 d_ARR_copyOf_0 rfl (lv_at hl 1 rfl) ?_
  refine lv_aload_n S.1 S.2.1 d_ARR_copyOf_1 rfl (lv_at hl 0 rfl) ?_
  refine q_alen S hz hS d_ARR_copyOf_2 ?_
  refine lv_icmp_ne (tgt := 14) S.1 S.2.1 d_ARR_copyOf_3 (by decide) (fun _ => ?_) (fun c => absurd c (fun h => absurd ((nI_eq (by omega) (by omega)).mp h) (by omega)))
  refine lv_iload_n S.1 S.2.1 d_ARR_copyOf_14 rfl (lv_at hl 1 rfl) ?_
  refine q_newB S hK hP hD hS hA (N := j) (by omega) (by dsimp only [rmd] <;> omega) (by dsimp only [rmd] <;> omega) d_ARR_copyOf_15 (fun q H hP hD hS => ?_)
  have hP : va_P D classes [(q, .inl (cB, j, .inl (fun _ => 0)))] H := hP
  have hD : va_D A [(q, .inl (cB, j, .inl (fun _ => 0)))] := hD
  refine lv_astore_n (lv' := [(2, .ref q), (0, .ref v), (1, .int (nI j))]) S.1 S.2.1 d_ARR_copyOf_17 rfl hl (by decide) rfl (fun ls hl => ?_)
  refine lv_aload_n S.1 S.2.1 d_ARR_copyOf_18 rfl (lv_at hl 1 rfl) ?_
  refine lv_iconst (v := 0) S.1 S.2.1 d_ARR_copyOf_19 (by decide) ?_
  refine lv_aload_n S.1 S.2.1 d_ARR_copyOf_20 rfl (lv_at hl 0 rfl) ?_
  refine lv_iconst (v := 0) S.1 S.2.1 d_ARR_copyOf_21 (by decide) ?_
  refine lv_aload_n S.1 S.2.1 d_ARR_copyOf_22 rfl (lv_at hl 1 rfl) ?_
  refine q_alen S hz hS d_ARR_copyOf_23 ?_
  refine lv_iload_n S.1 S.2.1 d_ARR_copyOf_24 rfl (lv_at hl 2 rfl) ?_
  refine q_min S hl.1 k_223 (a := n) (b := j) (Nat.le_of_ble_eq_true rfl) (Nat.le_of_ble_eq_true rfl) (by dsimp only [rmd] <;> omega) (by dsimp only [rmd] <;> omega) (by omega) (by omega) d_ARR_copyOf_25 ?_
  refine q_top (x' := nI n) (by rw [Nat.min_eq_left (by omega)]) ?_
  refine q_copy S hl.1 k_226 hK hP hD hS hz 0 rfl (sp := 0) (dp := 0) (k := n) (by omega) (by omega) (by omega) (Nat.le_of_ble_eq_true rfl) (Nat.le_of_ble_eq_true rfl) d_ARR_copyOf_28 (fun H locs hP hD hS => ?_)
  have hP : va_P D classes [(q, .inl (cB, j, .inl (va_cpy f (fun _ => 0) 0 0 n)))] H := hP
  have hD : va_D A [(q, .inl (cB, j, .inl (va_cpy f (fun _ => 0) 0 0 n)))] := hD
  refine lv_aload_n S.1 S.2.1 d_ARR_copyOf_31 rfl (lv_at hl 0 rfl) ?_
  refine W.widen (k := 1) (n := j) (by omega) (by omega) ?_
  exact W.aret S.1 S.2.1 hr (Or.inr ⟨_, rfl⟩) (Or.inr ⟨_, rfl⟩) (fun t ht hW => ⟨⟨(), _, rfl, trivial, _, by rw [ht]; exact hP, hD, ⟨fun x hx => by rw [pk_cpy_in (by omega) (by omega)]; simp, fun x hx => by rw [pk_cpy_out (by omega)]⟩⟩, hS.F ht⟩) hS.2.2 d_ARR_copyOf_32 hlk
set_option maxHeartbeats 4000000 in
set_option maxRecDepth 100000 in
/-- String.<init>(byte[], byte) -/
theorem c_STR_initBB (l : Launch) {D : va_G} {cB cC : ClassId} {sz : Nat} {h v : Nat} : Ct l y_STR_initBB b_STR_initBB 3 (Option.none : Option FieldType) 1 0 0 [.ref h, .ref v, .int 0] (fun U => U.heap.size = sz ∧ en D cB cC (va_A [(h, .inr (3, [.null, .int 0, .int 0, .int 0]))] sz) U U.heap ∧ va_P D classes [(h, .inr (3, [.null, .int 0, .int 0, .int 0]))] U.heap ∧ va_D (fun _ => True) [(h, .inr (3, [.null, .int 0, .int 0, .int 0]))]) (va_Qv (fun _ : Unit => True) (fun _ t => va_P D classes [(h, .inr (3, [.ref v, .int 0, .int 0, .int 0]))] t.heap ∧ va_D (va_A [(h, .inr (3, [.null, .int 0, .int 0, .int 0]))] sz) [(h, .inr (3, [.ref v, .int 0, .int 0, .int 0]))]) (va_A [(h, .inr (3, [.null, .int 0, .int 0, .int 0]))] sz)) (va_A [(h, .inr (3, [.null, .int 0, .int 0, .int 0]))] sz) := by
  refine ct_of (by decide) (Nat.le_of_ble_eq_true rfl) (fun _ _ _ _ h => h) ?_
  intro p e s m below meth c ls S hr hlk hnm hB hl
  have hl : lv_has ls 3 [(0, .ref h), (1, .ref v), (2, .int 0)] := hl
  obtain ⟨hsz, hE, hP, hD0⟩ := hB
  subst hsz
  have hD := hD0.self (sz := s.heap.size)
  generalize hAe : va_A [(h, .inr (3, [.null, .int 0, .int 0, .int 0]))] s.heap.size = A at hD hE ⊢
  have hA : ∀ q : Nat, s.heap.size ≤ q → A q := fun q h => by rw [← hAe]; exact Or.inr h
  have hS : va_S A s.heap s.heap [] := va_S.rf
  have hK := hE.1
  have hP : va_P D classes [(h, .inr (3, [.null, .int 0, .int 0, .int 0]))] s.heap := hP
  have hin : meth.name = "<init>" := hnm
  refine lv_aload_n S.1 S.2.1 d_STR_initBB_0 rfl (lv_at hl 0 rfl) ?_
  refine q_obj S hl.1 k_302 (Nat.le_of_ble_eq_true rfl) (Nat.le_of_ble_eq_true rfl) d_STR_initBB_1 ?_
  refine lv_aload_n S.1 S.2.1 d_STR_initBB_4 rfl (lv_at hl 0 rfl) ?_
  refine lv_aload_n S.1 S.2.1 d_STR_initBB_5 rfl (lv_at hl 1 rfl) ?_
  refine q_putF S hin hK hP hD hS 0 rfl fs_STR_9 (v := .ref v) rfl rfl (Nat.le_of_ble_eq_true rfl) d_STR_initBB_6 (fun H locs hP hD hS => ?_)
  have hP : va_P D classes [(h, .inr (3, [.ref v, .int 0, .int 0, .int 0]))] H := hP
  have hD : va_D A [(h, .inr (3, [.ref v, .int 0, .int 0, .int 0]))] := hD
  refine lv_aload_n S.1 S.2.1 d_STR_initBB_9 rfl (lv_at hl 0 rfl) ?_
  refine lv_iload_n S.1 S.2.1 d_STR_initBB_10 rfl (lv_at hl 2 rfl) ?_
  refine q_putF S hin hK hP hD hS 0 rfl fs_STR_15 (v := .int 0) rfl rfl (Nat.le_of_ble_eq_true rfl) d_STR_initBB_11 (fun H locs hP hD hS => ?_)
  have hP : va_P D classes [(h, .inr (3, [.ref v, .int 0, .int 0, .int 0]))] H := hP
  have hD : va_D A [(h, .inr (3, [.ref v, .int 0, .int 0, .int 0]))] := hD
  refine W.widen (k := 0) (n := 0) (by omega) (by omega) ?_
  exact W.vret S.1 S.2.1 hr (fun t ht hW => ⟨⟨(), rfl, trivial, by rw [ht]; exact hP, hD⟩, hS.F ht⟩) hS.2.2 d_STR_initBB_14 hlk
set_option maxHeartbeats 4000000 in
set_option maxRecDepth 100000 in
/-- StringLatin1.newString: a new text -/
theorem c_L1_newString (l : Launch) {D : va_G} {cB cC : ClassId} {sz : Nat} {v n i k : Nat} {t : Nat → Nat} (hk0 : 0 < k) (hik : i + k ≤ n) (h8k : i + k < 2 ^ 28) (hnw : ¬ (i = 0 ∧ k = n)) (h8 : ∀ j, j < n → t j < 128) : Ct l y_L1_newString b_L1_newString 3 (Option.some (FieldType.object "java/lang/String")) 3 2 (4 + k) [.ref v, .int (nI i), .int (nI k)] (fun U => U.heap.size = sz ∧ en D cB cC (va_A ([] : va_W) sz) U U.heap ∧ va_P D classes ([] : va_W) U.heap ∧ va_D (fun _ => True) ([] : va_W) ∧ ar v n (fun j => nI (t j)) (va_A ([] : va_W) sz) U U.heap) (va_Qr (fun _ : Unit => True) (fun _ q u => zs q k (fun j => t (i + j)) (fun x => x < sz) u u.heap) (va_A ([] : va_W) sz)) (va_A ([] : va_W) sz) := by
  refine ct_of (by decide) (Nat.le_of_ble_eq_true rfl) (fun _ _ _ _ h => h) ?_
  intro p e s m below meth c ls S hr hlk hnm hB hl
  have hl : lv_has ls 3 [(0, .ref v), (1, .int (nI i)), (2, .int (nI k))] := hl
  obtain ⟨hsz, hE, hP, hD0, hz⟩ := hB
  subst hsz
  have hD := hD0.self (sz := s.heap.size)
  generalize hAe : va_A ([] : va_W) s.heap.size = A at hD hE hz ⊢
  have hA : ∀ q : Nat, s.heap.size ≤ q → A q := fun q h => by rw [← hAe]; exact Or.inr h
  have hS : va_S A s.heap s.heap [] := va_S.rf
  have hK := hE.1
  have hP : va_P D classes ([] : va_W) s.heap := hP
  have hn := hz.2.1
  refine lv_iload_n S.1 S.2.1 d_L1_newString_0 rfl (lv_at hl 2 rfl) ?_
  refine lv_if_ne (tgt := 7) S.1 S.2.1 d_L1_newString_1 (by decide) (fun _ => ?_) (fun c => absurd c (nI_ne0 hk0 (by omega)))
  refine va_new (ci := 3) (fs := [.null, .int 0, .int 0, .int 0]) (C := R_STR) (T := F_STR) (N := 4) S.1 S.2.1 S.2.2.2.2 i_STR t_STR t_STR_ok S.2.2.2.1 (S.2.2.2.2 _ k_446) (S.2.2.2.2 _ k_295) (S.2.2.2.2 _ k_4) hK hP hD hS hA rfl (fun j hj => by rcases (show j = 0 ∨ j = 1 ∨ j = 2 ∨ j = 3 by omega) with rfl | rfl | rfl | rfl <;> rfl) (by dsimp only [rmd] <;> omega) (by dsimp only [rmd] <;> omega) d_L1_newString_7 (fun h H hP hD hS => ?_)
  have hP : va_P D classes [(h, .inr (3, [.null, .int 0, .int 0, .int 0]))] H := hP
  have hD : va_D A [(h, .inr (3, [.null, .int 0, .int 0, .int 0]))] := hD
  refine lv_dup S.1 S.2.1 d_L1_newString_10 rfl ?_
  refine lv_aload_n S.1 S.2.1 d_L1_newString_11 rfl (lv_at hl 0 rfl) ?_
  refine lv_iload_n S.1 S.2.1 d_L1_newString_12 rfl (lv_at hl 1 rfl) ?_
  refine lv_iload_n S.1 S.2.1 d_L1_newString_13 rfl (lv_at hl 1 rfl) ?_
  refine lv_iload_n S.1 S.2.1 d_L1_newString_14 rfl (lv_at hl 2 rfl) ?_
  refine lv_iadd S.1 S.2.1 d_L1_newString_15 ?_
  refine q_top (x' := nI (i + k)) (nI_add _ _) ?_
  have hPc := hP.sub (ws' := []) [] rfl
  have hDc := hD.sub (ws' := []) [] (by decide) rfl
  have hFc := va_free (wc := []) hD hS hA [] rfl
  refine va_callr (rn_S S sc_L1_232 (As := [.ref v, .int (nI i), .int (nI (i + k))]) (rest := [.ref h, .ref h]) (c_ARR_cor l (i := i) (j := i + k) (by omega) hik h8k (by omega) (f := fun j => nI (t j)) (n := n)) (fun U hU hW => ⟨by rw [hU], hE.to hS.2.1 hU hW hFc, by rw [hU]; exact hPc, hDc.weaken (fun _ _ _ _ => trivial), hz.to hS.2.1 hU hW.alike hFc⟩) (Nat.le_of_ble_eq_true rfl) (Nat.le_of_ble_eq_true rfl) (by dsimp only [rmd] <;> omega) (by dsimp only [rmd] <;> omega) rfl hl.1 rfl (Nat.le_of_ble_eq_true rfl) d_L1_newString_16) hS (fun q _ h => hFc q h) hFc (fun _ q t_ H_16 locs ht_17 hv_20 _ hB hz_19 hk_18 hS => ?_)
  obtain ⟨g, hP1, hD1, hg⟩ := hB
  rw [ht_17] at hP1
  obtain ⟨hP, hD⟩ := va_join (wr := [(h, .inr (3, [.null, .int 0, .int 0, .int 0]))]) (w1 := [(q, .inl (cB, i + k - i, .inl g))]) hP hD [] [0] rfl rfl (by decide) (by decide) hk_18 hFc hP1 hD1
  have hP : va_P D classes [(h, .inr (3, [.null, .int 0, .int 0, .int 0])), (q, .inl (cB, i + k - i, .inl g))] H_16 := hP
  have hD : va_D A [(h, .inr (3, [.null, .int 0, .int 0, .int 0])), (q, .inl (cB, i + k - i, .inl g))] := hD
  refine lv_iconst (v := 0) S.1 S.2.1 d_L1_newString_19 (by decide) ?_
  have hPc := hP.sub (ws' := [(h, .inr (3, [.null, .int 0, .int 0, .int 0]))]) [0] rfl
  have hDc := hD.sub (ws' := [(h, .inr (3, [.null, .int 0, .int 0, .int 0]))]) [0] (by decide) rfl
  have hFc := va_free (wc := [(h, .inr (3, [.null, .int 0, .int 0, .int 0]))]) hD hS hA [0] rfl
  refine va_callv (rn_I S sc_L1_112 (As := [.ref q, .int 0]) (rest := [.ref h]) (c_STR_initBB l) (fun U hU hW => ⟨by rw [hU], hE.to hS.2.1 hU hW hFc, by rw [hU]; exact hPc, hDc.weaken (fun _ _ _ _ => trivial)⟩) (Nat.le_of_ble_eq_true rfl) (Nat.le_of_ble_eq_true rfl) (by dsimp only [rmd] <;> omega) (by dsimp only [rmd] <;> omega) rfl hl.1 rfl (Nat.le_of_ble_eq_true rfl) d_L1_newString_20) hS (fun q _ h => hFc q h) hFc (fun _ t_ H_21 locs ht_22 hv_25 _ hB hz_24 hk_23 hS => ?_)
  obtain ⟨hP1, hD1⟩ := hB
  rw [ht_22] at hP1
  obtain ⟨hP, hD⟩ := va_join (wr := [(q, .inl (cB, i + k - i, .inl g))]) (w1 := [(h, .inr (3, [.ref q, .int 0, .int 0, .int 0]))]) hP hD [0] [1] rfl rfl (by decide) (by decide) hk_23 hFc hP1 hD1
  have hP : va_P D classes [(q, .inl (cB, i + k - i, .inl g)), (h, .inr (3, [.ref q, .int 0, .int 0, .int 0]))] H_21 := hP
  have hD : va_D A [(q, .inl (cB, i + k - i, .inl g)), (h, .inr (3, [.ref q, .int 0, .int 0, .int 0]))] := hD
  have hsz1 : ∀ x : Nat, A x → ¬ x < s.heap.size := fun x hx hlt => by rw [← hAe] at hx; exact na_nil hlt hx
  have hzz := zs_of (A := fun x => x < s.heap.size) (t := fun j => t (i + j)) (k1 := 1) (k2 := 0) S.2.2.2.2 hK hP rfl rfl (hsz1 _ (hD.2 1 _ rfl)) (hsz1 _ (hD.2 0 _ rfl)) (by omega) (fun j hj => hg j hj) (fun j hj => h8 _ (by omega))
  rw [show i + k - i = k by omega] at hzz
  refine W.widen (k := 2) (n := (4 + k)) (by omega) (by omega) ?_
  exact W.aret S.1 S.2.1 hr (Or.inl ⟨_, rfl⟩) (Or.inr ⟨_, rfl⟩) (fun t ht hW => ⟨⟨(), _, rfl, trivial, hzz.to (fun _ _ _ => rfl) ht hW.alike (fun _ h => h)⟩, hS.F ht⟩) hS.2.2 d_L1_newString_23 hlk
set_option maxHeartbeats 4000000 in
set_option maxRecDepth 100000 in
/-- String.substring of at least one sign -/
theorem c_STR_substring (l : Launch) {D : va_G} {cB cC : ClassId} {sz : Nat} {a v n i j : Nat} {t : Nat → Nat} (hij : i < j) (hjn : j ≤ n) (h8n : n < 2 ^ 28) : Ct l y_STR_substring b_STR_substring 5 (Option.some (FieldType.object "java/lang/String")) 4 2 (4 + (j - i)) [.ref a, .int (nI i), .int (nI j)] (fun U => U.heap.size = sz ∧ en D cB cC (va_A ([] : va_W) sz) U U.heap ∧ va_P D classes ([] : va_W) U.heap ∧ va_D (fun _ => True) ([] : va_W) ∧ zsv a v n t (va_A ([] : va_W) sz) U U.heap) (va_Qr (fun _ : Unit => True) (fun _ q u => zs q (j - i) (fun x => t (i + x)) nF u u.heap) (va_A ([] : va_W) sz)) (va_A ([] : va_W) sz) := by
  refine ct_of (by decide) (Nat.le_of_ble_eq_true rfl) (fun _ _ _ _ h => h) ?_
  intro p e s m below meth c ls S hr hlk hnm hB hl
  have hl : lv_has ls 5 [(0, .ref a), (1, .int (nI i)), (2, .int (nI j))] := hl
  obtain ⟨hsz, hE, hP, hD0, hz⟩ := hB
  subst hsz
  have hD := hD0.self (sz := s.heap.size)
  generalize hAe : va_A ([] : va_W) s.heap.size = A at hD hE hz ⊢
  have hA : ∀ q : Nat, s.heap.size ≤ q → A q := fun q h => by rw [← hAe]; exact Or.inr h
  have hS : va_S A s.heap s.heap [] := va_S.rf
  have hK := hE.1
  have hP : va_P D classes ([] : va_W) s.heap := hP
  have hn := hz.2.1.2.1
  refine lv_aload_n S.1 S.2.1 d_STR_substring_0 rfl (lv_at hl 0 rfl) ?_
  refine vp_callSi (va_Run.run (rn_V S sc_STR_505 (As := []) (rest := []) (c_STR_length l) (hz.recv) (fun U hU hW => ⟨hE.to hS.2.1 hU hW (fun _ h => h.elim), hz.to hS.2.1 hU hW.alike (fun _ h => h.elim)⟩) (Nat.le_of_ble_eq_true rfl) (Nat.le_of_ble_eq_true rfl) (by dsimp only [rmd] <;> omega) (by dsimp only [rmd] <;> omega) rfl hl.1 rfl (Nat.le_of_ble_eq_true rfl) d_STR_substring_1)) (fun r0 h0 => ?_)
  subst h0
  refine lv_istore_n (lv' := [(3, .int (nI n)), (0, .ref a), (1, .int (nI i)), (2, .int (nI j))]) S.1 S.2.1 d_STR_substring_4 rfl hl (by decide) rfl (fun ls hl => ?_)
  refine lv_iload_n S.1 S.2.1 d_STR_substring_5 rfl (lv_at hl 2 rfl) ?_
  refine lv_iload_n S.1 S.2.1 d_STR_substring_6 rfl (lv_at hl 3 rfl) ?_
  refine lv_iload_n S.1 S.2.1 d_STR_substring_7 rfl (lv_at hl 0 rfl) ?_
  refine va_csv (va_Run.run (rn_S S sc_STR_521 (As := [.int (nI i), .int (nI j), .int (nI n)]) (rest := []) (c_STR_checkBBE l (Nat.le_of_lt hij) hjn (by omega)) (fun U hU hW => hE.to hS.2.1 hU hW (fun _ h => h.elim)) (Nat.le_of_ble_eq_true rfl) (Nat.le_of_ble_eq_true rfl) (by dsimp only [rmd] <;> omega) (by dsimp only [rmd] <;> omega) rfl hl.1 rfl (Nat.le_of_ble_eq_true rfl) d_STR_substring_8)) (fun _ => ?_)
  refine lv_iload_n S.1 S.2.1 d_STR_substring_11 rfl (lv_at hl 2 rfl) ?_
  by_cases hi0 : i = 0
  ·
    refine lv_if_ne (tgt := 22) S.1 S.2.1 d_STR_substring_12 (by decide) (fun c => absurd (by rw [hi0]; rfl) c) (fun _ => ?_)
    refine lv_iload_n S.1 S.2.1 d_STR_substring_15 rfl (lv_at hl 3 rfl) ?_
    refine lv_iload_n S.1 S.2.1 d_STR_substring_16 rfl (lv_at hl 0 rfl) ?_
    by_cases hjn2 : j = n
    ·
      refine lv_icmp_ne (tgt := 22) S.1 S.2.1 d_STR_substring_17 (by decide) (fun c => absurd (by rw [hjn2]) c) (fun _ => ?_)
      refine lv_aload_n S.1 S.2.1 d_STR_substring_20 rfl (lv_at hl 1 rfl) ?_
      have hzz := (hz.nar (A' := nF) (fun _ _ h => h.elim))
      subst hi0 hjn2
      refine W.widen (k := 2) (n := (4 + (j - 0))) (by omega) (by omega) ?_
      exact W.aret S.1 S.2.1 hr (Or.inl ⟨_, rfl⟩) (Or.inr ⟨_, rfl⟩) (fun t ht hW => ⟨⟨(), _, rfl, trivial, (zs.text ⟨v, hzz⟩ (fun x _ => by rw [Nat.zero_add])).to (fun _ _ _ => rfl) ht hW.alike (fun _ h => h)⟩, hS.F ht⟩) hS.2.2 d_STR_substring_21 hlk
    ·
      refine lv_icmp_ne (tgt := 22) S.1 S.2.1 d_STR_substring_17 (by decide) (fun _ => ?_) (fun c => absurd c (fun h => hjn2 ((nI_eq (by omega) (by omega)).mp h)))
      refine lv_iload_n S.1 S.2.1 d_STR_substring_22 rfl (lv_at hl 3 rfl) ?_
      refine lv_iload_n S.1 S.2.1 d_STR_substring_23 rfl (lv_at hl 2 rfl) ?_
      refine lv_isub S.1 S.2.1 d_STR_substring_24 ?_
      refine q_top (x' := nI (j - i)) (pk_sub (by omega)) ?_
      refine lv_istore (lv' := [(4, .int (nI (j - i))), (3, .int (nI n)), (0, .ref a), (1, .int (nI i)), (2, .int (nI j))]) S.1 S.2.1 d_STR_substring_25 hl (by decide) rfl (fun ls hl => ?_)
      refine lv_aload_n S.1 S.2.1 d_STR_substring_27 rfl (lv_at hl 2 rfl) ?_
      refine vp_callSi (va_Run.run (rn_V S sc_STR_492 (As := []) (rest := []) (c_STR_isLatin1 l) (hz.recv) (fun U hU hW => ⟨hE.to hS.2.1 hU hW (fun _ h => h.elim), hz.to hS.2.1 hU hW.alike (fun _ h => h.elim)⟩) (Nat.le_of_ble_eq_true rfl) (Nat.le_of_ble_eq_true rfl) (by dsimp only [rmd] <;> omega) (by dsimp only [rmd] <;> omega) rfl hl.1 rfl (Nat.le_of_ble_eq_true rfl) d_STR_substring_28)) (fun r0 h0 => ?_)
      subst h0
      refine lv_if_eq (tgt := 47) S.1 S.2.1 d_STR_substring_31 (by decide) (fun c => absurd c (by decide)) (fun _ => ?_)
      refine lv_aload_n S.1 S.2.1 d_STR_substring_34 rfl (lv_at hl 2 rfl) ?_
      refine q_zval S hz hS k_336 d_STR_substring_35 ?_
      refine lv_iload_n S.1 S.2.1 d_STR_substring_38 rfl (lv_at hl 3 rfl) ?_
      refine lv_iload S.1 S.2.1 d_STR_substring_39 (lv_at hl 0 rfl) ?_
      have hFc := va_free (wc := []) hD hS hA [] rfl
      refine va_callr (rn_S S sc_STR_685 (As := [.ref v, .int (nI i), .int (nI (j - i))]) (rest := []) (c_L1_newString l (t := t) (i := i) (k := j - i) (n := n) (sz := s.heap.size) (by omega) (by omega) (by omega) (by omega) hz.2.2) (fun U hU hW => ⟨by rw [hU], hE.to hS.2.1 hU hW hFc, by rw [hU]; exact hP, hD.weaken (fun _ _ _ _ => trivial), hz.2.1.to hS.2.1 hU hW.alike hFc⟩) (Nat.le_of_ble_eq_true rfl) (Nat.le_of_ble_eq_true rfl) (by dsimp only [rmd] <;> omega) (by dsimp only [rmd] <;> omega) rfl hl.1 rfl (Nat.le_of_ble_eq_true rfl) d_STR_substring_41) hS (fun q _ h => hFc q h) hFc (fun _ q t_ H_26 locs ht0 hv0 _ hB _ _ hS => ?_)
      rw [ht0] at hB
      have hzz := zs.moved (hB.nar (A' := nF) (fun _ _ h => h.elim)) hv0.symm
      refine lv_goto (tgt := 57) S.1 S.2.1 d_STR_substring_44 (by decide) ?_
      refine W.widen (k := 2) (n := (4 + (j - i))) (by omega) (by omega) ?_
      exact W.aret S.1 S.2.1 hr (Or.inl ⟨_, rfl⟩) (Or.inr ⟨_, rfl⟩) (fun t ht hW => ⟨⟨(), _, rfl, trivial, hzz.to (fun _ _ _ => rfl) ht hW.alike (fun _ h => h)⟩, hS.F ht⟩) hS.2.2 d_STR_substring_57 hlk
  ·
    refine lv_if_ne (tgt := 22) S.1 S.2.1 d_STR_substring_12 (by decide) (fun _ => ?_) (fun c => absurd c (nI_ne0 (by omega) (by omega)))
    refine lv_iload_n S.1 S.2.1 d_STR_substring_22 rfl (lv_at hl 3 rfl) ?_
    refine lv_iload_n S.1 S.2.1 d_STR_substring_23 rfl (lv_at hl 2 rfl) ?_
    refine lv_isub S.1 S.2.1 d_STR_substring_24 ?_
    refine q_top (x' := nI (j - i)) (pk_sub (by omega)) ?_
    refine lv_istore (lv' := [(4, .int (nI (j - i))), (3, .int (nI n)), (0, .ref a), (1, .int (nI i)), (2, .int (nI j))]) S.1 S.2.1 d_STR_substring_25 hl (by decide) rfl (fun ls hl => ?_)
    refine lv_aload_n S.1 S.2.1 d_STR_substring_27 rfl (lv_at hl 2 rfl) ?_
    refine vp_callSi (va_Run.run (rn_V S sc_STR_492 (As := []) (rest := []) (c_STR_isLatin1 l) (hz.recv) (fun U hU hW => ⟨hE.to hS.2.1 hU hW (fun _ h => h.elim), hz.to hS.2.1 hU hW.alike (fun _ h => h.elim)⟩) (Nat.le_of_ble_eq_true rfl) (Nat.le_of_ble_eq_true rfl) (by dsimp only [rmd] <;> omega) (by dsimp only [rmd] <;> omega) rfl hl.1 rfl (Nat.le_of_ble_eq_true rfl) d_STR_substring_28)) (fun r0 h0 => ?_)
    subst h0
    refine lv_if_eq (tgt := 47) S.1 S.2.1 d_STR_substring_31 (by decide) (fun c => absurd c (by decide)) (fun _ => ?_)
    refine lv_aload_n S.1 S.2.1 d_STR_substring_34 rfl (lv_at hl 2 rfl) ?_
    refine q_zval S hz hS k_336 d_STR_substring_35 ?_
    refine lv_iload_n S.1 S.2.1 d_STR_substring_38 rfl (lv_at hl 3 rfl) ?_
    refine lv_iload S.1 S.2.1 d_STR_substring_39 (lv_at hl 0 rfl) ?_
    have hFc := va_free (wc := []) hD hS hA [] rfl
    refine va_callr (rn_S S sc_STR_685 (As := [.ref v, .int (nI i), .int (nI (j - i))]) (rest := []) (c_L1_newString l (t := t) (i := i) (k := j - i) (n := n) (sz := s.heap.size) (by omega) (by omega) (by omega) (by omega) hz.2.2) (fun U hU hW => ⟨by rw [hU], hE.to hS.2.1 hU hW hFc, by rw [hU]; exact hP, hD.weaken (fun _ _ _ _ => trivial), hz.2.1.to hS.2.1 hU hW.alike hFc⟩) (Nat.le_of_ble_eq_true rfl) (Nat.le_of_ble_eq_true rfl) (by dsimp only [rmd] <;> omega) (by dsimp only [rmd] <;> omega) rfl hl.1 rfl (Nat.le_of_ble_eq_true rfl) d_STR_substring_41) hS (fun q _ h => hFc q h) hFc (fun _ q t_ H_27 locs ht0 hv0 _ hB _ _ hS => ?_)
    rw [ht0] at hB
    have hzz := zs.moved (hB.nar (A' := nF) (fun _ _ h => h.elim)) hv0.symm
    refine lv_goto (tgt := 57) S.1 S.2.1 d_STR_substring_44 (by decide) ?_
    refine W.widen (k := 2) (n := (4 + (j - i))) (by omega) (by omega) ?_
    exact W.aret S.1 S.2.1 hr (Or.inl ⟨_, rfl⟩) (Or.inr ⟨_, rfl⟩) (fun t ht hW => ⟨⟨(), _, rfl, trivial, hzz.to (fun _ _ _ => rfl) ht hW.alike (fun _ h => h)⟩, hS.F ht⟩) hS.2.2 d_STR_substring_57 hlk
end
section
theorem as_vb : ∀ x, x < 128 → vp_nar .byte (nI x) = nI x := by decide +kernel
theorem as_vc : ∀ x, x < 128 → vp_nar .char (nI x) = nI x := by decide +kernel
theorem sub_le0 {a b : Nat} (h : a ≤ b) (hb : b < 2 ^ 30) : nI a - nI b ≤ 0 := by
  rw [Int32.le_iff_toInt_le, pk_sub_toInt (by omega) hb]
  show (a : Int) - b ≤ 0
  omega
theorem sub_gt0 {a b : Nat} (h : b < a) (ha : a < 2 ^ 30) : ¬ nI a - nI b ≤ 0 := by
  rw [Int32.le_iff_toInt_le, pk_sub_toInt ha (by omega)]
  show ¬ (a : Int) - b ≤ 0
  omega
def SO (own : String) (idx : Nat) (C : String) (x y : MethodName) (b : ByteArray) (n : Nat) (r : Option FieldType) (k : Nat) : Prop :=
  Cond.methodLink own idx x ∈ tb ∧ Cond.sameMethod x.cls x.cls x.name x.desc ∈ tb ∧ Cond.instanceMethod x ∈ tb ∧ Cond.selects C x y ∈ tb ∧ Cond.instanceMethod y ∈ tb ∧ Cond.initialized y.cls ∈ tb ∧ Cond.code y b n r ∈ tb ∧ (∃ b0 m0 r0, Cond.code x b0 m0 r0 ∈ tb) ∧ (x.cls ≠ "java/lang/invoke/MethodHandle" ∧ x.cls ≠ "java/lang/invoke/VarHandle" ∧ (parseMethodDescriptor x.desc).map (fun d => d.parameters.length) = some k)
section ROWS2
variable {p : Program} {l : Launch} {e : Env} {R : Room} {s : State} {m : MethodId} {args : Array Value} {below : List Frame} {meth : Method} {c : Code} {H : Heap} {locs : List Loc} {cells slots : Nat} {Q : State → Prop}
  {cc b : ByteArray} {nL n k idx d mc ms pc : Nat} {own C : String} {x y : MethodName} {r : Option FieldType} {B : State → Prop} {Qc : Array Value → State → Outcome → State → Prop} {free : Addr → Prop} {a : Addr} {As rest st0 : List Value} {ls : Array Slot}
theorem rn_O (S : CallFix p m c cc nL s args tb own) (st : SO own idx C x y b n r k) (hM : Ct l y b n r d mc ms (.ref a :: As) B Qc free) (hrecv : ∃ cell : Cell, H[a]? = some cell ∧ cell.vm.isStatics = false ∧ s.vm.findClass C = some cell.cls) (hB : ∀ U : State, U.heap = H → s.WarmedH U.vm → B U)
    (hfr : d + 1 ≤ R.frames) (hlo : 8 + (n + 11) + 30 * d ≤ R.locals) (hce : cells + mc ≤ R.cells) (hsl : slots + ms ≤ R.slots) (hk : As.length = k) (hls : ls.size = nL) (hst : st0 = As.reverse ++ .ref a :: rest) (hW : (rest.map fun v => v.category).sum ≤ 8) (hdg : decode cc pc = .ok (.invokevirtual idx, 3)) :
    va_Run p l e R s m args below meth c H locs cells slots mc ms (F0 m pc ls st0) rest (Qc (Value.ref a :: As).toArray) free := by
  obtain ⟨h1, h2, h2', h3, h4, h7, h5, ⟨b0, m0, r0, h8⟩, h6⟩ := st
  refine va_runU (C := C) (owner := x.cls) (x := x) S hM.1 (va_cwO (rm := rmd d mc ms) (bytes := b) (maxL := n) (ret := r) k S.2.2.2.2 (gd_of _ ?_) rfl rfl rfl h8 h6 ⟨hfr, hlo⟩) ⟨hM.2, hrecv, fun U g1 g2 => ⟨rfl, hB U g1 g2⟩⟩ rfl hk hls hst (lv_room hW) hdg ⟨hce, hsl⟩
  intro w hw
  rcases List.mem_append.mp hw with hw | hw
  · simp only [List.mem_cons, List.not_mem_nil, or_false] at hw
    rcases hw with rfl | rfl | rfl | rfl | rfl | rfl
    · exact h1
    · exact h2
    · exact h2'
    · exact h3
    · exact h4
    · exact h7
  · exact wd_in h5 w hw
variable {D : va_G} {A : Nat → Prop} {ws : va_W} {H0 : Heap} {cB cC : ClassId}
theorem q_bast (S : CallFix p m c cc nL s args tb own) (hK : va_K D classes [(cB, .byte), (cC, .char)] s) (hP : va_P D classes ws H) (hD : va_D A ws) (hS : va_S A H0 H locs) (q0 : Nat) {N : Nat} {f : Nat → Int32} (ha : ws[q0]? = some (a, .inl (cB, N, .inl f))) {i v : Nat} (hi : i < N) (hN : N < 2 ^ 31) (hv : v < 128) (hdg : decode cc pc = .ok (.bastore, 1))
    (kk : ∀ (H1 : Heap) (locs1 : List Loc), va_P D classes (ws.set q0 (a, .inl (cB, N, .inl (upd f i (nI v))))) H1 → va_D A (ws.set q0 (a, .inl (cB, N, .inl (upd f i (nI v))))) → va_S A H0 H1 locs1 → W p l e R s m args below meth c H1 locs1 cells slots Q (F0 m (pc + 1) ls rest)) : W p l e R s m args below meth c H locs cells slots Q (F0 m pc ls (.int (nI v) :: .int (nI i) :: .ref a :: rest)) := by
  refine va_bast S.1 S.2.1 hK hP hD hS q0 0 ha rfl (vp_in_nI hi hN) hdg ?_
  rw [nI_clamp (by omega), as_vb v hv]
  exact kk
theorem q_cast (S : CallFix p m c cc nL s args tb own) (hK : va_K D classes [(cB, .byte), (cC, .char)] s) (hP : va_P D classes ws H) (hD : va_D A ws) (hS : va_S A H0 H locs) (q0 : Nat) {N : Nat} {f : Nat → Int32} (ha : ws[q0]? = some (a, .inl (cC, N, .inl f))) {i v : Nat} (hi : i < N) (hN : N < 2 ^ 31) (hv : v < 128) (hdg : decode cc pc = .ok (.castore, 1))
    (kk : ∀ (H1 : Heap) (locs1 : List Loc), va_P D classes (ws.set q0 (a, .inl (cC, N, .inl (upd f i (nI v))))) H1 → va_D A (ws.set q0 (a, .inl (cC, N, .inl (upd f i (nI v))))) → va_S A H0 H1 locs1 → W p l e R s m args below meth c H1 locs1 cells slots Q (F0 m (pc + 1) ls rest)) : W p l e R s m args below meth c H locs cells slots Q (F0 m pc ls (.int (nI v) :: .int (nI i) :: .ref a :: rest)) := by
  refine va_cast S.1 S.2.1 hK hP hD hS q0 1 ha rfl (vp_in_nI hi hN) hdg ?_
  rw [nI_clamp (by omega), as_vc v hv]
  exact kk
theorem q_cald (S : CallFix p m c cc nL s args tb own) (hK : va_K D classes [(cB, .byte), (cC, .char)] s) (hP : va_P D classes ws H) (q0 : Nat) {N : Nat} {f : Nat → Int32} (ha : ws[q0]? = some (a, .inl (cC, N, .inl f))) {i : Nat} (hi : i < N) (hN : N < 2 ^ 31) (hdg : decode cc pc = .ok (.caload, 1))
    (kk : W p l e R s m args below meth c H locs cells slots Q (F0 m (pc + 1) ls (.int (f i) :: rest))) : W p l e R s m args below meth c H locs cells slots Q (F0 m pc ls (.int (nI i) :: .ref a :: rest)) := by
  refine va_cald S.1 S.2.1 hK hP q0 1 ha rfl (vp_in_nI hi hN) hdg ?_
  rw [nI_clamp (by omega)]
  exact kk
/-- the end of a reader that hands back a cell -/
theorem q_rr {post : Nat → Prop} {v : Nat} {rt : FieldType} (S : CallFix p m c cc nL s args tb own) (hr : meth.sig.returnType = some rt) (hrt : (∃ n, rt = .object n) ∨ ∃ t, rt = .array t) (hlk : meth.locks = false) (hp : post v) (hdg : decode cc pc = .ok (.areturn, 1)) :
    W p l e R s m args below meth c s.heap [] 0 0 (MQ below (va_Sr post (fun k => .ref k)) args s 0 0 nF) (F0 m pc ls [.ref v]) :=
  W.aret S.1 S.2.1 hr hrt (Or.inr ⟨_, rfl⟩) (fun t ht _ => ⟨v, rfl, hp, ht⟩) (fun q h => by cases h) hdg hlk
end ROWS2
theorem sc_STR_549 : SO "java/lang/String" 549 "java/lang/StringBuilder" y_ASB_length y_SB_length b_SB_length 1 (some .int) 0 := ⟨k_308, k_310, k_309, k_311, k_312, k_3, k_313, ⟨_, _, _, k_315⟩, by decide +kernel⟩
/-- the bytes f hold the text tx of cnt signs -/
def txo (cap cnt : Nat) (f : Nat → Int32) (tx : Nat → Nat) : Prop := cnt ≤ cap ∧ cap < 2 ^ 20 ∧ (∀ j, j < cap → fits .byte (.int (f j)) = true) ∧ ∀ j, j < cnt → tx j < 128 ∧ f j = nI (tx j)
theorem txo_add {cap cnt x : Nat} {f : Nat → Int32} {tx : Nat → Nat} (h : txo cap cnt f tx) (hc : cnt < cap) (hx : x < 128) : txo cap (cnt + 1) (upd f cnt (nI x)) (va_up tx cnt x) := by
  obtain ⟨h1, h2, h3, h4⟩ := h
  refine ⟨hc, h2, fun j hj => ?_, fun j hj => ?_⟩
  · by_cases hjc : j = cnt
    · subst hjc; rw [pk_us]; exact as_fit _ hx
    · rw [pk_un hjc]; exact h3 j hj
  · by_cases hjc : j = cnt
    · subst hjc; rw [pk_us, va_up_self]; exact ⟨hx, rfl⟩
    · rw [pk_un hjc, va_up_ne _ _ hjc]; exact h4 j (by omega)
theorem txo_grow {cap cap' cnt : Nat} {f g : Nat → Int32} {tx : Nat → Nat} (h : txo cap cnt f tx) (hc : cap ≤ cap') (hc2 : cap' < 2 ^ 20) (h1 : ∀ x, x < cap → g x = f x) (h2 : ∀ x, cap ≤ x → g x = 0) : txo cap' cnt g tx := by
  obtain ⟨g1, g2, g3, g4⟩ := h
  refine ⟨by omega, hc2, fun j hj => ?_, fun j hj => ?_⟩
  · rcases Nat.lt_or_ge j cap with hh | hh
    · rw [h1 j hh]; exact g3 j hh
    · rw [h2 j hh]; rfl
  · rw [h1 j (by omega)]; exact g4 j hj
theorem txo_put {cap cnt k : Nat} {f : Nat → Int32} {tx u : Nat → Nat} (h : txo cap cnt f tx) (hc : cnt + k ≤ cap) (hu : ∀ j, j < k → u j < 128) : txo cap (cnt + k) (va_cpy (fun j => nI (u j)) f 0 cnt k) (sb_cat tx cnt u) := by
  obtain ⟨g1, g2, g3, g4⟩ := h
  refine ⟨hc, g2, fun j hj => ?_, fun j hj => ?_⟩
  · by_cases hh : cnt ≤ j ∧ j < cnt + k
    · rw [pk_cpy_in hh.1 hh.2]; exact as_fit _ (hu _ (by omega))
    · rw [pk_cpy_out (by omega)]; exact g3 j hj
  · rcases Nat.lt_or_ge j cnt with hh | hh
    · rw [pk_cpy_out (Or.inl hh), sb_cat_lo hh]; exact g4 j hh
    · rw [pk_cpy_in hh hj]
      have e : sb_cat tx cnt u j = u (j - cnt) := by
        have := sb_cat_hi (t := tx) (s := u) (n := cnt) (j := j - cnt)
        rwa [show cnt + (j - cnt) = j by omega] at this
      rw [e, Nat.zero_add]
      exact ⟨hu _ (by omega), rfl⟩
set_option maxHeartbeats 4000000 in
set_option maxRecDepth 100000 in
/-- AbstractStringBuilder.<init>(16) -/
theorem c_ASB_init (l : Launch) {D : va_G} {cB cC : ClassId} {sz : Nat} {h : Nat} : Ct l y_ASB_init b_ASB_init 2 (Option.none : Option FieldType) 1 1 16 [.ref h, .int (nI 16)] (fun U => U.heap.size = sz ∧ en D cB cC (va_A [(h, .inr (1, [.null, .int 0, .int 0, .int 0]))] sz) U U.heap ∧ va_P D classes [(h, .inr (1, [.null, .int 0, .int 0, .int 0]))] U.heap ∧ va_D (fun _ => True) [(h, .inr (1, [.null, .int 0, .int 0, .int 0]))]) (va_Qv (fun _ : Unit => True) (fun _ t => ∃ v, va_P D classes [(h, .inr (1, [.ref v, .int 0, .int 0, .int 0])), (v, .inl (cB, 16, .inl (fun _ => 0)))] t.heap ∧ va_D (va_A [(h, .inr (1, [.null, .int 0, .int 0, .int 0]))] sz) [(h, .inr (1, [.ref v, .int 0, .int 0, .int 0])), (v, .inl (cB, 16, .inl (fun _ => 0)))]) (va_A [(h, .inr (1, [.null, .int 0, .int 0, .int 0]))] sz)) (va_A [(h, .inr (1, [.null, .int 0, .int 0, .int 0]))] sz) := by
  refine ct_of (by decide) (Nat.le_of_ble_eq_true rfl) (fun _ _ _ _ h => h) ?_
  intro p e s m below meth c ls S hr hlk hnm hB hl
  have hl : lv_has ls 2 [(0, .ref h), (1, .int (nI 16))] := hl
  obtain ⟨hsz, hE, hP, hD0⟩ := hB
  subst hsz
  have hD := hD0.self (sz := s.heap.size)
  generalize hAe : va_A [(h, .inr (1, [.null, .int 0, .int 0, .int 0]))] s.heap.size = A at hD hE ⊢
  have hA : ∀ q : Nat, s.heap.size ≤ q → A q := fun q h => by rw [← hAe]; exact Or.inr h
  have hS : va_S A s.heap s.heap [] := va_S.rf
  have hK := hE.1
  have hP : va_P D classes [(h, .inr (1, [.null, .int 0, .int 0, .int 0]))] s.heap := hP
  refine lv_aload_n S.1 S.2.1 d_ASB_init_0 rfl (lv_at hl 0 rfl) ?_
  refine q_obj S hl.1 k_30 (Nat.le_of_ble_eq_true rfl) (Nat.le_of_ble_eq_true rfl) d_ASB_init_1 ?_
  refine q_cs S hE hS k_31 d_ASB_init_4 ?_
  refine lv_if_eq (tgt := 25) S.1 S.2.1 d_ASB_init_7 (by decide) (fun c => absurd c (by decide)) (fun _ => ?_)
  refine lv_aload_n S.1 S.2.1 d_ASB_init_10 rfl (lv_at hl 0 rfl) ?_
  refine lv_iload_n S.1 S.2.1 d_ASB_init_11 rfl (lv_at hl 1 rfl) ?_
  refine q_newB S hK hP hD hS hA (N := 16) (by omega) (by dsimp only [rmd] <;> omega) (by dsimp only [rmd] <;> omega) d_ASB_init_12 (fun v H hP hD hS => ?_)
  have hP : va_P D classes [(h, .inr (1, [.null, .int 0, .int 0, .int 0])), (v, .inl (cB, 16, .inl (fun _ => 0)))] H := hP
  have hD : va_D A [(h, .inr (1, [.null, .int 0, .int 0, .int 0])), (v, .inl (cB, 16, .inl (fun _ => 0)))] := hD
  refine q_put S hK hP hD hS 0 rfl fs_ASB_15 (v := .ref v) rfl rfl (Nat.le_of_ble_eq_true rfl) d_ASB_init_14 (fun H locs hP hD hS => ?_)
  have hP : va_P D classes [(h, .inr (1, [.ref v, .int 0, .int 0, .int 0])), (v, .inl (cB, 16, .inl (fun _ => 0)))] H := hP
  have hD : va_D A [(h, .inr (1, [.ref v, .int 0, .int 0, .int 0])), (v, .inl (cB, 16, .inl (fun _ => 0)))] := hD
  refine lv_aload_n S.1 S.2.1 d_ASB_init_17 rfl (lv_at hl 0 rfl) ?_
  refine lv_iconst (v := 0) S.1 S.2.1 d_ASB_init_18 (by decide) ?_
  refine q_put S hK hP hD hS 0 rfl fs_ASB_22 (v := .int 0) rfl rfl (Nat.le_of_ble_eq_true rfl) d_ASB_init_19 (fun H locs hP hD hS => ?_)
  have hP : va_P D classes [(h, .inr (1, [.ref v, .int 0, .int 0, .int 0])), (v, .inl (cB, 16, .inl (fun _ => 0)))] H := hP
  have hD : va_D A [(h, .inr (1, [.ref v, .int 0, .int 0, .int 0])), (v, .inl (cB, 16, .inl (fun _ => 0)))] := hD
  refine lv_goto (tgt := 38) S.1 S.2.1 d_ASB_init_22 (by decide) ?_
  refine W.widen (k := 1) (n := 16) (by omega) (by omega) ?_
  exact W.vret S.1 S.2.1 hr (fun t ht hW => ⟨⟨(), rfl, trivial, v, by rw [ht]; exact hP, hD⟩, hS.F ht⟩) hS.2.2 d_ASB_init_38 hlk
set_option maxHeartbeats 4000000 in
set_option maxRecDepth 100000 in
/-- StringBuilder.<init>() -/
theorem c_SB_init (l : Launch) {D : va_G} {cB cC : ClassId} {sz : Nat} {h : Nat} : Ct l y_SB_init b_SB_init 1 (Option.none : Option FieldType) 2 1 16 [.ref h] (fun U => U.heap.size = sz ∧ en D cB cC (va_A [(h, .inr (1, [.null, .int 0, .int 0, .int 0]))] sz) U U.heap ∧ va_P D classes [(h, .inr (1, [.null, .int 0, .int 0, .int 0]))] U.heap ∧ va_D (fun _ => True) [(h, .inr (1, [.null, .int 0, .int 0, .int 0]))]) (va_Qv (fun _ : Unit => True) (fun _ t => ∃ v, va_P D classes [(h, .inr (1, [.ref v, .int 0, .int 0, .int 0])), (v, .inl (cB, 16, .inl (fun _ => 0)))] t.heap ∧ va_D (va_A [(h, .inr (1, [.null, .int 0, .int 0, .int 0]))] sz) [(h, .inr (1, [.ref v, .int 0, .int 0, .int 0])), (v, .inl (cB, 16, .inl (fun _ => 0)))]) (va_A [(h, .inr (1, [.null, .int 0, .int 0, .int 0]))] sz)) (va_A [(h, .inr (1, [.null, .int 0, .int 0, .int 0]))] sz) := by
  refine ct_of (by decide) (Nat.le_of_ble_eq_true rfl) (fun _ _ _ _ h => h) ?_
  intro p e s m below meth c ls S hr hlk hnm hB hl
  have hl : lv_has ls 1 [(0, .ref h)] := hl
  obtain ⟨hsz, hE, hP, hD0⟩ := hB
  subst hsz
  have hD := hD0.self (sz := s.heap.size)
  generalize hAe : va_A [(h, .inr (1, [.null, .int 0, .int 0, .int 0]))] s.heap.size = A at hD hE ⊢
  have hA : ∀ q : Nat, s.heap.size ≤ q → A q := fun q h => by rw [← hAe]; exact Or.inr h
  have hS : va_S A s.heap s.heap [] := va_S.rf
  have hK := hE.1
  have hP : va_P D classes [(h, .inr (1, [.null, .int 0, .int 0, .int 0]))] s.heap := hP
  refine lv_aload_n S.1 S.2.1 d_SB_init_0 rfl (lv_at hl 0 rfl) ?_
  refine lv_bipush (v := 16) S.1 S.2.1 d_SB_init_1 (by decide) ?_
  refine q_top (x' := nI 16) (by decide) ?_
  have hPc := hP.sub (ws' := [(h, .inr (1, [.null, .int 0, .int 0, .int 0]))]) [0] rfl
  have hDc := hD.sub (ws' := [(h, .inr (1, [.null, .int 0, .int 0, .int 0]))]) [0] (by decide) rfl
  have hFc := va_free (wc := [(h, .inr (1, [.null, .int 0, .int 0, .int 0]))]) hD hS hA [0] rfl
  refine va_callv (rn_I S sc_SB_1 (As := [.int (nI 16)]) (rest := []) (c_ASB_init l) (fun U hU hW => ⟨by rw [hU], hE.to hS.2.1 hU hW hFc, by rw [hU]; exact hPc, hDc.weaken (fun _ _ _ _ => trivial)⟩) (Nat.le_of_ble_eq_true rfl) (Nat.le_of_ble_eq_true rfl) (by dsimp only [rmd] <;> omega) (by dsimp only [rmd] <;> omega) rfl hl.1 rfl (Nat.le_of_ble_eq_true rfl) d_SB_init_3) hS (fun q _ h => hFc q h) hFc (fun _ t_ H_1 locs ht_2 hv_5 _ hB hz_4 hk_3 hS => ?_)
  obtain ⟨v, hP1, hD1⟩ := hB
  rw [ht_2] at hP1
  obtain ⟨hP, hD⟩ := va_join (wr := []) (w1 := [(h, .inr (1, [.ref v, .int 0, .int 0, .int 0])), (v, .inl (cB, 16, .inl (fun _ => 0)))]) hP hD [0] [] rfl rfl (by decide) (by decide) hk_3 hFc hP1 hD1
  have hP : va_P D classes [(h, .inr (1, [.ref v, .int 0, .int 0, .int 0])), (v, .inl (cB, 16, .inl (fun _ => 0)))] H_1 := hP
  have hD : va_D A [(h, .inr (1, [.ref v, .int 0, .int 0, .int 0])), (v, .inl (cB, 16, .inl (fun _ => 0)))] := hD
  refine W.widen (k := 1) (n := 16) (by omega) (by omega) ?_
  exact W.vret S.1 S.2.1 hr (fun t ht hW => ⟨⟨(), rfl, trivial, v, by rw [ht]; exact hP, hD⟩, hS.F ht⟩) hS.2.2 d_SB_init_6 hlk
set_option maxHeartbeats 4000000 in
set_option maxRecDepth 100000 in
/-- AbstractStringBuilder.isLatin1 -/
theorem c_ASB_isLatin1 (l : Launch) {D : va_G} {cB cC : ClassId} {h v cnt : Nat} {ml : Int32} : Ct l y_ASB_isLatin1 b_ASB_isLatin1 1 (Option.some FieldType.boolean) 0 0 0 [.ref h] (fun U => en D cB cC nF U U.heap ∧ va_P D classes [(h, .inr (1, [.ref v, .int 0, .int ml, .int (nI cnt)]))] U.heap) (vp_Si (fun r => r = 1)) nF := by
  refine ct_of (by decide) (Nat.le_of_ble_eq_true rfl) (fun _ _ _ _ h => h) ?_
  intro p e s m below meth c ls S hr hlk hnm hB hl
  have hl : lv_has ls 1 [(0, .ref h)] := hl
  obtain ⟨hE, hP⟩ := hB
  have hK := hE.1
  have hS : va_S nF s.heap s.heap [] := va_S.rf
  refine q_cs S hE hS k_31 d_ASB_isLatin1_0 ?_
  refine lv_if_eq (tgt := 17) S.1 S.2.1 d_ASB_isLatin1_3 (by decide) (fun c => absurd c (by decide)) (fun _ => ?_)
  refine lv_aload_n S.1 S.2.1 d_ASB_isLatin1_6 rfl (lv_at hl 0 rfl) ?_
  refine q_get S hK hP 0 rfl fs_ASB_22 (v := .int 0) rfl d_ASB_isLatin1_7 ?_
  refine lv_if_ne (tgt := 17) S.1 S.2.1 d_ASB_isLatin1_10 (by decide) (fun c => absurd (rfl) c) (fun _ => ?_)
  refine lv_iconst (v := 1) S.1 S.2.1 d_ASB_isLatin1_13 (by decide) ?_
  refine lv_goto (tgt := 18) S.1 S.2.1 d_ASB_isLatin1_14 (by decide) ?_
  exact q_rz S hr hlk rfl rfl d_ASB_isLatin1_18
set_option maxHeartbeats 4000000 in
set_option maxRecDepth 100000 in
/-- AbstractStringBuilder.getValue -/
theorem c_ASB_getValue (l : Launch) {D : va_G} {cB cC : ClassId} {h v cnt : Nat} {ml : Int32} : Ct l y_ASB_getValue b_ASB_getValue 1 (Option.some (FieldType.array FieldType.byte)) 0 0 0 [.ref h] (fun U => en D cB cC nF U U.heap ∧ va_P D classes [(h, .inr (1, [.ref v, .int 0, .int ml, .int (nI cnt)]))] U.heap) (va_Sr (fun k => k = v) (fun k => .ref k)) nF := by
  refine ct_of (by decide) (Nat.le_of_ble_eq_true rfl) (fun _ _ _ _ h => h) ?_
  intro p e s m below meth c ls S hr hlk hnm hB hl
  have hl : lv_has ls 1 [(0, .ref h)] := hl
  obtain ⟨hE, hP⟩ := hB
  have hK := hE.1
  have hS : va_S nF s.heap s.heap [] := va_S.rf
  refine lv_aload_n S.1 S.2.1 d_ASB_getValue_0 rfl (lv_at hl 0 rfl) ?_
  refine q_get S hK hP 0 rfl fs_ASB_15 (v := .ref v) rfl d_ASB_getValue_1 ?_
  exact q_rr S hr (Or.inr ⟨_, rfl⟩) hlk rfl d_ASB_getValue_4
set_option maxHeartbeats 4000000 in
set_option maxRecDepth 100000 in
/-- AbstractStringBuilder.length -/
theorem c_ASB_length (l : Launch) {D : va_G} {cB cC : ClassId} {h v cnt : Nat} {ml : Int32} : Ct l y_ASB_length b_ASB_length 1 (Option.some FieldType.int) 0 0 0 [.ref h] (fun U => en D cB cC nF U U.heap ∧ va_P D classes [(h, .inr (1, [.ref v, .int 0, .int ml, .int (nI cnt)]))] U.heap) (vp_Si (fun r => r = nI cnt)) nF := by
  refine ct_of (by decide) (Nat.le_of_ble_eq_true rfl) (fun _ _ _ _ h => h) ?_
  intro p e s m below meth c ls S hr hlk hnm hB hl
  have hl : lv_has ls 1 [(0, .ref h)] := hl
  obtain ⟨hE, hP⟩ := hB
  have hK := hE.1
  have hS : va_S nF s.heap s.heap [] := va_S.rf
  refine lv_aload_n S.1 S.2.1 d_ASB_length_0 rfl (lv_at hl 0 rfl) ?_
  refine q_get S hK hP 0 rfl fs_ASB_79 (v := .int (nI cnt)) rfl d_ASB_length_1 ?_
  exact q_ri S hr hlk rfl d_ASB_length_4
set_option maxHeartbeats 4000000 in
set_option maxRecDepth 100000 in
/-- StringBuilder.length -/
theorem c_SB_length (l : Launch) {D : va_G} {cB cC : ClassId} {h v cnt : Nat} {ml : Int32} : Ct l y_SB_length b_SB_length 1 (Option.some FieldType.int) 1 0 0 [.ref h] (fun U => en D cB cC nF U U.heap ∧ va_P D classes [(h, .inr (1, [.ref v, .int 0, .int ml, .int (nI cnt)]))] U.heap) (vp_Si (fun r => r = nI cnt)) nF := by
  refine ct_of (by decide) (Nat.le_of_ble_eq_true rfl) (fun _ _ _ _ h => h) ?_
  intro p e s m below meth c ls S hr hlk hnm hB hl
  have hl : lv_has ls 1 [(0, .ref h)] := hl
  obtain ⟨hE, hP⟩ := hB
  have hK := hE.1
  have hS : va_S nF s.heap s.heap [] := va_S.rf
  refine lv_aload_n S.1 S.2.1 d_SB_length_0 rfl (lv_at hl 0 rfl) ?_
  refine vp_callSi (va_Run.run (rn_P (hK.1 1 _ rfl).2 S sc_SB_343 (As := []) (rest := []) (c_ASB_length l) (va_recv hK hP (ci := 1) (q0 := 0) rfl rfl) (fun U hU hW => ⟨hE.to hS.2.1 hU hW (fun _ h => h.elim), by rw [hU]; exact hP⟩) (Nat.le_of_ble_eq_true rfl) (Nat.le_of_ble_eq_true rfl) (by dsimp only [rmd] <;> omega) (by dsimp only [rmd] <;> omega) rfl hl.1 rfl (Nat.le_of_ble_eq_true rfl) d_SB_length_1)) (fun r0 h0 => ?_)
  exact q_ri S hr hlk h0 d_SB_length_4
set_option maxHeartbeats 4000000 in
set_option maxRecDepth 100000 in
/-- AbstractStringBuilder.newCapacity -/
theorem c_ASB_newCap (l : Launch) {D : va_G} {cB cC : ClassId} {h v cnt cap : Nat} {ml : Int32} {f : Nat → Int32} {q : Nat} (hq : cap < q) (hq2 : q < 2 ^ 19) : Ct l y_ASB_newCap b_ASB_newCap 6 (Option.some FieldType.int) 2 0 0 [.ref h, .int (nI q)] (fun U => en D cB cC nF U U.heap ∧ va_P D classes [(h, .inr (1, [.ref v, .int 0, .int ml, .int (nI cnt)])), (v, .inl (cB, cap, .inl f))] U.heap) (vp_Si (fun r => r = nI (cap + max (q - cap) (cap + 2)))) nF := by
  refine ct_of (by decide) (Nat.le_of_ble_eq_true rfl) (fun _ _ _ _ h => h) ?_
  intro p e s m below meth c ls S hr hlk hnm hB hl
  have hl : lv_has ls 6 [(0, .ref h), (1, .int (nI q))] := hl
  obtain ⟨hE, hP⟩ := hB
  have hK := hE.1
  have hS : va_S nF s.heap s.heap [] := va_S.rf
  refine lv_aload_n S.1 S.2.1 d_ASB_newCap_0 rfl (lv_at hl 0 rfl) ?_
  refine q_get S hK hP 0 rfl fs_ASB_15 (v := .ref v) rfl d_ASB_newCap_1 ?_
  refine va_alen S.1 S.2.1 hK hP 1 0 rfl rfl (show _ = nI cap from rfl) d_ASB_newCap_4 ?_
  refine lv_istore_n (lv' := [(2, .int (nI cap)), (0, .ref h), (1, .int (nI q))]) S.1 S.2.1 d_ASB_newCap_5 rfl hl (by decide) rfl (fun ls hl => ?_)
  refine lv_iload_n S.1 S.2.1 d_ASB_newCap_6 rfl (lv_at hl 2 rfl) ?_
  refine lv_aload_n S.1 S.2.1 d_ASB_newCap_7 rfl (lv_at hl 1 rfl) ?_
  refine q_get S hK hP 0 rfl fs_ASB_22 (v := .int 0) rfl d_ASB_newCap_8 ?_
  refine lv_ishl S.1 S.2.1 d_ASB_newCap_11 ?_
  refine q_top (x' := nI q) (sb_shl0 _) ?_
  refine lv_istore_n (lv' := [(3, .int (nI q)), (2, .int (nI cap)), (0, .ref h), (1, .int (nI q))]) S.1 S.2.1 d_ASB_newCap_12 rfl hl (by decide) rfl (fun ls hl => ?_)
  refine lv_iload_n S.1 S.2.1 d_ASB_newCap_13 rfl (lv_at hl 0 rfl) ?_
  refine lv_iload_n S.1 S.2.1 d_ASB_newCap_14 rfl (lv_at hl 1 rfl) ?_
  refine lv_isub S.1 S.2.1 d_ASB_newCap_15 ?_
  refine q_top (x' := nI (q - cap)) (pk_sub (by omega)) ?_
  refine lv_istore (lv' := [(4, .int (nI (q - cap))), (3, .int (nI q)), (2, .int (nI cap)), (0, .ref h), (1, .int (nI q))]) S.1 S.2.1 d_ASB_newCap_16 hl (by decide) rfl (fun ls hl => ?_)
  refine lv_iload_n S.1 S.2.1 d_ASB_newCap_18 rfl (lv_at hl 2 rfl) ?_
  refine lv_iload S.1 S.2.1 d_ASB_newCap_19 (lv_at hl 0 rfl) ?_
  refine lv_iload_n S.1 S.2.1 d_ASB_newCap_21 rfl (lv_at hl 2 rfl) ?_
  refine lv_iconst (v := 2) S.1 S.2.1 d_ASB_newCap_22 (by decide) ?_
  refine lv_aload_n S.1 S.2.1 d_ASB_newCap_23 rfl (lv_at hl 3 rfl) ?_
  refine q_get S hK hP 0 rfl fs_ASB_22 (v := .int 0) rfl d_ASB_newCap_24 ?_
  refine lv_ishl S.1 S.2.1 d_ASB_newCap_27 ?_
  refine lv_iadd S.1 S.2.1 d_ASB_newCap_28 ?_
  refine q_top (x' := nI (cap + 2)) (by rw [sb_shl0]; exact nI_add cap 2) ?_
  refine vp_callSi (va_Run.run (rn_S S sc_ASB_114 (As := [.int (nI cap), .int (nI (q - cap)), .int (nI (cap + 2))]) (rest := []) (c_AS_newLength l (a := cap) (b := q - cap) (k := cap + 2) (by omega) (by omega) (by omega) (by omega)) (fun U hU hW => trivial) (Nat.le_of_ble_eq_true rfl) (Nat.le_of_ble_eq_true rfl) (by dsimp only [rmd] <;> omega) (by dsimp only [rmd] <;> omega) rfl hl.1 rfl (Nat.le_of_ble_eq_true rfl) d_ASB_newCap_29)) (fun r0 h0 => ?_)
  subst h0
  refine lv_istore (lv' := [(5, .int (nI (cap + max (q - cap) (cap + 2)))), (4, .int (nI (q - cap))), (3, .int (nI q)), (2, .int (nI cap)), (0, .ref h), (1, .int (nI q))]) S.1 S.2.1 d_ASB_newCap_32 hl (by decide) rfl (fun ls hl => ?_)
  refine lv_iload S.1 S.2.1 d_ASB_newCap_34 (lv_at hl 0 rfl) ?_
  refine lv_ldc (v := 2147483647) S.1 S.2.1 S.2.2.2.1 (S.2.2.2.2 _ k_212) d_ASB_newCap_36 ?_
  have hmx : max (q - cap) (cap + 2) < 2 ^ 20 := by omega
  refine lv_icmp_ne (tgt := 51) S.1 S.2.1 d_ASB_newCap_38 (by decide) (fun _ => ?_) (fun c => absurd c (by rw [show (2147483647 : Int32) = nI 2147483647 from by decide]; exact fun h => absurd ((nI_eq (by omega) (by omega)).mp h) (by omega)))
  refine lv_iload S.1 S.2.1 d_ASB_newCap_51 (lv_at hl 0 rfl) ?_
  refine lv_aload_n S.1 S.2.1 d_ASB_newCap_53 rfl (lv_at hl 4 rfl) ?_
  refine q_get S hK hP 0 rfl fs_ASB_22 (v := .int 0) rfl d_ASB_newCap_54 ?_
  refine lv_ishr S.1 S.2.1 d_ASB_newCap_57 ?_
  refine q_top (x' := nI (cap + max (q - cap) (cap + 2))) (sb_shr0 _) ?_
  exact q_ri S hr hlk rfl d_ASB_newCap_58
set_option maxHeartbeats 4000000 in
set_option maxRecDepth 100000 in
/-- ensureCapacityInternal: there is room -/
theorem c_ASB_ensure0 (l : Launch) {D : va_G} {cB cC : ClassId} {h v cnt cap : Nat} {ml : Int32} {f : Nat → Int32} {q : Nat} (hq : q ≤ cap) (hq2 : cap < 2 ^ 20) : Ct l y_ASB_ensure b_ASB_ensure 3 (Option.none : Option FieldType) 0 0 0 [.ref h, .int (nI q)] (fun U => en D cB cC nF U U.heap ∧ va_P D classes [(h, .inr (1, [.ref v, .int 0, .int ml, .int (nI cnt)])), (v, .inl (cB, cap, .inl f))] U.heap) (va_Sv (fun _ => True)) nF := by
  refine ct_of (by decide) (Nat.le_of_ble_eq_true rfl) (fun _ _ _ _ h => h) ?_
  intro p e s m below meth c ls S hr hlk hnm hB hl
  have hl : lv_has ls 3 [(0, .ref h), (1, .int (nI q))] := hl
  obtain ⟨hE, hP⟩ := hB
  have hK := hE.1
  have hS : va_S nF s.heap s.heap [] := va_S.rf
  refine lv_aload_n S.1 S.2.1 d_ASB_ensure_0 rfl (lv_at hl 0 rfl) ?_
  refine q_get S hK hP 0 rfl fs_ASB_15 (v := .ref v) rfl d_ASB_ensure_1 ?_
  refine va_alen S.1 S.2.1 hK hP 1 0 rfl rfl (show _ = nI cap from rfl) d_ASB_ensure_4 ?_
  refine lv_aload_n S.1 S.2.1 d_ASB_ensure_5 rfl (lv_at hl 0 rfl) ?_
  refine q_get S hK hP 0 rfl fs_ASB_22 (v := .int 0) rfl d_ASB_ensure_6 ?_
  refine lv_ishr S.1 S.2.1 d_ASB_ensure_9 ?_
  refine q_top (x' := nI cap) (sb_shr0 _) ?_
  refine lv_istore_n (lv' := [(2, .int (nI cap)), (0, .ref h), (1, .int (nI q))]) S.1 S.2.1 d_ASB_ensure_10 rfl hl (by decide) rfl (fun ls hl => ?_)
  refine lv_iload_n S.1 S.2.1 d_ASB_ensure_11 rfl (lv_at hl 2 rfl) ?_
  refine lv_iload_n S.1 S.2.1 d_ASB_ensure_12 rfl (lv_at hl 0 rfl) ?_
  refine lv_isub S.1 S.2.1 d_ASB_ensure_13 ?_
  refine lv_if_le (tgt := 38) S.1 S.2.1 d_ASB_ensure_14 (by decide) (fun _ => ?_) (fun c => absurd (sub_le0 hq (by omega)) c)
  exact q_rv S hr hlk d_ASB_ensure_38
set_option maxHeartbeats 4000000 in
set_option maxRecDepth 100000 in
/-- ensureCapacityInternal: it grows -/
theorem c_ASB_ensure1 (l : Launch) {D : va_G} {cB cC : ClassId} {sz : Nat} {h v cnt cap : Nat} {ml : Int32} {f : Nat → Int32} {q : Nat} (hq : cap < q) (hq2 : q < 2 ^ 19) (hf : ∀ j, j < cap → fits .byte (.int (f j)) = true) : Ct l y_ASB_ensure b_ASB_ensure 3 (Option.none : Option FieldType) 3 1 (cap + max (q - cap) (cap + 2)) [.ref h, .int (nI q)] (fun U => U.heap.size = sz ∧ en D cB cC (va_A [(h, .inr (1, [.ref v, .int 0, .int ml, .int (nI cnt)])), (v, .inl (cB, cap, .inl f))] sz) U U.heap ∧ va_P D classes [(h, .inr (1, [.ref v, .int 0, .int ml, .int (nI cnt)])), (v, .inl (cB, cap, .inl f))] U.heap ∧ va_D (fun _ => True) [(h, .inr (1, [.ref v, .int 0, .int ml, .int (nI cnt)])), (v, .inl (cB, cap, .inl f))]) (va_Qv (fun _ : Unit => True) (fun _ t => ∃ w g, va_P D classes [(h, .inr (1, [.ref w, .int 0, .int ml, .int (nI cnt)])), (w, .inl (cB, cap + max (q - cap) (cap + 2), .inl g))] t.heap ∧ va_D (va_A [(h, .inr (1, [.ref v, .int 0, .int ml, .int (nI cnt)])), (v, .inl (cB, cap, .inl f))] sz) [(h, .inr (1, [.ref w, .int 0, .int ml, .int (nI cnt)])), (w, .inl (cB, cap + max (q - cap) (cap + 2), .inl g))] ∧ (∀ x, x < cap → g x = f x) ∧ ∀ x, cap ≤ x → g x = 0) (va_A [(h, .inr (1, [.ref v, .int 0, .int ml, .int (nI cnt)])), (v, .inl (cB, cap, .inl f))] sz)) (va_A [(h, .inr (1, [.ref v, .int 0, .int ml, .int (nI cnt)])), (v, .inl (cB, cap, .inl f))] sz) := by
  refine ct_of (by decide) (Nat.le_of_ble_eq_true rfl) (fun _ _ _ _ h => h) ?_
  intro p e s m below meth c ls S hr hlk hnm hB hl
  have hl : lv_has ls 3 [(0, .ref h), (1, .int (nI q))] := hl
  obtain ⟨hsz, hE, hP, hD0⟩ := hB
  subst hsz
  have hD := hD0.self (sz := s.heap.size)
  generalize hAe : va_A [(h, .inr (1, [.ref v, .int 0, .int ml, .int (nI cnt)])), (v, .inl (cB, cap, .inl f))] s.heap.size = A at hD hE ⊢
  have hA : ∀ q : Nat, s.heap.size ≤ q → A q := fun q h => by rw [← hAe]; exact Or.inr h
  have hS : va_S A s.heap s.heap [] := va_S.rf
  have hK := hE.1
  have hP : va_P D classes [(h, .inr (1, [.ref v, .int 0, .int ml, .int (nI cnt)])), (v, .inl (cB, cap, .inl f))] s.heap := hP
  refine lv_aload_n S.1 S.2.1 d_ASB_ensure_0 rfl (lv_at hl 0 rfl) ?_
  refine q_get S hK hP 0 rfl fs_ASB_15 (v := .ref v) rfl d_ASB_ensure_1 ?_
  refine va_alen S.1 S.2.1 hK hP 1 0 rfl rfl (show _ = nI cap from rfl) d_ASB_ensure_4 ?_
  refine lv_aload_n S.1 S.2.1 d_ASB_ensure_5 rfl (lv_at hl 0 rfl) ?_
  refine q_get S hK hP 0 rfl fs_ASB_22 (v := .int 0) rfl d_ASB_ensure_6 ?_
  refine lv_ishr S.1 S.2.1 d_ASB_ensure_9 ?_
  refine q_top (x' := nI cap) (sb_shr0 _) ?_
  refine lv_istore_n (lv' := [(2, .int (nI cap)), (0, .ref h), (1, .int (nI q))]) S.1 S.2.1 d_ASB_ensure_10 rfl hl (by decide) rfl (fun ls hl => ?_)
  refine lv_iload_n S.1 S.2.1 d_ASB_ensure_11 rfl (lv_at hl 2 rfl) ?_
  refine lv_iload_n S.1 S.2.1 d_ASB_ensure_12 rfl (lv_at hl 0 rfl) ?_
  refine lv_isub S.1 S.2.1 d_ASB_ensure_13 ?_
  refine lv_if_le (tgt := 38) S.1 S.2.1 d_ASB_ensure_14 (by decide) (fun c => absurd c (sub_gt0 hq (by omega))) (fun _ => ?_)
  refine lv_aload_n S.1 S.2.1 d_ASB_ensure_17 rfl (lv_at hl 1 rfl) ?_
  refine lv_aload_n S.1 S.2.1 d_ASB_ensure_18 rfl (lv_at hl 1 rfl) ?_
  refine q_get S hK hP 0 rfl fs_ASB_15 (v := .ref v) rfl d_ASB_ensure_19 ?_
  refine lv_aload_n S.1 S.2.1 d_ASB_ensure_22 rfl (lv_at hl 1 rfl) ?_
  refine lv_iload_n S.1 S.2.1 d_ASB_ensure_23 rfl (lv_at hl 2 rfl) ?_
  refine vp_callSi (va_Run.run (rn_U S sc_ASB_104 (As := [.int (nI q)]) (rest := [.ref v, .ref h]) (c_ASB_newCap l hq hq2 (f := f)) (va_recv hK hP (ci := 1) (q0 := 0) rfl rfl) (fun U hU hW => ⟨hE.to hS.2.1 hU hW (fun _ h => h.elim), by rw [hU]; exact hP⟩) (Nat.le_of_ble_eq_true rfl) (Nat.le_of_ble_eq_true rfl) (by dsimp only [rmd] <;> omega) (by dsimp only [rmd] <;> omega) rfl hl.1 rfl (Nat.le_of_ble_eq_true rfl) d_ASB_ensure_24)) (fun r0 h0 => ?_)
  subst h0
  refine lv_aload_n S.1 S.2.1 d_ASB_ensure_27 rfl (lv_at hl 1 rfl) ?_
  refine q_get S hK hP 0 rfl fs_ASB_22 (v := .int 0) rfl d_ASB_ensure_28 ?_
  refine lv_ishl S.1 S.2.1 d_ASB_ensure_31 ?_
  refine q_top (x' := nI (cap + max (q - cap) (cap + 2))) (sb_shl0 _) ?_
  have hmx : max (q - cap) (cap + 2) < 2 ^ 20 ∧ cap + 2 ≤ max (q - cap) (cap + 2) := by omega
  have hz := ar_of (A := va_A ([] : va_W) s.heap.size) (k := 1) hK hP rfl (na_nil (hP 1 _ rfl).lt) (by omega) hf
  have hPc := hP.sub (ws' := []) [] rfl
  have hDc := hD.sub (ws' := []) [] (by decide) rfl
  have hFc := va_free (wc := []) hD hS hA [] rfl
  refine va_callr (rn_S S sc_ASB_108 (As := [.ref v, .int (nI (cap + max (q - cap) (cap + 2)))]) (rest := [.ref h]) (c_ARR_copyOf l (f := f) (n := cap) (j := cap + max (q - cap) (cap + 2)) (by omega) (by omega)) (fun U hU hW => ⟨by rw [hU], hE.to hS.2.1 hU hW hFc, by rw [hU]; exact hPc, hDc.weaken (fun _ _ _ _ => trivial), hz.to (fun _ _ _ => rfl) hU hW.alike (fun _ h => h)⟩) (Nat.le_of_ble_eq_true rfl) (Nat.le_of_ble_eq_true rfl) (by dsimp only [rmd] <;> omega) (by dsimp only [rmd] <;> omega) rfl hl.1 rfl (Nat.le_of_ble_eq_true rfl) d_ASB_ensure_32) hS (fun q _ h => hFc q h) hFc (fun _ w t_ H_6 locs ht_7 hv_10 _ hB hz_9 hk_8 hS => ?_)
  obtain ⟨g, hP1, hD1, hg1, hg2⟩ := hB
  rw [ht_7] at hP1
  obtain ⟨hP, hD⟩ := va_join (wr := [(h, .inr (1, [.ref v, .int 0, .int ml, .int (nI cnt)])), (v, .inl (cB, cap, .inl f))]) (w1 := [(w, .inl (cB, cap + max (q - cap) (cap + 2), .inl g))]) hP hD [] [0, 1] rfl rfl (by decide) (by decide) hk_8 hFc hP1 hD1
  have hP : va_P D classes [(h, .inr (1, [.ref v, .int 0, .int ml, .int (nI cnt)])), (v, .inl (cB, cap, .inl f)), (w, .inl (cB, cap + max (q - cap) (cap + 2), .inl g))] H_6 := hP
  have hD : va_D A [(h, .inr (1, [.ref v, .int 0, .int ml, .int (nI cnt)])), (v, .inl (cB, cap, .inl f)), (w, .inl (cB, cap + max (q - cap) (cap + 2), .inl g))] := hD
  refine q_put S hK hP hD hS 0 rfl fs_ASB_15 (v := .ref w) rfl rfl (Nat.le_of_ble_eq_true rfl) d_ASB_ensure_35 (fun H locs hP hD hS => ?_)
  have hP : va_P D classes [(h, .inr (1, [.ref w, .int 0, .int ml, .int (nI cnt)])), (v, .inl (cB, cap, .inl f)), (w, .inl (cB, cap + max (q - cap) (cap + 2), .inl g))] H := hP
  have hD : va_D A [(h, .inr (1, [.ref w, .int 0, .int ml, .int (nI cnt)])), (v, .inl (cB, cap, .inl f)), (w, .inl (cB, cap + max (q - cap) (cap + 2), .inl g))] := hD
  refine W.widen (k := 1) (n := (cap + max (q - cap) (cap + 2))) (by omega) (by omega) ?_
  exact W.vret S.1 S.2.1 hr (fun t ht hW => ⟨⟨(), rfl, trivial, w, g, by rw [ht]; exact hP.sub [0, 2] rfl, hD.sub [0, 2] (by decide) rfl, hg1, hg2⟩, hS.F ht⟩) hS.2.2 d_ASB_ensure_38 hlk
set_option maxHeartbeats 4000000 in
set_option maxRecDepth 100000 in
/-- AbstractStringBuilder.append(char) -/
theorem c_ASB_appC (l : Launch) {D : va_G} {cB cC : ClassId} {sz : Nat} {h v cnt cap x : Nat} {ml : Int32} {f : Nat → Int32} {tx : Nat → Nat} (hx : x < 128) (hcap : cap < 2 ^ 18) (htx : txo cap cnt f tx) : Ct l y_ASB_appC b_ASB_appC 2 (Option.some (FieldType.object "java/lang/AbstractStringBuilder")) 4 1 (if cnt < cap then 0 else 2 * cap + 2) [.ref h, .int (nI x)] (fun U => U.heap.size = sz ∧ en D cB cC (va_A [(h, .inr (1, [.ref v, .int 0, .int ml, .int (nI cnt)])), (v, .inl (cB, cap, .inl f))] sz) U U.heap ∧ va_P D classes [(h, .inr (1, [.ref v, .int 0, .int ml, .int (nI cnt)])), (v, .inl (cB, cap, .inl f))] U.heap ∧ va_D (fun _ => True) [(h, .inr (1, [.ref v, .int 0, .int ml, .int (nI cnt)])), (v, .inl (cB, cap, .inl f))]) (va_Qr (fun _ : Unit => True) (fun _ q t => q = h ∧ ∃ w g, va_P D classes [(h, .inr (1, [.ref w, .int 0, .int ml, .int (nI (cnt + 1))])), (w, .inl (cB, (if cnt < cap then cap else 2 * cap + 2), .inl g))] t.heap ∧ va_D (va_A [(h, .inr (1, [.ref v, .int 0, .int ml, .int (nI cnt)])), (v, .inl (cB, cap, .inl f))] sz) [(h, .inr (1, [.ref w, .int 0, .int ml, .int (nI (cnt + 1))])), (w, .inl (cB, (if cnt < cap then cap else 2 * cap + 2), .inl g))] ∧ txo (if cnt < cap then cap else 2 * cap + 2) (cnt + 1) g (va_up tx cnt x)) (va_A [(h, .inr (1, [.ref v, .int 0, .int ml, .int (nI cnt)])), (v, .inl (cB, cap, .inl f))] sz)) (va_A [(h, .inr (1, [.ref v, .int 0, .int ml, .int (nI cnt)])), (v, .inl (cB, cap, .inl f))] sz) := by
  refine ct_of (by decide) (Nat.le_of_ble_eq_true rfl) (fun _ _ _ _ h => h) ?_
  intro p e s m below meth c ls S hr hlk hnm hB hl
  have hl : lv_has ls 2 [(0, .ref h), (1, .int (nI x))] := hl
  obtain ⟨hsz, hE, hP, hD0⟩ := hB
  subst hsz
  have hD := hD0.self (sz := s.heap.size)
  generalize hAe : va_A [(h, .inr (1, [.ref v, .int 0, .int ml, .int (nI cnt)])), (v, .inl (cB, cap, .inl f))] s.heap.size = A at hD hE ⊢
  have hA : ∀ q : Nat, s.heap.size ≤ q → A q := fun q h => by rw [← hAe]; exact Or.inr h
  have hS : va_S A s.heap s.heap [] := va_S.rf
  have hK := hE.1
  have hP : va_P D classes [(h, .inr (1, [.ref v, .int 0, .int ml, .int (nI cnt)])), (v, .inl (cB, cap, .inl f))] s.heap := hP
  have hcc := htx.1
  refine lv_aload_n S.1 S.2.1 d_ASB_appC_0 rfl (lv_at hl 0 rfl) ?_
  refine lv_aload_n S.1 S.2.1 d_ASB_appC_1 rfl (lv_at hl 0 rfl) ?_
  refine q_get S hK hP 0 rfl fs_ASB_79 (v := .int (nI cnt)) rfl d_ASB_appC_2 ?_
  refine lv_iconst (v := 1) S.1 S.2.1 d_ASB_appC_5 (by decide) ?_
  refine lv_iadd S.1 S.2.1 d_ASB_appC_6 ?_
  refine q_top (x' := nI (cnt + 1)) (nI_1 cnt) ?_
  by_cases hlt : cnt < cap
  ·
    refine va_csv (va_Run.run (rn_U S sc_ASB_100 (As := [.int (nI (cnt + 1))]) (rest := []) (c_ASB_ensure0 l (q := cnt + 1) (by omega) htx.2.1 (f := f)) (va_recv hK hP (ci := 1) (q0 := 0) rfl rfl) (fun U hU hW => ⟨hE.to hS.2.1 hU hW (fun _ h => h.elim), by rw [hU]; exact hP⟩) (Nat.le_of_ble_eq_true rfl) (Nat.le_of_ble_eq_true rfl) (by dsimp only [rmd] <;> omega) (by dsimp only [rmd] <;> omega) rfl hl.1 rfl (Nat.le_of_ble_eq_true rfl) d_ASB_appC_7)) (fun _ => ?_)
    refine lv_aload_n S.1 S.2.1 d_ASB_appC_10 rfl (lv_at hl 0 rfl) ?_
    refine vp_callSi (va_Run.run (rn_U S sc_ASB_83 (As := []) (rest := []) (c_ASB_isLatin1 l) (va_recv hK hP (ci := 1) (q0 := 0) rfl rfl) (fun U hU hW => ⟨hE.to hS.2.1 hU hW (fun _ h => h.elim), by rw [hU]; exact hP.sub [0] rfl⟩) (Nat.le_of_ble_eq_true rfl) (Nat.le_of_ble_eq_true rfl) (by dsimp only [rmd] <;> omega) (by dsimp only [rmd] <;> omega) rfl hl.1 rfl (Nat.le_of_ble_eq_true rfl) d_ASB_appC_11)) (fun r0 h0 => ?_)
    subst h0
    refine lv_if_eq (tgt := 45) S.1 S.2.1 d_ASB_appC_14 (by decide) (fun c => absurd c (by decide)) (fun _ => ?_)
    refine lv_iload_n S.1 S.2.1 d_ASB_appC_17 rfl (lv_at hl 1 rfl) ?_
    refine vp_callSi (va_Run.run (rn_S S sc_ASB_191 (As := [.int (nI x)]) (rest := []) (c_L1_canC l hx) (fun U hU hW => trivial) (Nat.le_of_ble_eq_true rfl) (Nat.le_of_ble_eq_true rfl) (by dsimp only [rmd] <;> omega) (by dsimp only [rmd] <;> omega) rfl hl.1 rfl (Nat.le_of_ble_eq_true rfl) d_ASB_appC_18)) (fun r0 h0 => ?_)
    subst h0
    refine lv_if_eq (tgt := 45) S.1 S.2.1 d_ASB_appC_21 (by decide) (fun c => absurd c (by decide)) (fun _ => ?_)
    refine lv_aload_n S.1 S.2.1 d_ASB_appC_24 rfl (lv_at hl 0 rfl) ?_
    refine q_get S hK hP 0 rfl fs_ASB_15 (v := .ref v) rfl d_ASB_appC_25 ?_
    refine lv_aload_n S.1 S.2.1 d_ASB_appC_28 rfl (lv_at hl 0 rfl) ?_
    refine lv_dup S.1 S.2.1 d_ASB_appC_29 rfl ?_
    refine q_get S hK hP 0 rfl fs_ASB_79 (v := .int (nI cnt)) rfl d_ASB_appC_30 ?_
    refine lv_dup_x1 S.1 S.2.1 d_ASB_appC_33 rfl rfl ?_
    refine lv_iconst (v := 1) S.1 S.2.1 d_ASB_appC_34 (by decide) ?_
    refine lv_iadd S.1 S.2.1 d_ASB_appC_35 ?_
    refine q_top (x' := nI (cnt + 1)) (nI_1 cnt) ?_
    refine q_put S hK hP hD hS 0 rfl fs_ASB_79 (v := .int (nI (cnt + 1))) rfl rfl (Nat.le_of_ble_eq_true rfl) d_ASB_appC_36 (fun H locs hP hD hS => ?_)
    have hP : va_P D classes [(h, .inr (1, [.ref v, .int 0, .int ml, .int (nI (cnt + 1))])), (v, .inl (cB, cap, .inl f))] H := hP
    have hD : va_D A [(h, .inr (1, [.ref v, .int 0, .int ml, .int (nI (cnt + 1))])), (v, .inl (cB, cap, .inl f))] := hD
    refine lv_iload_n S.1 S.2.1 d_ASB_appC_39 rfl (lv_at hl 1 rfl) ?_
    refine lv_i2b (v := nI x) S.1 S.2.1 d_ASB_appC_40 (as_b _ hx) ?_
    refine q_bast S hK hP hD hS 1 rfl (i := cnt) (v := x) (by omega) (by omega) hx d_ASB_appC_41 (fun H locs hP hD hS => ?_)
    have hP : va_P D classes [(h, .inr (1, [.ref v, .int 0, .int ml, .int (nI (cnt + 1))])), (v, .inl (cB, cap, .inl (upd f cnt (nI x))))] H := hP
    have hD : va_D A [(h, .inr (1, [.ref v, .int 0, .int ml, .int (nI (cnt + 1))])), (v, .inl (cB, cap, .inl (upd f cnt (nI x))))] := hD
    refine lv_goto (tgt := 75) S.1 S.2.1 d_ASB_appC_42 (by decide) ?_
    refine lv_aload_n S.1 S.2.1 d_ASB_appC_75 rfl (lv_at hl 0 rfl) ?_
    have htx2 := txo_add htx (show cnt < cap by omega) hx
    have ecap : (if cnt < cap then cap else 2 * cap + 2) = cap := if_pos hlt
    have hP : va_P D classes [(h, .inr (1, [.ref v, .int 0, .int ml, .int (nI (cnt + 1))])), (v, .inl (cB, (if cnt < cap then cap else 2 * cap + 2), .inl (upd f cnt (nI x))))] H := by rw [ecap]; exact hP
    have hD : va_D A [(h, .inr (1, [.ref v, .int 0, .int ml, .int (nI (cnt + 1))])), (v, .inl (cB, (if cnt < cap then cap else 2 * cap + 2), .inl (upd f cnt (nI x))))] := by rw [ecap]; exact hD
    have htx2 : txo (if cnt < cap then cap else 2 * cap + 2) (cnt + 1) (upd f cnt (nI x)) (va_up tx cnt x) := by rw [ecap]; exact htx2
    refine W.widen (k := 1) (n := (if cnt < cap then 0 else 2 * cap + 2)) (by omega) (by omega) ?_
    exact W.aret S.1 S.2.1 hr (Or.inl ⟨_, rfl⟩) (Or.inr ⟨_, rfl⟩) (fun t ht hW => ⟨⟨(), h, rfl, trivial, rfl, v, _, by rw [ht]; exact hP, hD, htx2⟩, hS.F ht⟩) hS.2.2 d_ASB_appC_76 hlk
  ·
    have hce : cnt = cap := by omega
    have hmx : max (cnt + 1 - cap) (cap + 2) = cap + 2 := by omega
    have ecap : (if cnt < cap then cap else 2 * cap + 2) = 2 * cap + 2 := if_neg hlt
    have ems : (if cnt < cap then 0 else 2 * cap + 2) = 2 * cap + 2 := if_neg hlt
    have hPc := hP.sub (ws' := [(h, .inr (1, [.ref v, .int 0, .int ml, .int (nI cnt)])), (v, .inl (cB, cap, .inl f))]) [0, 1] rfl
    have hDc := hD.sub (ws' := [(h, .inr (1, [.ref v, .int 0, .int ml, .int (nI cnt)])), (v, .inl (cB, cap, .inl f))]) [0, 1] (by decide) rfl
    have hFc := va_free (wc := [(h, .inr (1, [.ref v, .int 0, .int ml, .int (nI cnt)])), (v, .inl (cB, cap, .inl f))]) hD hS hA [0, 1] rfl
    refine va_callv (rn_U S sc_ASB_100 (As := [.int (nI (cnt + 1))]) (rest := []) (c_ASB_ensure1 l (q := cnt + 1) (by omega) (by omega) htx.2.2.1) (va_recv hK hP (ci := 1) (q0 := 0) rfl rfl) (fun U hU hW => ⟨by rw [hU], hE.to hS.2.1 hU hW hFc, by rw [hU]; exact hPc, hDc.weaken (fun _ _ _ _ => trivial)⟩) (Nat.le_of_ble_eq_true rfl) (Nat.le_of_ble_eq_true rfl) (by dsimp only [rmd] <;> omega) (by dsimp only [rmd] <;> omega) rfl hl.1 rfl (Nat.le_of_ble_eq_true rfl) d_ASB_appC_7) hS (fun q _ h => hFc q h) hFc (fun _ t_ H_11 locs ht_12 hv_15 _ hB hz_14 hk_13 hS => ?_)
    obtain ⟨w, g, hP1, hD1, hg1, hg2⟩ := hB
    rw [ht_12] at hP1
    obtain ⟨hP, hD⟩ := va_join (wr := []) (w1 := [(h, .inr (1, [.ref w, .int 0, .int ml, .int (nI cnt)])), (w, .inl (cB, cap + max (cnt + 1 - cap) (cap + 2), .inl g))]) hP hD [0, 1] [] rfl rfl (by decide) (by decide) hk_13 hFc hP1 hD1
    have hP : va_P D classes [(h, .inr (1, [.ref w, .int 0, .int ml, .int (nI cnt)])), (w, .inl (cB, cap + max (cnt + 1 - cap) (cap + 2), .inl g))] H_11 := hP
    have hD : va_D A [(h, .inr (1, [.ref w, .int 0, .int ml, .int (nI cnt)])), (w, .inl (cB, cap + max (cnt + 1 - cap) (cap + 2), .inl g))] := hD
    have htx1 := txo_grow (cap' := 2 * cap + 2) htx (by omega) (by omega) hg1 hg2
    have enc : cap + max (cnt + 1 - cap) (cap + 2) = 2 * cap + 2 := by omega
    rw [enc] at hP hD
    have hP : va_P D classes [(h, .inr (1, [.ref w, .int 0, .int ml, .int (nI cnt)])), (w, .inl (cB, 2 * cap + 2, .inl g))] H_11 := hP
    have hD : va_D A [(h, .inr (1, [.ref w, .int 0, .int ml, .int (nI cnt)])), (w, .inl (cB, 2 * cap + 2, .inl g))] := hD
    refine lv_aload_n S.1 S.2.1 d_ASB_appC_10 rfl (lv_at hl 0 rfl) ?_
    refine vp_callSi (va_Run.run (rn_U S sc_ASB_83 (As := []) (rest := []) (c_ASB_isLatin1 l) (va_recv hK hP (ci := 1) (q0 := 0) rfl rfl) (fun U hU hW => ⟨hE.to hS.2.1 hU hW (fun _ h => h.elim), by rw [hU]; exact hP.sub [0] rfl⟩) (Nat.le_of_ble_eq_true rfl) (Nat.le_of_ble_eq_true rfl) (by dsimp only [rmd] <;> omega) (by dsimp only [rmd] <;> omega) rfl hl.1 rfl (Nat.le_of_ble_eq_true rfl) d_ASB_appC_11)) (fun r0 h0 => ?_)
    subst h0
    refine lv_if_eq (tgt := 45) S.1 S.2.1 d_ASB_appC_14 (by decide) (fun c => absurd c (by decide)) (fun _ => ?_)
    refine lv_iload_n S.1 S.2.1 d_ASB_appC_17 rfl (lv_at hl 1 rfl) ?_
    refine vp_callSi (va_Run.run (rn_S S sc_ASB_191 (As := [.int (nI x)]) (rest := []) (c_L1_canC l hx) (fun U hU hW => trivial) (Nat.le_of_ble_eq_true rfl) (Nat.le_of_ble_eq_true rfl) (by dsimp only [rmd] <;> omega) (by dsimp only [rmd] <;> omega) rfl hl.1 rfl (Nat.le_of_ble_eq_true rfl) d_ASB_appC_18)) (fun r0 h0 => ?_)
    subst h0
    refine lv_if_eq (tgt := 45) S.1 S.2.1 d_ASB_appC_21 (by decide) (fun c => absurd c (by decide)) (fun _ => ?_)
    refine lv_aload_n S.1 S.2.1 d_ASB_appC_24 rfl (lv_at hl 0 rfl) ?_
    refine q_get S hK hP 0 rfl fs_ASB_15 (v := .ref w) rfl d_ASB_appC_25 ?_
    refine lv_aload_n S.1 S.2.1 d_ASB_appC_28 rfl (lv_at hl 0 rfl) ?_
    refine lv_dup S.1 S.2.1 d_ASB_appC_29 rfl ?_
    refine q_get S hK hP 0 rfl fs_ASB_79 (v := .int (nI cnt)) rfl d_ASB_appC_30 ?_
    refine lv_dup_x1 S.1 S.2.1 d_ASB_appC_33 rfl rfl ?_
    refine lv_iconst (v := 1) S.1 S.2.1 d_ASB_appC_34 (by decide) ?_
    refine lv_iadd S.1 S.2.1 d_ASB_appC_35 ?_
    refine q_top (x' := nI (cnt + 1)) (nI_1 cnt) ?_
    refine q_put S hK hP hD hS 0 rfl fs_ASB_79 (v := .int (nI (cnt + 1))) rfl rfl (Nat.le_of_ble_eq_true rfl) d_ASB_appC_36 (fun H locs hP hD hS => ?_)
    have hP : va_P D classes [(h, .inr (1, [.ref w, .int 0, .int ml, .int (nI (cnt + 1))])), (w, .inl (cB, 2 * cap + 2, .inl g))] H := hP
    have hD : va_D A [(h, .inr (1, [.ref w, .int 0, .int ml, .int (nI (cnt + 1))])), (w, .inl (cB, 2 * cap + 2, .inl g))] := hD
    refine lv_iload_n S.1 S.2.1 d_ASB_appC_39 rfl (lv_at hl 1 rfl) ?_
    refine lv_i2b (v := nI x) S.1 S.2.1 d_ASB_appC_40 (as_b _ hx) ?_
    refine q_bast S hK hP hD hS 1 rfl (i := cnt) (v := x) (by omega) (by omega) hx d_ASB_appC_41 (fun H locs hP hD hS => ?_)
    have hP : va_P D classes [(h, .inr (1, [.ref w, .int 0, .int ml, .int (nI (cnt + 1))])), (w, .inl (cB, 2 * cap + 2, .inl (upd g cnt (nI x))))] H := hP
    have hD : va_D A [(h, .inr (1, [.ref w, .int 0, .int ml, .int (nI (cnt + 1))])), (w, .inl (cB, 2 * cap + 2, .inl (upd g cnt (nI x))))] := hD
    refine lv_goto (tgt := 75) S.1 S.2.1 d_ASB_appC_42 (by decide) ?_
    refine lv_aload_n S.1 S.2.1 d_ASB_appC_75 rfl (lv_at hl 0 rfl) ?_
    have htx2 := txo_add htx1 (show cnt < 2 * cap + 2 by omega) hx
    have e0 : True := trivial
    have hP : va_P D classes [(h, .inr (1, [.ref w, .int 0, .int ml, .int (nI (cnt + 1))])), (w, .inl (cB, (if cnt < cap then cap else 2 * cap + 2), .inl (upd g cnt (nI x))))] H := by rw [ecap]; exact hP
    have hD : va_D A [(h, .inr (1, [.ref w, .int 0, .int ml, .int (nI (cnt + 1))])), (w, .inl (cB, (if cnt < cap then cap else 2 * cap + 2), .inl (upd g cnt (nI x))))] := by rw [ecap]; exact hD
    have htx2 : txo (if cnt < cap then cap else 2 * cap + 2) (cnt + 1) (upd g cnt (nI x)) (va_up tx cnt x) := by rw [ecap]; exact htx2
    refine W.widen (k := 1) (n := (if cnt < cap then 0 else 2 * cap + 2)) (by omega) (by omega) ?_
    exact W.aret S.1 S.2.1 hr (Or.inl ⟨_, rfl⟩) (Or.inr ⟨_, rfl⟩) (fun t ht hW => ⟨⟨(), h, rfl, trivial, rfl, w, _, by rw [ht]; exact hP, hD, htx2⟩, hS.F ht⟩) hS.2.2 d_ASB_appC_76 hlk
set_option maxHeartbeats 4000000 in
set_option maxRecDepth 100000 in
/-- StringBuilder.append(char) -/
theorem c_SB_appC (l : Launch) {D : va_G} {cB cC : ClassId} {sz : Nat} {h v cnt cap x : Nat} {ml : Int32} {f : Nat → Int32} {tx : Nat → Nat} (hx : x < 128) (hcap : cap < 2 ^ 18) (htx : txo cap cnt f tx) : Ct l y_SB_appC b_SB_appC 2 (Option.some (FieldType.object "java/lang/StringBuilder")) 5 1 (if cnt < cap then 0 else 2 * cap + 2) [.ref h, .int (nI x)] (fun U => U.heap.size = sz ∧ en D cB cC (va_A [(h, .inr (1, [.ref v, .int 0, .int ml, .int (nI cnt)])), (v, .inl (cB, cap, .inl f))] sz) U U.heap ∧ va_P D classes [(h, .inr (1, [.ref v, .int 0, .int ml, .int (nI cnt)])), (v, .inl (cB, cap, .inl f))] U.heap ∧ va_D (fun _ => True) [(h, .inr (1, [.ref v, .int 0, .int ml, .int (nI cnt)])), (v, .inl (cB, cap, .inl f))]) (va_Qr (fun _ : Unit => True) (fun _ q t => q = h ∧ ∃ w g, va_P D classes [(h, .inr (1, [.ref w, .int 0, .int ml, .int (nI (cnt + 1))])), (w, .inl (cB, (if cnt < cap then cap else 2 * cap + 2), .inl g))] t.heap ∧ va_D (va_A [(h, .inr (1, [.ref v, .int 0, .int ml, .int (nI cnt)])), (v, .inl (cB, cap, .inl f))] sz) [(h, .inr (1, [.ref w, .int 0, .int ml, .int (nI (cnt + 1))])), (w, .inl (cB, (if cnt < cap then cap else 2 * cap + 2), .inl g))] ∧ txo (if cnt < cap then cap else 2 * cap + 2) (cnt + 1) g (va_up tx cnt x)) (va_A [(h, .inr (1, [.ref v, .int 0, .int ml, .int (nI cnt)])), (v, .inl (cB, cap, .inl f))] sz)) (va_A [(h, .inr (1, [.ref v, .int 0, .int ml, .int (nI cnt)])), (v, .inl (cB, cap, .inl f))] sz) := by
  refine ct_of (by decide) (Nat.le_of_ble_eq_true rfl) (fun _ _ _ _ h => h) ?_
  intro p e s m below meth c ls S hr hlk hnm hB hl
  have hl : lv_has ls 2 [(0, .ref h), (1, .int (nI x))] := hl
  obtain ⟨hsz, hE, hP, hD0⟩ := hB
  subst hsz
  have hD := hD0.self (sz := s.heap.size)
  generalize hAe : va_A [(h, .inr (1, [.ref v, .int 0, .int ml, .int (nI cnt)])), (v, .inl (cB, cap, .inl f))] s.heap.size = A at hD hE ⊢
  have hA : ∀ q : Nat, s.heap.size ≤ q → A q := fun q h => by rw [← hAe]; exact Or.inr h
  have hS : va_S A s.heap s.heap [] := va_S.rf
  have hK := hE.1
  have hP : va_P D classes [(h, .inr (1, [.ref v, .int 0, .int ml, .int (nI cnt)])), (v, .inl (cB, cap, .inl f))] s.heap := hP
  refine lv_aload_n S.1 S.2.1 d_SB_appC_0 rfl (lv_at hl 0 rfl) ?_
  refine lv_iload_n S.1 S.2.1 d_SB_appC_1 rfl (lv_at hl 1 rfl) ?_
  have hPc := hP.sub (ws' := [(h, .inr (1, [.ref v, .int 0, .int ml, .int (nI cnt)])), (v, .inl (cB, cap, .inl f))]) [0, 1] rfl
  have hDc := hD.sub (ws' := [(h, .inr (1, [.ref v, .int 0, .int ml, .int (nI cnt)])), (v, .inl (cB, cap, .inl f))]) [0, 1] (by decide) rfl
  have hFc := va_free (wc := [(h, .inr (1, [.ref v, .int 0, .int ml, .int (nI cnt)])), (v, .inl (cB, cap, .inl f))]) hD hS hA [0, 1] rfl
  refine va_callr (rn_P (hK.1 1 _ rfl).2 S sc_SB_50 (As := [.int (nI x)]) (rest := []) (c_ASB_appC l hx hcap htx) (va_recv hK hP (ci := 1) (q0 := 0) rfl rfl) (fun U hU hW => ⟨by rw [hU], hE.to hS.2.1 hU hW hFc, by rw [hU]; exact hPc, hDc.weaken (fun _ _ _ _ => trivial)⟩) (Nat.le_of_ble_eq_true rfl) (Nat.le_of_ble_eq_true rfl) (by dsimp only [rmd] <;> omega) (by dsimp only [rmd] <;> omega) rfl hl.1 rfl (Nat.le_of_ble_eq_true rfl) d_SB_appC_2) hS (fun q _ h => hFc q h) hFc (fun _ r0 t_ H_16 locs ht_17 hv_20 _ hB hz_19 hk_18 hS => ?_)
  obtain ⟨_, w, g, hP1, hD1, htx2⟩ := hB
  rw [ht_17] at hP1
  obtain ⟨hP, hD⟩ := va_join (wr := []) (w1 := [(h, .inr (1, [.ref w, .int 0, .int ml, .int (nI (cnt + 1))])), (w, .inl (cB, (if cnt < cap then cap else 2 * cap + 2), .inl g))]) hP hD [0, 1] [] rfl rfl (by decide) (by decide) hk_18 hFc hP1 hD1
  have hP : va_P D classes [(h, .inr (1, [.ref w, .int 0, .int ml, .int (nI (cnt + 1))])), (w, .inl (cB, (if cnt < cap then cap else 2 * cap + 2), .inl g))] H_16 := hP
  have hD : va_D A [(h, .inr (1, [.ref w, .int 0, .int ml, .int (nI (cnt + 1))])), (w, .inl (cB, (if cnt < cap then cap else 2 * cap + 2), .inl g))] := hD
  refine lv_pop S.1 S.2.1 d_SB_appC_5 rfl ?_
  refine lv_aload_n S.1 S.2.1 d_SB_appC_6 rfl (lv_at hl 0 rfl) ?_
  refine W.widen (k := 1) (n := (if cnt < cap then 0 else 2 * cap + 2)) (by omega) (by omega) ?_
  exact W.aret S.1 S.2.1 hr (Or.inl ⟨_, rfl⟩) (Or.inr ⟨_, rfl⟩) (fun t ht hW => ⟨⟨(), h, rfl, trivial, rfl, w, g, by rw [ht]; exact hP, hD, htx2⟩, hS.F ht⟩) hS.2.2 d_SB_appC_7 hlk
set_option maxHeartbeats 4000000 in
set_option maxRecDepth 100000 in
/-- AbstractStringBuilder.setLength(0) -/
theorem c_ASB_setLen (l : Launch) {D : va_G} {cB cC : ClassId} {sz : Nat} {h v cnt cap : Nat} {ml : Int32} {f : Nat → Int32} (hcap : cap < 2 ^ 20) (hcnt : cnt ≤ cap) : Ct l y_ASB_setLen b_ASB_setLen 2 (Option.none : Option FieldType) 1 0 0 [.ref h, .int (nI 0)] (fun U => U.heap.size = sz ∧ en D cB cC (va_A [(h, .inr (1, [.ref v, .int 0, .int ml, .int (nI cnt)])), (v, .inl (cB, cap, .inl f))] sz) U U.heap ∧ va_P D classes [(h, .inr (1, [.ref v, .int 0, .int ml, .int (nI cnt)])), (v, .inl (cB, cap, .inl f))] U.heap ∧ va_D (fun _ => True) [(h, .inr (1, [.ref v, .int 0, .int ml, .int (nI cnt)])), (v, .inl (cB, cap, .inl f))]) (va_Qv (fun _ : Unit => True) (fun _ t => ∃ ml2, va_P D classes [(h, .inr (1, [.ref v, .int 0, .int ml2, .int (nI 0)])), (v, .inl (cB, cap, .inl f))] t.heap ∧ va_D (va_A [(h, .inr (1, [.ref v, .int 0, .int ml, .int (nI cnt)])), (v, .inl (cB, cap, .inl f))] sz) [(h, .inr (1, [.ref v, .int 0, .int ml2, .int (nI 0)])), (v, .inl (cB, cap, .inl f))]) (va_A [(h, .inr (1, [.ref v, .int 0, .int ml, .int (nI cnt)])), (v, .inl (cB, cap, .inl f))] sz)) (va_A [(h, .inr (1, [.ref v, .int 0, .int ml, .int (nI cnt)])), (v, .inl (cB, cap, .inl f))] sz) := by
  refine ct_of (by decide) (Nat.le_of_ble_eq_true rfl) (fun _ _ _ _ h => h) ?_
  intro p e s m below meth c ls S hr hlk hnm hB hl
  have hl : lv_has ls 2 [(0, .ref h), (1, .int (nI 0))] := hl
  obtain ⟨hsz, hE, hP, hD0⟩ := hB
  subst hsz
  have hD := hD0.self (sz := s.heap.size)
  generalize hAe : va_A [(h, .inr (1, [.ref v, .int 0, .int ml, .int (nI cnt)])), (v, .inl (cB, cap, .inl f))] s.heap.size = A at hD hE ⊢
  have hA : ∀ q : Nat, s.heap.size ≤ q → A q := fun q h => by rw [← hAe]; exact Or.inr h
  have hS : va_S A s.heap s.heap [] := va_S.rf
  have hK := hE.1
  have hP : va_P D classes [(h, .inr (1, [.ref v, .int 0, .int ml, .int (nI cnt)])), (v, .inl (cB, cap, .inl f))] s.heap := hP
  refine lv_iload_n S.1 S.2.1 d_ASB_setLen_0 rfl (lv_at hl 1 rfl) ?_
  refine lv_if_ge (tgt := 13) S.1 S.2.1 d_ASB_setLen_1 (by decide) (fun _ => ?_) (fun c => absurd (by decide) c)
  refine lv_aload_n S.1 S.2.1 d_ASB_setLen_13 rfl (lv_at hl 0 rfl) ?_
  refine lv_iload_n S.1 S.2.1 d_ASB_setLen_14 rfl (lv_at hl 1 rfl) ?_
  refine va_csv (va_Run.run (rn_U S sc_ASB_100 (As := [.int (nI 0)]) (rest := []) (c_ASB_ensure0 l (q := 0) (Nat.zero_le _) hcap (f := f)) (va_recv hK hP (ci := 1) (q0 := 0) rfl rfl) (fun U hU hW => ⟨hE.to hS.2.1 hU hW (fun _ h => h.elim), by rw [hU]; exact hP⟩) (Nat.le_of_ble_eq_true rfl) (Nat.le_of_ble_eq_true rfl) (by dsimp only [rmd] <;> omega) (by dsimp only [rmd] <;> omega) rfl hl.1 rfl (Nat.le_of_ble_eq_true rfl) d_ASB_setLen_15)) (fun _ => ?_)
  refine lv_aload_n S.1 S.2.1 d_ASB_setLen_18 rfl (lv_at hl 0 rfl) ?_
  refine q_get S hK hP 0 rfl fs_ASB_79 (v := .int (nI cnt)) rfl d_ASB_setLen_19 ?_
  refine lv_iload_n S.1 S.2.1 d_ASB_setLen_22 rfl (lv_at hl 1 rfl) ?_
  refine lv_icmp_ge (tgt := 63) S.1 S.2.1 d_ASB_setLen_23 (by decide) (fun _ => ?_) (fun c => absurd (nI_pos' (by omega)) c)
  refine lv_aload_n S.1 S.2.1 d_ASB_setLen_63 rfl (lv_at hl 0 rfl) ?_
  refine q_get S hK hP 0 rfl fs_ASB_79 (v := .int (nI cnt)) rfl d_ASB_setLen_64 ?_
  refine lv_iload_n S.1 S.2.1 d_ASB_setLen_67 rfl (lv_at hl 1 rfl) ?_
  refine lv_icmp_le (tgt := 76) S.1 S.2.1 d_ASB_setLen_68 (by decide) (fun cc => ?_) (fun cc => ?_)
  ·
    refine lv_aload_n S.1 S.2.1 d_ASB_setLen_76 rfl (lv_at hl 0 rfl) ?_
    refine lv_iload_n S.1 S.2.1 d_ASB_setLen_77 rfl (lv_at hl 1 rfl) ?_
    refine q_put S hK hP hD hS 0 rfl fs_ASB_79 (v := .int (nI 0)) rfl rfl (Nat.le_of_ble_eq_true rfl) d_ASB_setLen_78 (fun H locs hP hD hS => ?_)
    have hP : va_P D classes [(h, .inr (1, [.ref v, .int 0, .int ml, .int (nI 0)])), (v, .inl (cB, cap, .inl f))] H := hP
    have hD : va_D A [(h, .inr (1, [.ref v, .int 0, .int ml, .int (nI 0)])), (v, .inl (cB, cap, .inl f))] := hD
    refine W.widen (k := 0) (n := 0) (by omega) (by omega) ?_
    exact W.vret S.1 S.2.1 hr (fun t ht hW => ⟨⟨(), rfl, trivial, _, by rw [ht]; exact hP, hD⟩, hS.F ht⟩) hS.2.2 d_ASB_setLen_81 hlk
  ·
    refine lv_aload_n S.1 S.2.1 d_ASB_setLen_71 rfl (lv_at hl 0 rfl) ?_
    refine lv_iconst (v := 1) S.1 S.2.1 d_ASB_setLen_72 (by decide) ?_
    refine q_put S hK hP hD hS 0 rfl fs_ASB_73 (v := .int 1) rfl rfl (Nat.le_of_ble_eq_true rfl) d_ASB_setLen_73 (fun H locs hP hD hS => ?_)
    have hP : va_P D classes [(h, .inr (1, [.ref v, .int 0, .int 1, .int (nI cnt)])), (v, .inl (cB, cap, .inl f))] H := hP
    have hD : va_D A [(h, .inr (1, [.ref v, .int 0, .int 1, .int (nI cnt)])), (v, .inl (cB, cap, .inl f))] := hD
    refine lv_aload_n S.1 S.2.1 d_ASB_setLen_76 rfl (lv_at hl 0 rfl) ?_
    refine lv_iload_n S.1 S.2.1 d_ASB_setLen_77 rfl (lv_at hl 1 rfl) ?_
    refine q_put S hK hP hD hS 0 rfl fs_ASB_79 (v := .int (nI 0)) rfl rfl (Nat.le_of_ble_eq_true rfl) d_ASB_setLen_78 (fun H locs hP hD hS => ?_)
    have hP : va_P D classes [(h, .inr (1, [.ref v, .int 0, .int 1, .int (nI 0)])), (v, .inl (cB, cap, .inl f))] H := hP
    have hD : va_D A [(h, .inr (1, [.ref v, .int 0, .int 1, .int (nI 0)])), (v, .inl (cB, cap, .inl f))] := hD
    refine W.widen (k := 0) (n := 0) (by omega) (by omega) ?_
    exact W.vret S.1 S.2.1 hr (fun t ht hW => ⟨⟨(), rfl, trivial, _, by rw [ht]; exact hP, hD⟩, hS.F ht⟩) hS.2.2 d_ASB_setLen_81 hlk
set_option maxHeartbeats 4000000 in
set_option maxRecDepth 100000 in
/-- StringBuilder.setLength(0) -/
theorem c_SB_setLen (l : Launch) {D : va_G} {cB cC : ClassId} {sz : Nat} {h v cnt cap : Nat} {ml : Int32} {f : Nat → Int32} (hcap : cap < 2 ^ 20) (hcnt : cnt ≤ cap) : Ct l y_SB_setLen b_SB_setLen 2 (Option.none : Option FieldType) 2 0 0 [.ref h, .int (nI 0)] (fun U => U.heap.size = sz ∧ en D cB cC (va_A [(h, .inr (1, [.ref v, .int 0, .int ml, .int (nI cnt)])), (v, .inl (cB, cap, .inl f))] sz) U U.heap ∧ va_P D classes [(h, .inr (1, [.ref v, .int 0, .int ml, .int (nI cnt)])), (v, .inl (cB, cap, .inl f))] U.heap ∧ va_D (fun _ => True) [(h, .inr (1, [.ref v, .int 0, .int ml, .int (nI cnt)])), (v, .inl (cB, cap, .inl f))]) (va_Qv (fun _ : Unit => True) (fun _ t => ∃ ml2, va_P D classes [(h, .inr (1, [.ref v, .int 0, .int ml2, .int (nI 0)])), (v, .inl (cB, cap, .inl f))] t.heap ∧ va_D (va_A [(h, .inr (1, [.ref v, .int 0, .int ml, .int (nI cnt)])), (v, .inl (cB, cap, .inl f))] sz) [(h, .inr (1, [.ref v, .int 0, .int ml2, .int (nI 0)])), (v, .inl (cB, cap, .inl f))]) (va_A [(h, .inr (1, [.ref v, .int 0, .int ml, .int (nI cnt)])), (v, .inl (cB, cap, .inl f))] sz)) (va_A [(h, .inr (1, [.ref v, .int 0, .int ml, .int (nI cnt)])), (v, .inl (cB, cap, .inl f))] sz) := by
  refine ct_of (by decide) (Nat.le_of_ble_eq_true rfl) (fun _ _ _ _ h => h) ?_
  intro p e s m below meth c ls S hr hlk hnm hB hl
  have hl : lv_has ls 2 [(0, .ref h), (1, .int (nI 0))] := hl
  obtain ⟨hsz, hE, hP, hD0⟩ := hB
  subst hsz
  have hD := hD0.self (sz := s.heap.size)
  generalize hAe : va_A [(h, .inr (1, [.ref v, .int 0, .int ml, .int (nI cnt)])), (v, .inl (cB, cap, .inl f))] s.heap.size = A at hD hE ⊢
  have hA : ∀ q : Nat, s.heap.size ≤ q → A q := fun q h => by rw [← hAe]; exact Or.inr h
  have hS : va_S A s.heap s.heap [] := va_S.rf
  have hK := hE.1
  have hP : va_P D classes [(h, .inr (1, [.ref v, .int 0, .int ml, .int (nI cnt)])), (v, .inl (cB, cap, .inl f))] s.heap := hP
  refine lv_aload_n S.1 S.2.1 d_SB_setLen_0 rfl (lv_at hl 0 rfl) ?_
  refine lv_iload_n S.1 S.2.1 d_SB_setLen_1 rfl (lv_at hl 1 rfl) ?_
  have hPc := hP.sub (ws' := [(h, .inr (1, [.ref v, .int 0, .int ml, .int (nI cnt)])), (v, .inl (cB, cap, .inl f))]) [0, 1] rfl
  have hDc := hD.sub (ws' := [(h, .inr (1, [.ref v, .int 0, .int ml, .int (nI cnt)])), (v, .inl (cB, cap, .inl f))]) [0, 1] (by decide) rfl
  have hFc := va_free (wc := [(h, .inr (1, [.ref v, .int 0, .int ml, .int (nI cnt)])), (v, .inl (cB, cap, .inl f))]) hD hS hA [0, 1] rfl
  refine va_callv (rn_P (hK.1 1 _ rfl).2 S sc_SB_333 (As := [.int (nI 0)]) (rest := []) (c_ASB_setLen l hcap hcnt) (va_recv hK hP (ci := 1) (q0 := 0) rfl rfl) (fun U hU hW => ⟨by rw [hU], hE.to hS.2.1 hU hW hFc, by rw [hU]; exact hPc, hDc.weaken (fun _ _ _ _ => trivial)⟩) (Nat.le_of_ble_eq_true rfl) (Nat.le_of_ble_eq_true rfl) (by dsimp only [rmd] <;> omega) (by dsimp only [rmd] <;> omega) rfl hl.1 rfl (Nat.le_of_ble_eq_true rfl) d_SB_setLen_2) hS (fun q _ h => hFc q h) hFc (fun _ t_ H_21 locs ht_22 hv_25 _ hB hz_24 hk_23 hS => ?_)
  obtain ⟨ml2, hP1, hD1⟩ := hB
  rw [ht_22] at hP1
  obtain ⟨hP, hD⟩ := va_join (wr := []) (w1 := [(h, .inr (1, [.ref v, .int 0, .int ml2, .int (nI 0)])), (v, .inl (cB, cap, .inl f))]) hP hD [0, 1] [] rfl rfl (by decide) (by decide) hk_23 hFc hP1 hD1
  have hP : va_P D classes [(h, .inr (1, [.ref v, .int 0, .int ml2, .int (nI 0)])), (v, .inl (cB, cap, .inl f))] H_21 := hP
  have hD : va_D A [(h, .inr (1, [.ref v, .int 0, .int ml2, .int (nI 0)])), (v, .inl (cB, cap, .inl f))] := hD
  refine W.widen (k := 0) (n := 0) (by omega) (by omega) ?_
  exact W.vret S.1 S.2.1 hr (fun t ht hW => ⟨⟨(), rfl, trivial, ml2, by rw [ht]; exact hP, hD⟩, hS.F ht⟩) hS.2.2 d_SB_setLen_5 hlk
end
section
theorem vn_P {D : va_G} {H : Heap} : va_P D classes [] H := fun k q h => by simp at h
theorem vn_D {A : Nat → Prop} : va_D A [] := ⟨fun i j p q h => by simp at h, fun k q h => by simp at h⟩
set_option maxHeartbeats 4000000 in
set_option maxRecDepth 100000 in
/-- inflateIfNeededFor: both are Latin-1 -/
theorem c_ASB_infl (l : Launch) {D : va_G} {cB cC : ClassId} {h v cnt a va k : Nat} {ml : Int32} {u : Nat → Nat} : Ct l y_ASB_infl b_ASB_infl 2 (Option.none : Option FieldType) 1 0 0 [.ref h, .ref a] (fun U => en D cB cC nF U U.heap ∧ va_P D classes [(h, .inr (1, [.ref v, .int 0, .int ml, .int (nI cnt)]))] U.heap ∧ zsv a va k u nF U U.heap) (va_Sv (fun _ => True)) nF := by
  refine ct_of (by decide) (Nat.le_of_ble_eq_true rfl) (fun _ _ _ _ h => h) ?_
  intro p e s m below meth c ls S hr hlk hnm hB hl
  have hl : lv_has ls 2 [(0, .ref h), (1, .ref a)] := hl
  obtain ⟨hE, hP, hz⟩ := hB
  have hK := hE.1
  have hS : va_S nF s.heap s.heap [] := va_S.rf
  refine q_cs S hE hS k_31 d_ASB_infl_0 ?_
  refine lv_if_eq (tgt := 21) S.1 S.2.1 d_ASB_infl_3 (by decide) (fun c => absurd c (by decide)) (fun _ => ?_)
  refine lv_aload_n S.1 S.2.1 d_ASB_infl_6 rfl (lv_at hl 0 rfl) ?_
  refine q_get S hK hP 0 rfl fs_ASB_22 (v := .int 0) rfl d_ASB_infl_7 ?_
  refine lv_aload_n S.1 S.2.1 d_ASB_infl_10 rfl (lv_at hl 1 rfl) ?_
  refine vp_callSi (va_Run.run (rn_V S sc_ASB_40 (As := []) (rest := [.int 0]) (c_STR_coder l) (hz.recv) (fun U hU hW => ⟨hE.to hS.2.1 hU hW (fun _ h => h.elim), hz.to hS.2.1 hU hW.alike (fun _ h => h.elim)⟩) (Nat.le_of_ble_eq_true rfl) (Nat.le_of_ble_eq_true rfl) (by dsimp only [rmd] <;> omega) (by dsimp only [rmd] <;> omega) rfl hl.1 rfl (Nat.le_of_ble_eq_true rfl) d_ASB_infl_11)) (fun r0 h0 => ?_)
  subst h0
  refine lv_icmp_eq (tgt := 21) S.1 S.2.1 d_ASB_infl_14 (by decide) (fun _ => ?_) (fun c => absurd (rfl) c)
  exact q_rv S hr hlk d_ASB_infl_21
set_option maxHeartbeats 4000000 in
set_option maxRecDepth 100000 in
/-- String.getBytes into an array of the world -/
theorem c_STR_getBytes (l : Launch) {D : va_G} {cB cC : ClassId} {sz : Nat} {v cap a va k q : Nat} {u : Nat → Nat} {f : Nat → Int32} (hq : q + k ≤ cap) (hcap : cap < 2 ^ 20) : Ct l y_STR_getBytes b_STR_getBytes 4 (Option.none : Option FieldType) 1 0 0 [.ref a, .ref v, .int (nI q), .int 0] (fun U => U.heap.size = sz ∧ en D cB cC (va_A [(v, .inl (cB, cap, .inl f))] sz) U U.heap ∧ va_P D classes [(v, .inl (cB, cap, .inl f))] U.heap ∧ va_D (fun _ => True) [(v, .inl (cB, cap, .inl f))] ∧ zsv a va k u (va_A [(v, .inl (cB, cap, .inl f))] sz) U U.heap) (va_Qv (fun _ : Unit => True) (fun _ t => va_P D classes [(v, .inl (cB, cap, .inl (va_cpy (fun j => nI (u j)) f 0 q k)))] t.heap ∧ va_D (va_A [(v, .inl (cB, cap, .inl f))] sz) [(v, .inl (cB, cap, .inl (va_cpy (fun j => nI (u j)) f 0 q k)))]) (va_A [(v, .inl (cB, cap, .inl f))] sz)) (va_A [(v, .inl (cB, cap, .inl f))] sz) := by
  refine ct_of (by decide) (Nat.le_of_ble_eq_true rfl) (fun _ _ _ _ h => h) ?_
  intro p e s m below meth c ls S hr hlk hnm hB hl
  have hl : lv_has ls 4 [(0, .ref a), (1, .ref v), (2, .int (nI q)), (3, .int 0)] := hl
  obtain ⟨hsz, hE, hP, hD0, hz⟩ := hB
  subst hsz
  have hD := hD0.self (sz := s.heap.size)
  generalize hAe : va_A [(v, .inl (cB, cap, .inl f))] s.heap.size = A at hD hE hz ⊢
  have hA : ∀ q : Nat, s.heap.size ≤ q → A q := fun q h => by rw [← hAe]; exact Or.inr h
  have hS : va_S A s.heap s.heap [] := va_S.rf
  have hK := hE.1
  have hP : va_P D classes [(v, .inl (cB, cap, .inl f))] s.heap := hP
  refine lv_aload_n S.1 S.2.1 d_STR_getBytes_0 rfl (lv_at hl 0 rfl) ?_
  refine vp_callSi (va_Run.run (rn_V S sc_STR_335 (As := []) (rest := []) (c_STR_coder l) (hz.recv) (fun U hU hW => ⟨hE.to hS.2.1 hU hW (fun _ h => h.elim), hz.to hS.2.1 hU hW.alike (fun _ h => h.elim)⟩) (Nat.le_of_ble_eq_true rfl) (Nat.le_of_ble_eq_true rfl) (by dsimp only [rmd] <;> omega) (by dsimp only [rmd] <;> omega) rfl hl.1 rfl (Nat.le_of_ble_eq_true rfl) d_STR_getBytes_1)) (fun r0 h0 => ?_)
  subst h0
  refine lv_iload_n S.1 S.2.1 d_STR_getBytes_4 rfl (lv_at hl 3 rfl) ?_
  refine lv_icmp_ne (tgt := 28) S.1 S.2.1 d_STR_getBytes_5 (by decide) (fun c => absurd (rfl) c) (fun _ => ?_)
  refine lv_aload_n S.1 S.2.1 d_STR_getBytes_8 rfl (lv_at hl 0 rfl) ?_
  refine q_zval S hz hS k_336 d_STR_getBytes_9 ?_
  refine lv_iconst (v := 0) S.1 S.2.1 d_STR_getBytes_12 (by decide) ?_
  refine lv_aload_n S.1 S.2.1 d_STR_getBytes_13 rfl (lv_at hl 1 rfl) ?_
  refine lv_iload_n S.1 S.2.1 d_STR_getBytes_14 rfl (lv_at hl 2 rfl) ?_
  refine lv_iload_n S.1 S.2.1 d_STR_getBytes_15 rfl (lv_at hl 3 rfl) ?_
  refine lv_ishl S.1 S.2.1 d_STR_getBytes_16 ?_
  refine q_top (x' := nI q) (sb_shl0 _) ?_
  refine lv_aload_n S.1 S.2.1 d_STR_getBytes_17 rfl (lv_at hl 0 rfl) ?_
  refine q_zval S hz hS k_336 d_STR_getBytes_18 ?_
  refine q_alen S hz.2.1 hS d_STR_getBytes_21 ?_
  refine q_copy S hl.1 k_498 hK hP hD hS hz.2.1 0 rfl (sp := 0) (dp := q) (k := k) (by omega) (by omega) (by omega) (Nat.le_of_ble_eq_true rfl) (Nat.le_of_ble_eq_true rfl) d_STR_getBytes_22 (fun H locs hP hD hS => ?_)
  have hP : va_P D classes [(v, .inl (cB, cap, .inl (va_cpy (fun j => nI (u j)) f 0 q k)))] H := hP
  have hD : va_D A [(v, .inl (cB, cap, .inl (va_cpy (fun j => nI (u j)) f 0 q k)))] := hD
  refine lv_goto (tgt := 43) S.1 S.2.1 d_STR_getBytes_25 (by decide) ?_
  refine W.widen (k := 0) (n := 0) (by omega) (by omega) ?_
  exact W.vret S.1 S.2.1 hr (fun t ht hW => ⟨⟨(), rfl, trivial, by rw [ht]; exact hP, hD⟩, hS.F ht⟩) hS.2.2 d_STR_getBytes_43 hlk
set_option maxHeartbeats 4000000 in
set_option maxRecDepth 100000 in
/-- putStringAt -/
theorem c_ASB_putStr (l : Launch) {D : va_G} {cB cC : ClassId} {sz : Nat} {h v cnt cap a va k q : Nat} {ml : Int32} {u : Nat → Nat} {f : Nat → Int32} (hq : q + k ≤ cap) (hcap : cap < 2 ^ 20) : Ct l y_ASB_putStr b_ASB_putStr 3 (Option.none : Option FieldType) 2 0 0 [.ref h, .int (nI q), .ref a] (fun U => U.heap.size = sz ∧ en D cB cC (va_A [(h, .inr (1, [.ref v, .int 0, .int ml, .int (nI cnt)])), (v, .inl (cB, cap, .inl f))] sz) U U.heap ∧ va_P D classes [(h, .inr (1, [.ref v, .int 0, .int ml, .int (nI cnt)])), (v, .inl (cB, cap, .inl f))] U.heap ∧ va_D (fun _ => True) [(h, .inr (1, [.ref v, .int 0, .int ml, .int (nI cnt)])), (v, .inl (cB, cap, .inl f))] ∧ zsv a va k u (va_A [(h, .inr (1, [.ref v, .int 0, .int ml, .int (nI cnt)])), (v, .inl (cB, cap, .inl f))] sz) U U.heap) (va_Qv (fun _ : Unit => True) (fun _ t => va_P D classes [(h, .inr (1, [.ref v, .int 0, .int ml, .int (nI cnt)])), (v, .inl (cB, cap, .inl (va_cpy (fun j => nI (u j)) f 0 q k)))] t.heap ∧ va_D (va_A [(h, .inr (1, [.ref v, .int 0, .int ml, .int (nI cnt)])), (v, .inl (cB, cap, .inl f))] sz) [(h, .inr (1, [.ref v, .int 0, .int ml, .int (nI cnt)])), (v, .inl (cB, cap, .inl (va_cpy (fun j => nI (u j)) f 0 q k)))]) (va_A [(h, .inr (1, [.ref v, .int 0, .int ml, .int (nI cnt)])), (v, .inl (cB, cap, .inl f))] sz)) (va_A [(h, .inr (1, [.ref v, .int 0, .int ml, .int (nI cnt)])), (v, .inl (cB, cap, .inl f))] sz) := by
  refine ct_of (by decide) (Nat.le_of_ble_eq_true rfl) (fun _ _ _ _ h => h) ?_
  intro p e s m below meth c ls S hr hlk hnm hB hl
  have hl : lv_has ls 3 [(0, .ref h), (1, .int (nI q)), (2, .ref a)] := hl
  obtain ⟨hsz, hE, hP, hD0, hz⟩ := hB
  subst hsz
  have hD := hD0.self (sz := s.heap.size)
  generalize hAe : va_A [(h, .inr (1, [.ref v, .int 0, .int ml, .int (nI cnt)])), (v, .inl (cB, cap, .inl f))] s.heap.size = A at hD hE hz ⊢
  have hA : ∀ q : Nat, s.heap.size ≤ q → A q := fun q h => by rw [← hAe]; exact Or.inr h
  have hS : va_S A s.heap s.heap [] := va_S.rf
  have hK := hE.1
  have hP : va_P D classes [(h, .inr (1, [.ref v, .int 0, .int ml, .int (nI cnt)])), (v, .inl (cB, cap, .inl f))] s.heap := hP
  refine lv_aload_n S.1 S.2.1 d_ASB_putStr_0 rfl (lv_at hl 0 rfl) ?_
  refine lv_aload_n S.1 S.2.1 d_ASB_putStr_1 rfl (lv_at hl 2 rfl) ?_
  refine va_csv (va_Run.run (rn_U S sc_ASB_397 (As := [.ref a]) (rest := []) (c_ASB_infl l (u := u)) (va_recv hK hP (ci := 1) (q0 := 0) rfl rfl) (fun U hU hW => ⟨hE.to hS.2.1 hU hW (fun _ h => h.elim), by rw [hU]; exact hP.sub [0] rfl, hz.to hS.2.1 hU hW.alike (fun _ h => h.elim)⟩) (Nat.le_of_ble_eq_true rfl) (Nat.le_of_ble_eq_true rfl) (by dsimp only [rmd] <;> omega) (by dsimp only [rmd] <;> omega) rfl hl.1 rfl (Nat.le_of_ble_eq_true rfl) d_ASB_putStr_2)) (fun _ => ?_)
  refine lv_aload_n S.1 S.2.1 d_ASB_putStr_5 rfl (lv_at hl 2 rfl) ?_
  refine lv_aload_n S.1 S.2.1 d_ASB_putStr_6 rfl (lv_at hl 0 rfl) ?_
  refine q_get S hK hP 0 rfl fs_ASB_15 (v := .ref v) rfl d_ASB_putStr_7 ?_
  refine lv_iload_n S.1 S.2.1 d_ASB_putStr_10 rfl (lv_at hl 1 rfl) ?_
  refine lv_aload_n S.1 S.2.1 d_ASB_putStr_11 rfl (lv_at hl 0 rfl) ?_
  refine q_get S hK hP 0 rfl fs_ASB_22 (v := .int 0) rfl d_ASB_putStr_12 ?_
  have hPc := hP.sub (ws' := [(v, .inl (cB, cap, .inl f))]) [1] rfl
  have hDc := hD.sub (ws' := [(v, .inl (cB, cap, .inl f))]) [1] (by decide) rfl
  have hFc := va_free (wc := [(v, .inl (cB, cap, .inl f))]) hD hS hA [1] rfl
  refine va_callv (rn_V S sc_ASB_399 (As := [.ref v, .int (nI q), .int 0]) (rest := []) (c_STR_getBytes l hq hcap (u := u)) (hz.recv) (fun U hU hW => ⟨by rw [hU], hE.to hS.2.1 hU hW hFc, by rw [hU]; exact hPc, hDc.weaken (fun _ _ _ _ => trivial), hz.to hS.2.1 hU hW.alike hFc⟩) (Nat.le_of_ble_eq_true rfl) (Nat.le_of_ble_eq_true rfl) (by dsimp only [rmd] <;> omega) (by dsimp only [rmd] <;> omega) rfl hl.1 rfl (Nat.le_of_ble_eq_true rfl) d_ASB_putStr_15) hS (fun q _ h => hFc q h) hFc (fun _ t_ H_26 locs ht_27 hv_30 _ hB hz_29 hk_28 hS => ?_)
  obtain ⟨hP1, hD1⟩ := hB
  rw [ht_27] at hP1
  obtain ⟨hP, hD⟩ := va_join (wr := [(h, .inr (1, [.ref v, .int 0, .int ml, .int (nI cnt)]))]) (w1 := [(v, .inl (cB, cap, .inl (va_cpy (fun j => nI (u j)) f 0 q k)))]) hP hD [1] [0] rfl rfl (by decide) (by decide) hk_28 hFc hP1 hD1
  have hP : va_P D classes [(h, .inr (1, [.ref v, .int 0, .int ml, .int (nI cnt)])), (v, .inl (cB, cap, .inl (va_cpy (fun j => nI (u j)) f 0 q k)))] H_26 := hP
  have hD : va_D A [(h, .inr (1, [.ref v, .int 0, .int ml, .int (nI cnt)])), (v, .inl (cB, cap, .inl (va_cpy (fun j => nI (u j)) f 0 q k)))] := hD
  refine W.widen (k := 0) (n := 0) (by omega) (by omega) ?_
  exact W.vret S.1 S.2.1 hr (fun t ht hW => ⟨⟨(), rfl, trivial, by rw [ht]; exact hP, hD⟩, hS.F ht⟩) hS.2.2 d_ASB_putStr_18 hlk
set_option maxHeartbeats 4000000 in
set_option maxRecDepth 100000 in
/-- AbstractStringBuilder.append(String), there is room -/
theorem c_ASB_appS (l : Launch) {D : va_G} {cB cC : ClassId} {sz : Nat} {h v cnt cap a va k : Nat} {ml : Int32} {u : Nat → Nat} {f : Nat → Int32} (hq : cnt + k ≤ cap) (hcap : cap < 2 ^ 20) : Ct l y_ASB_appS b_ASB_appS 3 (Option.some (FieldType.object "java/lang/AbstractStringBuilder")) 3 0 0 [.ref h, .ref a] (fun U => U.heap.size = sz ∧ en D cB cC (va_A [(h, .inr (1, [.ref v, .int 0, .int ml, .int (nI cnt)])), (v, .inl (cB, cap, .inl f))] sz) U U.heap ∧ va_P D classes [(h, .inr (1, [.ref v, .int 0, .int ml, .int (nI cnt)])), (v, .inl (cB, cap, .inl f))] U.heap ∧ va_D (fun _ => True) [(h, .inr (1, [.ref v, .int 0, .int ml, .int (nI cnt)])), (v, .inl (cB, cap, .inl f))] ∧ zsv a va k u (va_A [(h, .inr (1, [.ref v, .int 0, .int ml, .int (nI cnt)])), (v, .inl (cB, cap, .inl f))] sz) U U.heap) (va_Qr (fun _ : Unit => True) (fun _ q t => q = h ∧ va_P D classes [(h, .inr (1, [.ref v, .int 0, .int ml, .int (nI (cnt + k))])), (v, .inl (cB, cap, .inl (va_cpy (fun j => nI (u j)) f 0 cnt k)))] t.heap ∧ va_D (va_A [(h, .inr (1, [.ref v, .int 0, .int ml, .int (nI cnt)])), (v, .inl (cB, cap, .inl f))] sz) [(h, .inr (1, [.ref v, .int 0, .int ml, .int (nI (cnt + k))])), (v, .inl (cB, cap, .inl (va_cpy (fun j => nI (u j)) f 0 cnt k)))]) (va_A [(h, .inr (1, [.ref v, .int 0, .int ml, .int (nI cnt)])), (v, .inl (cB, cap, .inl f))] sz)) (va_A [(h, .inr (1, [.ref v, .int 0, .int ml, .int (nI cnt)])), (v, .inl (cB, cap, .inl f))] sz) := by
  refine ct_of (by decide) (Nat.le_of_ble_eq_true rfl) (fun _ _ _ _ h => h) ?_
  intro p e s m below meth c ls S hr hlk hnm hB hl
  have hl : lv_has ls 3 [(0, .ref h), (1, .ref a)] := hl
  obtain ⟨hsz, hE, hP, hD0, hz⟩ := hB
  subst hsz
  have hD := hD0.self (sz := s.heap.size)
  generalize hAe : va_A [(h, .inr (1, [.ref v, .int 0, .int ml, .int (nI cnt)])), (v, .inl (cB, cap, .inl f))] s.heap.size = A at hD hE hz ⊢
  have hA : ∀ q : Nat, s.heap.size ≤ q → A q := fun q h => by rw [← hAe]; exact Or.inr h
  have hS : va_S A s.heap s.heap [] := va_S.rf
  have hK := hE.1
  have hP : va_P D classes [(h, .inr (1, [.ref v, .int 0, .int ml, .int (nI cnt)])), (v, .inl (cB, cap, .inl f))] s.heap := hP
  refine lv_aload_n S.1 S.2.1 d_ASB_appS_0 rfl (lv_at hl 1 rfl) ?_
  refine lv_ifnonnull (tgt := 9) S.1 S.2.1 d_ASB_appS_1 (by decide) ?_
  refine lv_aload_n S.1 S.2.1 d_ASB_appS_9 rfl (lv_at hl 1 rfl) ?_
  refine vp_callSi (va_Run.run (rn_V S sc_ASB_32 (As := []) (rest := []) (c_STR_length l (t := u)) (hz.recv) (fun U hU hW => ⟨hE.to hS.2.1 hU hW (fun _ h => h.elim), hz.to hS.2.1 hU hW.alike (fun _ h => h.elim)⟩) (Nat.le_of_ble_eq_true rfl) (Nat.le_of_ble_eq_true rfl) (by dsimp only [rmd] <;> omega) (by dsimp only [rmd] <;> omega) rfl hl.1 rfl (Nat.le_of_ble_eq_true rfl) d_ASB_appS_10)) (fun r0 h0 => ?_)
  subst h0
  refine lv_istore_n (lv' := [(2, .int (nI k)), (0, .ref h), (1, .ref a)]) S.1 S.2.1 d_ASB_appS_13 rfl hl (by decide) rfl (fun ls hl => ?_)
  refine lv_aload_n S.1 S.2.1 d_ASB_appS_14 rfl (lv_at hl 1 rfl) ?_
  refine lv_aload_n S.1 S.2.1 d_ASB_appS_15 rfl (lv_at hl 1 rfl) ?_
  refine q_get S hK hP 0 rfl fs_ASB_79 (v := .int (nI cnt)) rfl d_ASB_appS_16 ?_
  refine lv_iload_n S.1 S.2.1 d_ASB_appS_19 rfl (lv_at hl 0 rfl) ?_
  refine lv_iadd S.1 S.2.1 d_ASB_appS_20 ?_
  refine q_top (x' := nI (cnt + k)) (nI_add _ _) ?_
  refine va_csv (va_Run.run (rn_U S sc_ASB_100 (As := [.int (nI (cnt + k))]) (rest := []) (c_ASB_ensure0 l hq hcap (f := f)) (va_recv hK hP (ci := 1) (q0 := 0) rfl rfl) (fun U hU hW => ⟨hE.to hS.2.1 hU hW (fun _ h => h.elim), by rw [hU]; exact hP⟩) (Nat.le_of_ble_eq_true rfl) (Nat.le_of_ble_eq_true rfl) (by dsimp only [rmd] <;> omega) (by dsimp only [rmd] <;> omega) rfl hl.1 rfl (Nat.le_of_ble_eq_true rfl) d_ASB_appS_21)) (fun _ => ?_)
  refine lv_aload_n S.1 S.2.1 d_ASB_appS_24 rfl (lv_at hl 1 rfl) ?_
  refine lv_aload_n S.1 S.2.1 d_ASB_appS_25 rfl (lv_at hl 1 rfl) ?_
  refine q_get S hK hP 0 rfl fs_ASB_79 (v := .int (nI cnt)) rfl d_ASB_appS_26 ?_
  refine lv_aload_n S.1 S.2.1 d_ASB_appS_29 rfl (lv_at hl 2 rfl) ?_
  have hPc := hP.sub (ws' := [(h, .inr (1, [.ref v, .int 0, .int ml, .int (nI cnt)])), (v, .inl (cB, cap, .inl f))]) [0, 1] rfl
  have hDc := hD.sub (ws' := [(h, .inr (1, [.ref v, .int 0, .int ml, .int (nI cnt)])), (v, .inl (cB, cap, .inl f))]) [0, 1] (by decide) rfl
  have hFc := va_free (wc := [(h, .inr (1, [.ref v, .int 0, .int ml, .int (nI cnt)])), (v, .inl (cB, cap, .inl f))]) hD hS hA [0, 1] rfl
  refine va_callv (rn_U S sc_ASB_208 (As := [.int (nI cnt), .ref a]) (rest := []) (c_ASB_putStr l hq hcap (u := u) (q := cnt)) (va_recv hK hP (ci := 1) (q0 := 0) rfl rfl) (fun U hU hW => ⟨by rw [hU], hE.to hS.2.1 hU hW hFc, by rw [hU]; exact hPc, hDc.weaken (fun _ _ _ _ => trivial), hz.to hS.2.1 hU hW.alike hFc⟩) (Nat.le_of_ble_eq_true rfl) (Nat.le_of_ble_eq_true rfl) (by dsimp only [rmd] <;> omega) (by dsimp only [rmd] <;> omega) rfl hl.1 rfl (Nat.le_of_ble_eq_true rfl) d_ASB_appS_30) hS (fun q _ h => hFc q h) hFc (fun _ t_ H_31 locs ht_32 hv_35 _ hB hz_34 hk_33 hS => ?_)
  obtain ⟨hP1, hD1⟩ := hB
  rw [ht_32] at hP1
  obtain ⟨hP, hD⟩ := va_join (wr := []) (w1 := [(h, .inr (1, [.ref v, .int 0, .int ml, .int (nI cnt)])), (v, .inl (cB, cap, .inl (va_cpy (fun j => nI (u j)) f 0 cnt k)))]) hP hD [0, 1] [] rfl rfl (by decide) (by decide) hk_33 hFc hP1 hD1
  have hP : va_P D classes [(h, .inr (1, [.ref v, .int 0, .int ml, .int (nI cnt)])), (v, .inl (cB, cap, .inl (va_cpy (fun j => nI (u j)) f 0 cnt k)))] H_31 := hP
  have hD : va_D A [(h, .inr (1, [.ref v, .int 0, .int ml, .int (nI cnt)])), (v, .inl (cB, cap, .inl (va_cpy (fun j => nI (u j)) f 0 cnt k)))] := hD
  refine lv_aload_n S.1 S.2.1 d_ASB_appS_33 rfl (lv_at hl 1 rfl) ?_
  refine lv_dup S.1 S.2.1 d_ASB_appS_34 rfl ?_
  refine q_get S hK hP 0 rfl fs_ASB_79 (v := .int (nI cnt)) rfl d_ASB_appS_35 ?_
  refine lv_iload_n S.1 S.2.1 d_ASB_appS_38 rfl (lv_at hl 0 rfl) ?_
  refine lv_iadd S.1 S.2.1 d_ASB_appS_39 ?_
  refine q_top (x' := nI (cnt + k)) (nI_add _ _) ?_
  refine q_put S hK hP hD hS 0 rfl fs_ASB_79 (v := .int (nI (cnt + k))) rfl rfl (Nat.le_of_ble_eq_true rfl) d_ASB_appS_40 (fun H locs hP hD hS => ?_)
  have hP : va_P D classes [(h, .inr (1, [.ref v, .int 0, .int ml, .int (nI (cnt + k))])), (v, .inl (cB, cap, .inl (va_cpy (fun j => nI (u j)) f 0 cnt k)))] H := hP
  have hD : va_D A [(h, .inr (1, [.ref v, .int 0, .int ml, .int (nI (cnt + k))])), (v, .inl (cB, cap, .inl (va_cpy (fun j => nI (u j)) f 0 cnt k)))] := hD
  refine lv_aload_n S.1 S.2.1 d_ASB_appS_43 rfl (lv_at hl 1 rfl) ?_
  refine W.widen (k := 0) (n := 0) (by omega) (by omega) ?_
  exact W.aret S.1 S.2.1 hr (Or.inl ⟨_, rfl⟩) (Or.inr ⟨_, rfl⟩) (fun t ht hW => ⟨⟨(), h, rfl, trivial, rfl, by rw [ht]; exact hP, hD⟩, hS.F ht⟩) hS.2.2 d_ASB_appS_44 hlk
set_option maxHeartbeats 4000000 in
set_option maxRecDepth 100000 in
/-- StringBuilder.append(String), there is room -/
theorem c_SB_appS (l : Launch) {D : va_G} {cB cC : ClassId} {sz : Nat} {h v cnt cap a va k : Nat} {ml : Int32} {u : Nat → Nat} {f : Nat → Int32} (hq : cnt + k ≤ cap) (hcap : cap < 2 ^ 20) : Ct l y_SB_appS b_SB_appS 2 (Option.some (FieldType.object "java/lang/StringBuilder")) 4 0 0 [.ref h, .ref a] (fun U => U.heap.size = sz ∧ en D cB cC (va_A [(h, .inr (1, [.ref v, .int 0, .int ml, .int (nI cnt)])), (v, .inl (cB, cap, .inl f))] sz) U U.heap ∧ va_P D classes [(h, .inr (1, [.ref v, .int 0, .int ml, .int (nI cnt)])), (v, .inl (cB, cap, .inl f))] U.heap ∧ va_D (fun _ => True) [(h, .inr (1, [.ref v, .int 0, .int ml, .int (nI cnt)])), (v, .inl (cB, cap, .inl f))] ∧ zsv a va k u (va_A [(h, .inr (1, [.ref v, .int 0, .int ml, .int (nI cnt)])), (v, .inl (cB, cap, .inl f))] sz) U U.heap) (va_Qr (fun _ : Unit => True) (fun _ q t => q = h ∧ va_P D classes [(h, .inr (1, [.ref v, .int 0, .int ml, .int (nI (cnt + k))])), (v, .inl (cB, cap, .inl (va_cpy (fun j => nI (u j)) f 0 cnt k)))] t.heap ∧ va_D (va_A [(h, .inr (1, [.ref v, .int 0, .int ml, .int (nI cnt)])), (v, .inl (cB, cap, .inl f))] sz) [(h, .inr (1, [.ref v, .int 0, .int ml, .int (nI (cnt + k))])), (v, .inl (cB, cap, .inl (va_cpy (fun j => nI (u j)) f 0 cnt k)))]) (va_A [(h, .inr (1, [.ref v, .int 0, .int ml, .int (nI cnt)])), (v, .inl (cB, cap, .inl f))] sz)) (va_A [(h, .inr (1, [.ref v, .int 0, .int ml, .int (nI cnt)])), (v, .inl (cB, cap, .inl f))] sz) := by
  refine ct_of (by decide) (Nat.le_of_ble_eq_true rfl) (fun _ _ _ _ h => h) ?_
  intro p e s m below meth c ls S hr hlk hnm hB hl
  have hl : lv_has ls 2 [(0, .ref h), (1, .ref a)] := hl
  obtain ⟨hsz, hE, hP, hD0, hz⟩ := hB
  subst hsz
  have hD := hD0.self (sz := s.heap.size)
  generalize hAe : va_A [(h, .inr (1, [.ref v, .int 0, .int ml, .int (nI cnt)])), (v, .inl (cB, cap, .inl f))] s.heap.size = A at hD hE hz ⊢
  have hA : ∀ q : Nat, s.heap.size ≤ q → A q := fun q h => by rw [← hAe]; exact Or.inr h
  have hS : va_S A s.heap s.heap [] := va_S.rf
  have hK := hE.1
  have hP : va_P D classes [(h, .inr (1, [.ref v, .int 0, .int ml, .int (nI cnt)])), (v, .inl (cB, cap, .inl f))] s.heap := hP
  refine lv_aload_n S.1 S.2.1 d_SB_appS_0 rfl (lv_at hl 0 rfl) ?_
  refine lv_aload_n S.1 S.2.1 d_SB_appS_1 rfl (lv_at hl 1 rfl) ?_
  have hPc := hP.sub (ws' := [(h, .inr (1, [.ref v, .int 0, .int ml, .int (nI cnt)])), (v, .inl (cB, cap, .inl f))]) [0, 1] rfl
  have hDc := hD.sub (ws' := [(h, .inr (1, [.ref v, .int 0, .int ml, .int (nI cnt)])), (v, .inl (cB, cap, .inl f))]) [0, 1] (by decide) rfl
  have hFc := va_free (wc := [(h, .inr (1, [.ref v, .int 0, .int ml, .int (nI cnt)])), (v, .inl (cB, cap, .inl f))]) hD hS hA [0, 1] rfl
  refine va_callr (rn_P (hK.1 1 _ rfl).2 S sc_SB_29 (As := [.ref a]) (rest := []) (c_ASB_appS l hq hcap (u := u)) (va_recv hK hP (ci := 1) (q0 := 0) rfl rfl) (fun U hU hW => ⟨by rw [hU], hE.to hS.2.1 hU hW hFc, by rw [hU]; exact hPc, hDc.weaken (fun _ _ _ _ => trivial), hz.to hS.2.1 hU hW.alike hFc⟩) (Nat.le_of_ble_eq_true rfl) (Nat.le_of_ble_eq_true rfl) (by dsimp only [rmd] <;> omega) (by dsimp only [rmd] <;> omega) rfl hl.1 rfl (Nat.le_of_ble_eq_true rfl) d_SB_appS_2) hS (fun q _ h => hFc q h) hFc (fun _ r0 t_ H_36 locs ht_37 hv_40 _ hB hz_39 hk_38 hS => ?_)
  obtain ⟨_, hP1, hD1⟩ := hB
  rw [ht_37] at hP1
  obtain ⟨hP, hD⟩ := va_join (wr := []) (w1 := [(h, .inr (1, [.ref v, .int 0, .int ml, .int (nI (cnt + k))])), (v, .inl (cB, cap, .inl (va_cpy (fun j => nI (u j)) f 0 cnt k)))]) hP hD [0, 1] [] rfl rfl (by decide) (by decide) hk_38 hFc hP1 hD1
  have hP : va_P D classes [(h, .inr (1, [.ref v, .int 0, .int ml, .int (nI (cnt + k))])), (v, .inl (cB, cap, .inl (va_cpy (fun j => nI (u j)) f 0 cnt k)))] H_36 := hP
  have hD : va_D A [(h, .inr (1, [.ref v, .int 0, .int ml, .int (nI (cnt + k))])), (v, .inl (cB, cap, .inl (va_cpy (fun j => nI (u j)) f 0 cnt k)))] := hD
  refine lv_pop S.1 S.2.1 d_SB_appS_5 rfl ?_
  refine lv_aload_n S.1 S.2.1 d_SB_appS_6 rfl (lv_at hl 0 rfl) ?_
  refine W.widen (k := 0) (n := 0) (by omega) (by omega) ?_
  exact W.aret S.1 S.2.1 hr (Or.inl ⟨_, rfl⟩) (Or.inr ⟨_, rfl⟩) (fun t ht hW => ⟨⟨(), h, rfl, trivial, rfl, by rw [ht]; exact hP, hD⟩, hS.F ht⟩) hS.2.2 d_SB_appS_7 hlk
set_option maxHeartbeats 4000000 in
set_option maxRecDepth 100000 in
/-- String.<init>(AbstractStringBuilder, Void) -/
theorem c_STR_initAV (l : Launch) {D : va_G} {cB cC : ClassId} {sz : Nat} {h b v cnt cap : Nat} {ml : Int32} {f : Nat → Int32} (hc : cnt ≤ cap) (hcap : cap < 2 ^ 20) (hf : ∀ j, j < cap → fits .byte (.int (f j)) = true) : Ct l y_STR_initAV b_STR_initAV 5 (Option.none : Option FieldType) 3 1 cnt [.ref h, .ref b, .null] (fun U => U.heap.size = sz ∧ en D cB cC (va_A [(h, .inr (3, [.null, .int 0, .int 0, .int 0])), (b, .inr (1, [.ref v, .int 0, .int ml, .int (nI cnt)])), (v, .inl (cB, cap, .inl f))] sz) U U.heap ∧ va_P D classes [(h, .inr (3, [.null, .int 0, .int 0, .int 0])), (b, .inr (1, [.ref v, .int 0, .int ml, .int (nI cnt)])), (v, .inl (cB, cap, .inl f))] U.heap ∧ va_D (fun _ => True) [(h, .inr (3, [.null, .int 0, .int 0, .int 0])), (b, .inr (1, [.ref v, .int 0, .int ml, .int (nI cnt)])), (v, .inl (cB, cap, .inl f))]) (va_Qv (fun _ : Unit => True) (fun _ t => ∃ x g, va_P D classes [(h, .inr (3, [.ref x, .int 0, .int 0, .int 0])), (b, .inr (1, [.ref v, .int 0, .int ml, .int (nI cnt)])), (v, .inl (cB, cap, .inl f)), (x, .inl (cB, cnt, .inl g))] t.heap ∧ va_D (va_A [(h, .inr (3, [.null, .int 0, .int 0, .int 0])), (b, .inr (1, [.ref v, .int 0, .int ml, .int (nI cnt)])), (v, .inl (cB, cap, .inl f))] sz) [(h, .inr (3, [.ref x, .int 0, .int 0, .int 0])), (b, .inr (1, [.ref v, .int 0, .int ml, .int (nI cnt)])), (v, .inl (cB, cap, .inl f)), (x, .inl (cB, cnt, .inl g))] ∧ ∀ j, j < cnt → g j = f j) (va_A [(h, .inr (3, [.null, .int 0, .int 0, .int 0])), (b, .inr (1, [.ref v, .int 0, .int ml, .int (nI cnt)])), (v, .inl (cB, cap, .inl f))] sz)) (va_A [(h, .inr (3, [.null, .int 0, .int 0, .int 0])), (b, .inr (1, [.ref v, .int 0, .int ml, .int (nI cnt)])), (v, .inl (cB, cap, .inl f))] sz) := by
  refine ct_of (by decide) (Nat.le_of_ble_eq_true rfl) (fun _ _ _ _ h => h) ?_
  intro p e s m below meth c ls S hr hlk hnm hB hl
  have hl : lv_has ls 5 [(0, .ref h), (1, .ref b), (2, .null)] := hl
  obtain ⟨hsz, hE, hP, hD0⟩ := hB
  subst hsz
  have hD := hD0.self (sz := s.heap.size)
  generalize hAe : va_A [(h, .inr (3, [.null, .int 0, .int 0, .int 0])), (b, .inr (1, [.ref v, .int 0, .int ml, .int (nI cnt)])), (v, .inl (cB, cap, .inl f))] s.heap.size = A at hD hE ⊢
  have hA : ∀ q : Nat, s.heap.size ≤ q → A q := fun q h => by rw [← hAe]; exact Or.inr h
  have hS : va_S A s.heap s.heap [] := va_S.rf
  have hK := hE.1
  have hP : va_P D classes [(h, .inr (3, [.null, .int 0, .int 0, .int 0])), (b, .inr (1, [.ref v, .int 0, .int ml, .int (nI cnt)])), (v, .inl (cB, cap, .inl f))] s.heap := hP
  have hin : meth.name = "<init>" := hnm
  refine lv_aload_n S.1 S.2.1 d_STR_initAV_0 rfl (lv_at hl 0 rfl) ?_
  refine q_obj S hl.1 k_302 (Nat.le_of_ble_eq_true rfl) (Nat.le_of_ble_eq_true rfl) d_STR_initAV_1 ?_
  refine lv_aload_n S.1 S.2.1 d_STR_initAV_4 rfl (lv_at hl 1 rfl) ?_
  refine va_csr (va_Run.run (rn_U S sc_STR_552 (As := []) (rest := []) (c_ASB_getValue l (v := v) (cnt := cnt) (ml := ml)) (va_recv hK hP (ci := 1) (q0 := 1) rfl rfl) (fun U hU hW => ⟨hE.to hS.2.1 hU hW (fun _ h => h.elim), by rw [hU]; exact hP.sub [1] rfl⟩) (Nat.le_of_ble_eq_true rfl) (Nat.le_of_ble_eq_true rfl) (by dsimp only [rmd] <;> omega) (by dsimp only [rmd] <;> omega) rfl hl.1 rfl (Nat.le_of_ble_eq_true rfl) d_STR_initAV_5)) (fun r0 h0 => ?_)
  have h0 : v = r0 := h0.symm
  subst h0
  refine lv_astore_n (lv' := [(3, .ref v), (0, .ref h), (1, .ref b), (2, .null)]) S.1 S.2.1 d_STR_initAV_8 rfl hl (by decide) rfl (fun ls hl => ?_)
  refine lv_aload_n S.1 S.2.1 d_STR_initAV_9 rfl (lv_at hl 2 rfl) ?_
  refine vp_callSi (va_Run.run (rn_O S sc_STR_549 (As := []) (rest := []) (c_SB_length l (v := v) (cnt := cnt) (ml := ml)) (va_recv hK hP (ci := 1) (q0 := 1) rfl rfl) (fun U hU hW => ⟨hE.to hS.2.1 hU hW (fun _ h => h.elim), by rw [hU]; exact hP.sub [1] rfl⟩) (Nat.le_of_ble_eq_true rfl) (Nat.le_of_ble_eq_true rfl) (by dsimp only [rmd] <;> omega) (by dsimp only [rmd] <;> omega) rfl hl.1 rfl (Nat.le_of_ble_eq_true rfl) d_STR_initAV_10)) (fun r0 h0 => ?_)
  subst h0
  refine lv_istore (lv' := [(4, .int (nI cnt)), (3, .ref v), (0, .ref h), (1, .ref b), (2, .null)]) S.1 S.2.1 d_STR_initAV_13 hl (by decide) rfl (fun ls hl => ?_)
  refine lv_aload_n S.1 S.2.1 d_STR_initAV_15 rfl (lv_at hl 3 rfl) ?_
  refine vp_callSi (va_Run.run (rn_U S sc_STR_1047 (As := []) (rest := []) (c_ASB_isLatin1 l (v := v) (cnt := cnt) (ml := ml)) (va_recv hK hP (ci := 1) (q0 := 1) rfl rfl) (fun U hU hW => ⟨hE.to hS.2.1 hU hW (fun _ h => h.elim), by rw [hU]; exact hP.sub [1] rfl⟩) (Nat.le_of_ble_eq_true rfl) (Nat.le_of_ble_eq_true rfl) (by dsimp only [rmd] <;> omega) (by dsimp only [rmd] <;> omega) rfl hl.1 rfl (Nat.le_of_ble_eq_true rfl) d_STR_initAV_16)) (fun r0 h0 => ?_)
  subst h0
  refine lv_if_eq (tgt := 41) S.1 S.2.1 d_STR_initAV_19 (by decide) (fun c => absurd c (by decide)) (fun _ => ?_)
  refine lv_aload_n S.1 S.2.1 d_STR_initAV_22 rfl (lv_at hl 2 rfl) ?_
  refine lv_iconst (v := 0) S.1 S.2.1 d_STR_initAV_23 (by decide) ?_
  refine q_putF S hin hK hP hD hS 0 rfl fs_STR_15 (v := .int 0) rfl rfl (Nat.le_of_ble_eq_true rfl) d_STR_initAV_24 (fun H locs hP hD hS => ?_)
  have hP : va_P D classes [(h, .inr (3, [.null, .int 0, .int 0, .int 0])), (b, .inr (1, [.ref v, .int 0, .int ml, .int (nI cnt)])), (v, .inl (cB, cap, .inl f))] H := hP
  have hD : va_D A [(h, .inr (3, [.null, .int 0, .int 0, .int 0])), (b, .inr (1, [.ref v, .int 0, .int ml, .int (nI cnt)])), (v, .inl (cB, cap, .inl f))] := hD
  refine lv_aload_n S.1 S.2.1 d_STR_initAV_27 rfl (lv_at hl 2 rfl) ?_
  refine lv_aload_n S.1 S.2.1 d_STR_initAV_28 rfl (lv_at hl 1 rfl) ?_
  refine lv_iconst (v := 0) S.1 S.2.1 d_STR_initAV_29 (by decide) ?_
  refine lv_iload S.1 S.2.1 d_STR_initAV_30 (lv_at hl 0 rfl) ?_
  have hPc := hP.sub (ws' := [(v, .inl (cB, cap, .inl f))]) [2] rfl
  have hDc := hD.sub (ws' := [(v, .inl (cB, cap, .inl f))]) [2] (by decide) rfl
  have hFc := va_free (wc := [(v, .inl (cB, cap, .inl f))]) hD hS hA [2] rfl
  refine va_callr (rn_S S sc_STR_54 (As := [.ref v, .int 0, .int (nI cnt)]) (rest := [.ref h]) (c_ARR_corW l hc (by omega) hf) (fun U hU hW => ⟨by rw [hU], hE.to hS.2.1 hU hW hFc, by rw [hU]; exact hPc, hDc.weaken (fun _ _ _ _ => trivial)⟩) (Nat.le_of_ble_eq_true rfl) (Nat.le_of_ble_eq_true rfl) (by dsimp only [rmd] <;> omega) (by dsimp only [rmd] <;> omega) rfl hl.1 rfl (Nat.le_of_ble_eq_true rfl) d_STR_initAV_32) hS (fun q _ h => hFc q h) hFc (fun _ x t_ H_41 locs ht_42 hv_45 _ hB hz_44 hk_43 hS => ?_)
  obtain ⟨g, hP1, hD1, hg⟩ := hB
  rw [ht_42] at hP1
  obtain ⟨hP, hD⟩ := va_join (wr := [(h, .inr (3, [.null, .int 0, .int 0, .int 0])), (b, .inr (1, [.ref v, .int 0, .int ml, .int (nI cnt)]))]) (w1 := [(v, .inl (cB, cap, .inl f)), (x, .inl (cB, cnt, .inl g))]) hP hD [2] [0, 1] rfl rfl (by decide) (by decide) hk_43 hFc hP1 hD1
  have hP : va_P D classes [(h, .inr (3, [.null, .int 0, .int 0, .int 0])), (b, .inr (1, [.ref v, .int 0, .int ml, .int (nI cnt)])), (v, .inl (cB, cap, .inl f)), (x, .inl (cB, cnt, .inl g))] H_41 := hP
  have hD : va_D A [(h, .inr (3, [.null, .int 0, .int 0, .int 0])), (b, .inr (1, [.ref v, .int 0, .int ml, .int (nI cnt)])), (v, .inl (cB, cap, .inl f)), (x, .inl (cB, cnt, .inl g))] := hD
  refine q_putF S hin hK hP hD hS 0 rfl fs_STR_9 (v := .ref x) rfl rfl (Nat.le_of_ble_eq_true rfl) d_STR_initAV_35 (fun H locs hP hD hS => ?_)
  have hP : va_P D classes [(h, .inr (3, [.ref x, .int 0, .int 0, .int 0])), (b, .inr (1, [.ref v, .int 0, .int ml, .int (nI cnt)])), (v, .inl (cB, cap, .inl f)), (x, .inl (cB, cnt, .inl g))] H := hP
  have hD : va_D A [(h, .inr (3, [.ref x, .int 0, .int 0, .int 0])), (b, .inr (1, [.ref v, .int 0, .int ml, .int (nI cnt)])), (v, .inl (cB, cap, .inl f)), (x, .inl (cB, cnt, .inl g))] := hD
  refine lv_goto (tgt := 97) S.1 S.2.1 d_STR_initAV_38 (by decide) ?_
  refine W.widen (k := 1) (n := cnt) (by omega) (by omega) ?_
  exact W.vret S.1 S.2.1 hr (fun t ht hW => ⟨⟨(), rfl, trivial, x, g, by rw [ht]; exact hP, hD, hg⟩, hS.F ht⟩) hS.2.2 d_STR_initAV_97 hlk
set_option maxHeartbeats 4000000 in
set_option maxRecDepth 100000 in
/-- String.<init>(StringBuilder) -/
theorem c_STR_initSB (l : Launch) {D : va_G} {cB cC : ClassId} {sz : Nat} {h b v cnt cap : Nat} {ml : Int32} {f : Nat → Int32} (hc : cnt ≤ cap) (hcap : cap < 2 ^ 20) (hf : ∀ j, j < cap → fits .byte (.int (f j)) = true) : Ct l y_STR_initSB b_STR_initSB 2 (Option.none : Option FieldType) 4 1 cnt [.ref h, .ref b] (fun U => U.heap.size = sz ∧ en D cB cC (va_A [(h, .inr (3, [.null, .int 0, .int 0, .int 0])), (b, .inr (1, [.ref v, .int 0, .int ml, .int (nI cnt)])), (v, .inl (cB, cap, .inl f))] sz) U U.heap ∧ va_P D classes [(h, .inr (3, [.null, .int 0, .int 0, .int 0])), (b, .inr (1, [.ref v, .int 0, .int ml, .int (nI cnt)])), (v, .inl (cB, cap, .inl f))] U.heap ∧ va_D (fun _ => True) [(h, .inr (3, [.null, .int 0, .int 0, .int 0])), (b, .inr (1, [.ref v, .int 0, .int ml, .int (nI cnt)])), (v, .inl (cB, cap, .inl f))]) (va_Qv (fun _ : Unit => True) (fun _ t => ∃ x g, va_P D classes [(h, .inr (3, [.ref x, .int 0, .int 0, .int 0])), (b, .inr (1, [.ref v, .int 0, .int ml, .int (nI cnt)])), (v, .inl (cB, cap, .inl f)), (x, .inl (cB, cnt, .inl g))] t.heap ∧ va_D (va_A [(h, .inr (3, [.null, .int 0, .int 0, .int 0])), (b, .inr (1, [.ref v, .int 0, .int ml, .int (nI cnt)])), (v, .inl (cB, cap, .inl f))] sz) [(h, .inr (3, [.ref x, .int 0, .int 0, .int 0])), (b, .inr (1, [.ref v, .int 0, .int ml, .int (nI cnt)])), (v, .inl (cB, cap, .inl f)), (x, .inl (cB, cnt, .inl g))] ∧ ∀ j, j < cnt → g j = f j) (va_A [(h, .inr (3, [.null, .int 0, .int 0, .int 0])), (b, .inr (1, [.ref v, .int 0, .int ml, .int (nI cnt)])), (v, .inl (cB, cap, .inl f))] sz)) (va_A [(h, .inr (3, [.null, .int 0, .int 0, .int 0])), (b, .inr (1, [.ref v, .int 0, .int ml, .int (nI cnt)])), (v, .inl (cB, cap, .inl f))] sz) := by
  refine ct_of (by decide) (Nat.le_of_ble_eq_true rfl) (fun _ _ _ _ h => h) ?_
  intro p e s m below meth c ls S hr hlk hnm hB hl
  have hl : lv_has ls 2 [(0, .ref h), (1, .ref b)] := hl
  obtain ⟨hsz, hE, hP, hD0⟩ := hB
  subst hsz
  have hD := hD0.self (sz := s.heap.size)
  generalize hAe : va_A [(h, .inr (3, [.null, .int 0, .int 0, .int 0])), (b, .inr (1, [.ref v, .int 0, .int ml, .int (nI cnt)])), (v, .inl (cB, cap, .inl f))] s.heap.size = A at hD hE ⊢
  have hA : ∀ q : Nat, s.heap.size ≤ q → A q := fun q h => by rw [← hAe]; exact Or.inr h
  have hS : va_S A s.heap s.heap [] := va_S.rf
  have hK := hE.1
  have hP : va_P D classes [(h, .inr (3, [.null, .int 0, .int 0, .int 0])), (b, .inr (1, [.ref v, .int 0, .int ml, .int (nI cnt)])), (v, .inl (cB, cap, .inl f))] s.heap := hP
  refine lv_aload_n S.1 S.2.1 d_STR_initSB_0 rfl (lv_at hl 0 rfl) ?_
  refine lv_aload_n S.1 S.2.1 d_STR_initSB_1 rfl (lv_at hl 1 rfl) ?_
  refine lv_null S.1 S.2.1 d_STR_initSB_2 ?_
  have hPc := hP.sub (ws' := [(h, .inr (3, [.null, .int 0, .int 0, .int 0])), (b, .inr (1, [.ref v, .int 0, .int ml, .int (nI cnt)])), (v, .inl (cB, cap, .inl f))]) [0, 1, 2] rfl
  have hDc := hD.sub (ws' := [(h, .inr (3, [.null, .int 0, .int 0, .int 0])), (b, .inr (1, [.ref v, .int 0, .int ml, .int (nI cnt)])), (v, .inl (cB, cap, .inl f))]) [0, 1, 2] (by decide) rfl
  have hFc := va_free (wc := [(h, .inr (3, [.null, .int 0, .int 0, .int 0])), (b, .inr (1, [.ref v, .int 0, .int ml, .int (nI cnt)])), (v, .inl (cB, cap, .inl f))]) hD hS hA [0, 1, 2] rfl
  refine va_callv (rn_I S sc_STR_489 (As := [.ref b, .null]) (rest := []) (c_STR_initAV l hc hcap hf) (fun U hU hW => ⟨by rw [hU], hE.to hS.2.1 hU hW hFc, by rw [hU]; exact hPc, hDc.weaken (fun _ _ _ _ => trivial)⟩) (Nat.le_of_ble_eq_true rfl) (Nat.le_of_ble_eq_true rfl) (by dsimp only [rmd] <;> omega) (by dsimp only [rmd] <;> omega) rfl hl.1 rfl (Nat.le_of_ble_eq_true rfl) d_STR_initSB_3) hS (fun q _ h => hFc q h) hFc (fun _ t_ H_46 locs ht_47 hv_50 _ hB hz_49 hk_48 hS => ?_)
  obtain ⟨x, g, hP1, hD1, hg⟩ := hB
  rw [ht_47] at hP1
  obtain ⟨hP, hD⟩ := va_join (wr := []) (w1 := [(h, .inr (3, [.ref x, .int 0, .int 0, .int 0])), (b, .inr (1, [.ref v, .int 0, .int ml, .int (nI cnt)])), (v, .inl (cB, cap, .inl f)), (x, .inl (cB, cnt, .inl g))]) hP hD [0, 1, 2] [] rfl rfl (by decide) (by decide) hk_48 hFc hP1 hD1
  have hP : va_P D classes [(h, .inr (3, [.ref x, .int 0, .int 0, .int 0])), (b, .inr (1, [.ref v, .int 0, .int ml, .int (nI cnt)])), (v, .inl (cB, cap, .inl f)), (x, .inl (cB, cnt, .inl g))] H_46 := hP
  have hD : va_D A [(h, .inr (3, [.ref x, .int 0, .int 0, .int 0])), (b, .inr (1, [.ref v, .int 0, .int ml, .int (nI cnt)])), (v, .inl (cB, cap, .inl f)), (x, .inl (cB, cnt, .inl g))] := hD
  refine W.widen (k := 1) (n := cnt) (by omega) (by omega) ?_
  exact W.vret S.1 S.2.1 hr (fun t ht hW => ⟨⟨(), rfl, trivial, x, g, by rw [ht]; exact hP, hD, hg⟩, hS.F ht⟩) hS.2.2 d_STR_initSB_6 hlk
set_option maxHeartbeats 4000000 in
set_option maxRecDepth 100000 in
/-- StringBuilder.toString -/
theorem c_SB_toString (l : Launch) {D : va_G} {cB cC : ClassId} {sz : Nat} {h v cnt cap : Nat} {ml : Int32} {f : Nat → Int32} (hc : cnt ≤ cap) (hcap : cap < 2 ^ 20) (hf : ∀ j, j < cap → fits .byte (.int (f j)) = true) : Ct l y_SB_toString b_SB_toString 1 (Option.some (FieldType.object "java/lang/String")) 5 2 (4 + cnt) [.ref h] (fun U => U.heap.size = sz ∧ en D cB cC (va_A [(h, .inr (1, [.ref v, .int 0, .int ml, .int (nI cnt)])), (v, .inl (cB, cap, .inl f))] sz) U U.heap ∧ va_P D classes [(h, .inr (1, [.ref v, .int 0, .int ml, .int (nI cnt)])), (v, .inl (cB, cap, .inl f))] U.heap ∧ va_D (fun _ => True) [(h, .inr (1, [.ref v, .int 0, .int ml, .int (nI cnt)])), (v, .inl (cB, cap, .inl f))]) (va_Qr (fun _ : Unit => True) (fun _ q u => ∃ x g, va_P D classes [(h, .inr (1, [.ref v, .int 0, .int ml, .int (nI cnt)])), (v, .inl (cB, cap, .inl f)), (q, .inr (3, [.ref x, .int 0, .int 0, .int 0])), (x, .inl (cB, cnt, .inl g))] u.heap ∧ va_D (va_A [(h, .inr (1, [.ref v, .int 0, .int ml, .int (nI cnt)])), (v, .inl (cB, cap, .inl f))] sz) [(h, .inr (1, [.ref v, .int 0, .int ml, .int (nI cnt)])), (v, .inl (cB, cap, .inl f)), (q, .inr (3, [.ref x, .int 0, .int 0, .int 0])), (x, .inl (cB, cnt, .inl g))] ∧ ∀ j, j < cnt → g j = f j) (va_A [(h, .inr (1, [.ref v, .int 0, .int ml, .int (nI cnt)])), (v, .inl (cB, cap, .inl f))] sz)) (va_A [(h, .inr (1, [.ref v, .int 0, .int ml, .int (nI cnt)])), (v, .inl (cB, cap, .inl f))] sz) := by
  refine ct_of (by decide) (Nat.le_of_ble_eq_true rfl) (fun _ _ _ _ h => h) ?_
  intro p e s m below meth c ls S hr hlk hnm hB hl
  have hl : lv_has ls 1 [(0, .ref h)] := hl
  obtain ⟨hsz, hE, hP, hD0⟩ := hB
  subst hsz
  have hD := hD0.self (sz := s.heap.size)
  generalize hAe : va_A [(h, .inr (1, [.ref v, .int 0, .int ml, .int (nI cnt)])), (v, .inl (cB, cap, .inl f))] s.heap.size = A at hD hE ⊢
  have hA : ∀ q : Nat, s.heap.size ≤ q → A q := fun q h => by rw [← hAe]; exact Or.inr h
  have hS : va_S A s.heap s.heap [] := va_S.rf
  have hK := hE.1
  have hP : va_P D classes [(h, .inr (1, [.ref v, .int 0, .int ml, .int (nI cnt)])), (v, .inl (cB, cap, .inl f))] s.heap := hP
  refine va_new (ci := 3) (fs := [.null, .int 0, .int 0, .int 0]) (C := R_STR) (T := F_STR) (N := 4) S.1 S.2.1 S.2.2.2.2 i_STR t_STR t_STR_ok S.2.2.2.1 (S.2.2.2.2 _ k_294) (S.2.2.2.2 _ k_295) (S.2.2.2.2 _ k_4) hK hP hD hS hA rfl (fun j hj => by rcases (show j = 0 ∨ j = 1 ∨ j = 2 ∨ j = 3 by omega) with rfl | rfl | rfl | rfl <;> rfl) (by dsimp only [rmd] <;> omega) (by dsimp only [rmd] <;> omega) d_SB_toString_0 (fun q H hP hD hS => ?_)
  have hP : va_P D classes [(h, .inr (1, [.ref v, .int 0, .int ml, .int (nI cnt)])), (v, .inl (cB, cap, .inl f)), (q, .inr (3, [.null, .int 0, .int 0, .int 0]))] H := hP
  have hD : va_D A [(h, .inr (1, [.ref v, .int 0, .int ml, .int (nI cnt)])), (v, .inl (cB, cap, .inl f)), (q, .inr (3, [.null, .int 0, .int 0, .int 0]))] := hD
  refine lv_dup S.1 S.2.1 d_SB_toString_3 rfl ?_
  refine lv_aload_n S.1 S.2.1 d_SB_toString_4 rfl (lv_at hl 0 rfl) ?_
  have hPc := hP.sub (ws' := [(q, .inr (3, [.null, .int 0, .int 0, .int 0])), (h, .inr (1, [.ref v, .int 0, .int ml, .int (nI cnt)])), (v, .inl (cB, cap, .inl f))]) [2, 0, 1] rfl
  have hDc := hD.sub (ws' := [(q, .inr (3, [.null, .int 0, .int 0, .int 0])), (h, .inr (1, [.ref v, .int 0, .int ml, .int (nI cnt)])), (v, .inl (cB, cap, .inl f))]) [2, 0, 1] (by decide) rfl
  have hFc := va_free (wc := [(q, .inr (3, [.null, .int 0, .int 0, .int 0])), (h, .inr (1, [.ref v, .int 0, .int ml, .int (nI cnt)])), (v, .inl (cB, cap, .inl f))]) hD hS hA [2, 0, 1] rfl
  refine va_callv (rn_I S sc_SB_137 (As := [.ref h]) (rest := [.ref q]) (c_STR_initSB l hc hcap hf) (fun U hU hW => ⟨by rw [hU], hE.to hS.2.1 hU hW hFc, by rw [hU]; exact hPc, hDc.weaken (fun _ _ _ _ => trivial)⟩) (Nat.le_of_ble_eq_true rfl) (Nat.le_of_ble_eq_true rfl) (by dsimp only [rmd] <;> omega) (by dsimp only [rmd] <;> omega) rfl hl.1 rfl (Nat.le_of_ble_eq_true rfl) d_SB_toString_5) hS (fun q _ h => hFc q h) hFc (fun _ t_ H_51 locs ht_52 hv_55 _ hB hz_54 hk_53 hS => ?_)
  obtain ⟨x, g, hP1, hD1, hg⟩ := hB
  rw [ht_52] at hP1
  obtain ⟨hP, hD⟩ := va_join (wr := []) (w1 := [(q, .inr (3, [.ref x, .int 0, .int 0, .int 0])), (h, .inr (1, [.ref v, .int 0, .int ml, .int (nI cnt)])), (v, .inl (cB, cap, .inl f)), (x, .inl (cB, cnt, .inl g))]) hP hD [2, 0, 1] [] rfl rfl (by decide) (by decide) hk_53 hFc hP1 hD1
  have hP : va_P D classes [(q, .inr (3, [.ref x, .int 0, .int 0, .int 0])), (h, .inr (1, [.ref v, .int 0, .int ml, .int (nI cnt)])), (v, .inl (cB, cap, .inl f)), (x, .inl (cB, cnt, .inl g))] H_51 := hP
  have hD : va_D A [(q, .inr (3, [.ref x, .int 0, .int 0, .int 0])), (h, .inr (1, [.ref v, .int 0, .int ml, .int (nI cnt)])), (v, .inl (cB, cap, .inl f)), (x, .inl (cB, cnt, .inl g))] := hD
  refine W.widen (k := 2) (n := (4 + cnt)) (by omega) (by omega) ?_
  exact W.aret S.1 S.2.1 hr (Or.inl ⟨_, rfl⟩) (Or.inr ⟨_, rfl⟩) (fun t ht hW => ⟨⟨(), q, rfl, trivial, x, g, by rw [ht]; exact hP.sub [1, 2, 0, 3] rfl, hD.sub [1, 2, 0, 3] (by decide) rfl, hg⟩, hS.F ht⟩) hS.2.2 d_SB_toString_8 hlk
end
section
set_option maxHeartbeats 4000000 in
set_option maxRecDepth 100000 in
/-- setMaxDelimCodePoint: the greatest of the signs -/
theorem c_TK_setMax (l : Launch) {D : va_G} {cB cC : ClassId} {sz : Nat} {h a b k vb : Nat} {x0 x1 x2 x7 : Int32} {ret : Bool} {dl : Nat → Nat} : Ct l y_TK_setMax b_TK_setMax 6 (Option.none : Option FieldType) 4 0 0 [.ref h] (fun U => U.heap.size = sz ∧ en D cB cC (va_A [(h, .inr (2, [.int x0, .int x1, .int x2, .ref a, .ref b, .int (bI ret), .int 0, .int x7, .int 0, .null]))] sz) U U.heap ∧ va_P D classes [(h, .inr (2, [.int x0, .int x1, .int x2, .ref a, .ref b, .int (bI ret), .int 0, .int x7, .int 0, .null]))] U.heap ∧ va_D (fun _ => True) [(h, .inr (2, [.int x0, .int x1, .int x2, .ref a, .ref b, .int (bI ret), .int 0, .int x7, .int 0, .null]))] ∧ zsv b vb k dl (va_A [(h, .inr (2, [.int x0, .int x1, .int x2, .ref a, .ref b, .int (bI ret), .int 0, .int x7, .int 0, .null]))] sz) U U.heap) (va_Qv (fun _ : Unit => True) (fun _ t => ∃ mx, va_P D classes [(h, .inr (2, [.int x0, .int x1, .int x2, .ref a, .ref b, .int (bI ret), .int 0, .int (nI mx), .int 0, .null]))] t.heap ∧ va_D (va_A [(h, .inr (2, [.int x0, .int x1, .int x2, .ref a, .ref b, .int (bI ret), .int 0, .int x7, .int 0, .null]))] sz) [(h, .inr (2, [.int x0, .int x1, .int x2, .ref a, .ref b, .int (bI ret), .int 0, .int (nI mx), .int 0, .null]))] ∧ mx < 128 ∧ ∀ i, i < k → dl i ≤ mx) (va_A [(h, .inr (2, [.int x0, .int x1, .int x2, .ref a, .ref b, .int (bI ret), .int 0, .int x7, .int 0, .null]))] sz)) (va_A [(h, .inr (2, [.int x0, .int x1, .int x2, .ref a, .ref b, .int (bI ret), .int 0, .int x7, .int 0, .null]))] sz) := by
  refine ct_of (by decide) (Nat.le_of_ble_eq_true rfl) (fun _ _ _ _ h => h) ?_
  intro p e s m below meth c ls S hr hlk hnm hB hl
  have hl : lv_has ls 6 [(0, .ref h)] := hl
  obtain ⟨hsz, hE, hP, hD0, hz⟩ := hB
  subst hsz
  have hD := hD0.self (sz := s.heap.size)
  generalize hAe : va_A [(h, .inr (2, [.int x0, .int x1, .int x2, .ref a, .ref b, .int (bI ret), .int 0, .int x7, .int 0, .null]))] s.heap.size = A at hD hE hz ⊢
  have hA : ∀ q : Nat, s.heap.size ≤ q → A q := fun q h => by rw [← hAe]; exact Or.inr h
  have hS : va_S A s.heap s.heap [] := va_S.rf
  have hK := hE.1
  have hP : va_P D classes [(h, .inr (2, [.int x0, .int x1, .int x2, .ref a, .ref b, .int (bI ret), .int 0, .int x7, .int 0, .null]))] s.heap := hP
  have hn := hz.2.1.2.1
  have loop : ∀ (z i mx : Nat) (ls : Array Slot), i + z = k → mx < 128 → (∀ j, j < i → dl j ≤ mx) → lv_has ls 6 [(4, .int (nI i)), (3, .int (nI i)), (1, .int (nI mx)), (0, .ref h)] → W p l e (rmd 4 0 0) s m ([.ref h] : List Value).toArray below meth c s.heap [] 0 0 (MQ below (va_Qv (fun _ : Unit => True) (fun _ t => ∃ mx, va_P D classes [(h, .inr (2, [.int x0, .int x1, .int x2, .ref a, .ref b, .int (bI ret), .int 0, .int (nI mx), .int 0, .null]))] t.heap ∧ va_D A [(h, .inr (2, [.int x0, .int x1, .int x2, .ref a, .ref b, .int (bI ret), .int 0, .int (nI mx), .int 0, .null]))] ∧ mx < 128 ∧ ∀ i, i < k → dl i ≤ mx) A) ([.ref h] : List Value).toArray s 0 0 A) (F0 m 20 ls []) := by
    intro z
    induction z with
    | zero =>
      intro i mx ls hi hm hd hl
      refine lv_iload S.1 S.2.1 d_TK_setMax_20 (lv_at hl 0 rfl) ?_
      refine lv_aload_n S.1 S.2.1 d_TK_setMax_22 rfl (lv_at hl 3 rfl) ?_
      refine q_get S hK hP 0 rfl fs_TK_1 (v := .ref b) rfl d_TK_setMax_23 ?_
      refine vp_callSi (va_Run.run (rn_V S sc_TK_11 (As := []) (rest := [.int (nI i)]) (c_STR_length l (t := dl)) (hz.recv) (fun U hU hW => ⟨hE.to hS.2.1 hU hW (fun _ h => h.elim), hz.to hS.2.1 hU hW.alike (fun _ h => h.elim)⟩) (Nat.le_of_ble_eq_true rfl) (Nat.le_of_ble_eq_true rfl) (by dsimp only [rmd] <;> omega) (by dsimp only [rmd] <;> omega) rfl hl.1 rfl (Nat.le_of_ble_eq_true rfl) d_TK_setMax_26)) (fun r0 h0 => ?_)
      subst h0
      refine lv_icmp_ge (tgt := 91) S.1 S.2.1 d_TK_setMax_29 (by decide) (fun _ => ?_) (fun c => absurd (nI_le (by omega) (by omega)) c)
      refine lv_aload_n S.1 S.2.1 d_TK_setMax_91 rfl (lv_at hl 3 rfl) ?_
      refine lv_iload_n S.1 S.2.1 d_TK_setMax_92 rfl (lv_at hl 2 rfl) ?_
      refine q_put S hK hP hD hS 0 rfl fs_TK_7 (v := .int (nI mx)) rfl rfl (Nat.le_of_ble_eq_true rfl) d_TK_setMax_93 (fun H locs hP hD hS => ?_)
      have hP : va_P D classes [(h, .inr (2, [.int x0, .int x1, .int x2, .ref a, .ref b, .int (bI ret), .int 0, .int (nI mx), .int 0, .null]))] H := hP
      have hD : va_D A [(h, .inr (2, [.int x0, .int x1, .int x2, .ref a, .ref b, .int (bI ret), .int 0, .int (nI mx), .int 0, .null]))] := hD
      refine lv_aload_n S.1 S.2.1 d_TK_setMax_96 rfl (lv_at hl 3 rfl) ?_
      refine q_get S hK hP 0 rfl fs_TK_29 (v := .int 0) rfl d_TK_setMax_97 ?_
      refine lv_if_eq (tgt := 155) S.1 S.2.1 d_TK_setMax_100 (by decide) (fun _ => ?_) (fun c => absurd (rfl) c)
      refine W.widen (k := 0) (n := 0) (by omega) (by omega) ?_
      exact W.vret S.1 S.2.1 hr (fun t ht hW => ⟨⟨(), rfl, trivial, mx, by rw [ht]; exact hP, hD, hm, fun j hj => hd j (by omega)⟩, hS.F ht⟩) hS.2.2 d_TK_setMax_155 hlk
    | succ z ih =>
      intro i mx ls hi hm hd hl
      refine lv_iload S.1 S.2.1 d_TK_setMax_20 (lv_at hl 0 rfl) ?_
      refine lv_aload_n S.1 S.2.1 d_TK_setMax_22 rfl (lv_at hl 3 rfl) ?_
      refine q_get S hK hP 0 rfl fs_TK_1 (v := .ref b) rfl d_TK_setMax_23 ?_
      refine vp_callSi (va_Run.run (rn_V S sc_TK_11 (As := []) (rest := [.int (nI i)]) (c_STR_length l (t := dl)) (hz.recv) (fun U hU hW => ⟨hE.to hS.2.1 hU hW (fun _ h => h.elim), hz.to hS.2.1 hU hW.alike (fun _ h => h.elim)⟩) (Nat.le_of_ble_eq_true rfl) (Nat.le_of_ble_eq_true rfl) (by dsimp only [rmd] <;> omega) (by dsimp only [rmd] <;> omega) rfl hl.1 rfl (Nat.le_of_ble_eq_true rfl) d_TK_setMax_26)) (fun r0 h0 => ?_)
      subst h0
      refine lv_icmp_ge (tgt := 91) S.1 S.2.1 d_TK_setMax_29 (by decide) (fun c => absurd c (nI_ge (by omega) (by omega))) (fun _ => ?_)
      refine lv_aload_n S.1 S.2.1 d_TK_setMax_32 rfl (lv_at hl 3 rfl) ?_
      refine q_get S hK hP 0 rfl fs_TK_1 (v := .ref b) rfl d_TK_setMax_33 ?_
      refine lv_iload S.1 S.2.1 d_TK_setMax_36 (lv_at hl 0 rfl) ?_
      have hik : i < k := by omega
      have h8 := hz.2.2 i hik
      refine vp_callSi (va_Run.run (rn_V S sc_TK_17 (As := [.int (nI i)]) (rest := []) (c_STR_charAt l (t := dl) (k := i) hik) (hz.recv) (fun U hU hW => ⟨hE.to hS.2.1 hU hW (fun _ h => h.elim), hz.to hS.2.1 hU hW.alike (fun _ h => h.elim)⟩) (Nat.le_of_ble_eq_true rfl) (Nat.le_of_ble_eq_true rfl) (by dsimp only [rmd] <;> omega) (by dsimp only [rmd] <;> omega) rfl hl.1 rfl (Nat.le_of_ble_eq_true rfl) d_TK_setMax_38)) (fun r0 h0 => ?_)
      subst h0
      refine lv_istore_n (lv' := [(2, .int (nI (dl i))), (4, .int (nI i)), (3, .int (nI i)), (1, .int (nI mx)), (0, .ref h)]) S.1 S.2.1 d_TK_setMax_41 rfl hl (by decide) rfl (fun ls hl => ?_)
      refine lv_iload_n S.1 S.2.1 d_TK_setMax_42 rfl (lv_at hl 0 rfl) ?_
      refine lv_ldc (v := 55296) S.1 S.2.1 S.2.2.2.1 (S.2.2.2.2 _ k_114) d_TK_setMax_43 ?_
      refine lv_icmp_lt (tgt := 69) S.1 S.2.1 d_TK_setMax_45 (by decide) (fun _ => ?_) (fun c => absurd (by rw [show (55296 : Int32) = nI 55296 from by decide]; exact nI_lt (by omega) (by omega)) c)
      refine lv_iload_n S.1 S.2.1 d_TK_setMax_69 rfl (lv_at hl 3 rfl) ?_
      refine lv_iload_n S.1 S.2.1 d_TK_setMax_70 rfl (lv_at hl 0 rfl) ?_
      refine lv_icmp_ge (tgt := 76) S.1 S.2.1 d_TK_setMax_71 (by decide) (fun cc => ?_) (fun cc => ?_)
      ·
        have hc2 := (nI_leI (by omega) (by omega)).mp cc
        refine lv_iinc (v := nI (i + 1)) (lv' := [(3, .int (nI (i + 1))), (2, .int (nI (dl i))), (4, .int (nI i)), (1, .int (nI mx)), (0, .ref h)]) S.1 S.2.1 d_TK_setMax_76 hl (k := 2) rfl (nI_1 i) (by decide) rfl (fun ls hl => ?_)
        refine lv_iload S.1 S.2.1 d_TK_setMax_79 (lv_at hl 2 rfl) ?_
        refine lv_iload_n S.1 S.2.1 d_TK_setMax_81 rfl (lv_at hl 1 rfl) ?_
        refine vp_callSi (va_Run.run (rn_S S sc_TK_33 (As := [.int (nI (dl i))]) (rest := [.int (nI i)]) (c_CHR_count l h8) (fun U hU hW => trivial) (Nat.le_of_ble_eq_true rfl) (Nat.le_of_ble_eq_true rfl) (by dsimp only [rmd] <;> omega) (by dsimp only [rmd] <;> omega) rfl hl.1 rfl (Nat.le_of_ble_eq_true rfl) d_TK_setMax_82)) (fun r0 h0 => ?_)
        subst h0
        refine lv_iadd S.1 S.2.1 d_TK_setMax_85 ?_
        refine q_top (x' := nI (i + 1)) (nI_1 i) ?_
        refine lv_istore (lv' := [(4, .int (nI (i + 1))), (3, .int (nI (i + 1))), (2, .int (nI (dl i))), (1, .int (nI mx)), (0, .ref h)]) S.1 S.2.1 d_TK_setMax_86 hl (by decide) rfl (fun ls hl => ?_)
        refine lv_goto (tgt := 20) S.1 S.2.1 d_TK_setMax_88 (by decide) ?_
        refine ih (i + 1) mx ls (by omega) hm (fun j hj => ?_) (lv_sub hl [0, 1, 3, 4] rfl)
        rcases Nat.lt_or_ge j i with hji | hji
        · have := hd j hji; omega
        · rw [show j = i by omega]; exact hc2
      ·
        have hc2 : mx < dl i := Nat.not_le.mp (fun h => cc (nI_le h (by omega)))
        refine lv_iload_n S.1 S.2.1 d_TK_setMax_74 rfl (lv_at hl 0 rfl) ?_
        refine lv_istore_n (lv' := [(1, .int (nI (dl i))), (2, .int (nI (dl i))), (4, .int (nI i)), (3, .int (nI i)), (0, .ref h)]) S.1 S.2.1 d_TK_setMax_75 rfl hl (by decide) rfl (fun ls hl => ?_)
        refine lv_iinc (v := nI (i + 1)) (lv' := [(3, .int (nI (i + 1))), (1, .int (nI (dl i))), (2, .int (nI (dl i))), (4, .int (nI i)), (0, .ref h)]) S.1 S.2.1 d_TK_setMax_76 hl (k := 3) rfl (nI_1 i) (by decide) rfl (fun ls hl => ?_)
        refine lv_iload S.1 S.2.1 d_TK_setMax_79 (lv_at hl 3 rfl) ?_
        refine lv_iload_n S.1 S.2.1 d_TK_setMax_81 rfl (lv_at hl 2 rfl) ?_
        refine vp_callSi (va_Run.run (rn_S S sc_TK_33 (As := [.int (nI (dl i))]) (rest := [.int (nI i)]) (c_CHR_count l h8) (fun U hU hW => trivial) (Nat.le_of_ble_eq_true rfl) (Nat.le_of_ble_eq_true rfl) (by dsimp only [rmd] <;> omega) (by dsimp only [rmd] <;> omega) rfl hl.1 rfl (Nat.le_of_ble_eq_true rfl) d_TK_setMax_82)) (fun r0 h0 => ?_)
        subst h0
        refine lv_iadd S.1 S.2.1 d_TK_setMax_85 ?_
        refine q_top (x' := nI (i + 1)) (nI_1 i) ?_
        refine lv_istore (lv' := [(4, .int (nI (i + 1))), (3, .int (nI (i + 1))), (1, .int (nI (dl i))), (2, .int (nI (dl i))), (0, .ref h)]) S.1 S.2.1 d_TK_setMax_86 hl (by decide) rfl (fun ls hl => ?_)
        refine lv_goto (tgt := 20) S.1 S.2.1 d_TK_setMax_88 (by decide) ?_
        refine ih (i + 1) (dl i) ls (by omega) h8 (fun j hj => ?_) (lv_sub hl [0, 1, 2, 4] rfl)
        rcases Nat.lt_or_ge j i with hji | hji
        · have := hd j hji; omega
        · rw [show j = i by omega]; exact Nat.le_refl _
  refine lv_aload_n S.1 S.2.1 d_TK_setMax_0 rfl (lv_at hl 0 rfl) ?_
  refine q_get S hK hP 0 rfl fs_TK_1 (v := .ref b) rfl d_TK_setMax_1 ?_
  refine lv_ifnonnull (tgt := 13) S.1 S.2.1 d_TK_setMax_4 (by decide) ?_
  refine lv_iconst (v := 0) S.1 S.2.1 d_TK_setMax_13 (by decide) ?_
  refine lv_istore_n (lv' := [(1, .int 0), (0, .ref h)]) S.1 S.2.1 d_TK_setMax_14 rfl hl (by decide) rfl (fun ls hl => ?_)
  refine lv_iconst (v := 0) S.1 S.2.1 d_TK_setMax_15 (by decide) ?_
  refine lv_istore_n (lv' := [(3, .int 0), (1, .int 0), (0, .ref h)]) S.1 S.2.1 d_TK_setMax_16 rfl hl (by decide) rfl (fun ls hl => ?_)
  refine lv_iconst (v := 0) S.1 S.2.1 d_TK_setMax_17 (by decide) ?_
  refine lv_istore (lv' := [(4, .int 0), (3, .int 0), (1, .int 0), (0, .ref h)]) S.1 S.2.1 d_TK_setMax_18 hl (by decide) rfl (fun ls hl => ?_)
  exact loop k 0 0 ls (by omega) (by omega) (fun j hj => absurd hj (by omega)) (lv_sub hl [0, 1, 2, 3] rfl)
set_option maxHeartbeats 4000000 in
set_option maxRecDepth 100000 in
/-- StringTokenizer.<init> -/
theorem c_TK_init (l : Launch) {D : va_G} {cB cC : ClassId} {sz : Nat} {h a b n k : Nat} {ret : Bool} {t dl : Nat → Nat} : Ct l y_TK_init b_TK_init 4 (Option.none : Option FieldType) 5 0 0 [.ref h, .ref a, .ref b, .int (bI ret)] (fun U => U.heap.size = sz ∧ en D cB cC (va_A [(h, .inr (2, [.int 0, .int 0, .int 0, .null, .null, .int 0, .int 0, .int 0, .int 0, .null]))] sz) U U.heap ∧ va_P D classes [(h, .inr (2, [.int 0, .int 0, .int 0, .null, .null, .int 0, .int 0, .int 0, .int 0, .null]))] U.heap ∧ va_D (fun _ => True) [(h, .inr (2, [.int 0, .int 0, .int 0, .null, .null, .int 0, .int 0, .int 0, .int 0, .null]))] ∧ zs a n t (va_A [(h, .inr (2, [.int 0, .int 0, .int 0, .null, .null, .int 0, .int 0, .int 0, .int 0, .null]))] sz) U U.heap ∧ zs b k dl (va_A [(h, .inr (2, [.int 0, .int 0, .int 0, .null, .null, .int 0, .int 0, .int 0, .int 0, .null]))] sz) U U.heap) (va_Qv (fun _ : Unit => True) (fun _ u => ∃ mx, va_P D classes [(h, .inr (2, [.int (nI 0), .int (-1), .int (nI n), .ref a, .ref b, .int (bI ret), .int 0, .int (nI mx), .int 0, .null]))] u.heap ∧ va_D (va_A [(h, .inr (2, [.int 0, .int 0, .int 0, .null, .null, .int 0, .int 0, .int 0, .int 0, .null]))] sz) [(h, .inr (2, [.int (nI 0), .int (-1), .int (nI n), .ref a, .ref b, .int (bI ret), .int 0, .int (nI mx), .int 0, .null]))] ∧ mx < 128 ∧ ∀ i, i < k → dl i ≤ mx) (va_A [(h, .inr (2, [.int 0, .int 0, .int 0, .null, .null, .int 0, .int 0, .int 0, .int 0, .null]))] sz)) (va_A [(h, .inr (2, [.int 0, .int 0, .int 0, .null, .null, .int 0, .int 0, .int 0, .int 0, .null]))] sz) := by
  refine ct_of (by decide) (Nat.le_of_ble_eq_true rfl) (fun _ _ _ _ h => h) ?_
  intro p e s m below meth c ls S hr hlk hnm hB hl
  have hl : lv_has ls 4 [(0, .ref h), (1, .ref a), (2, .ref b), (3, .int (bI ret))] := hl
  obtain ⟨hsz, hE, hP, hD0, hza, hzb⟩ := hB
  subst hsz
  have hD := hD0.self (sz := s.heap.size)
  generalize hAe : va_A [(h, .inr (2, [.int 0, .int 0, .int 0, .null, .null, .int 0, .int 0, .int 0, .int 0, .null]))] s.heap.size = A at hD hE hza hzb ⊢
  have hA : ∀ q : Nat, s.heap.size ≤ q → A q := fun q h => by rw [← hAe]; exact Or.inr h
  have hS : va_S A s.heap s.heap [] := va_S.rf
  have hK := hE.1
  have hP : va_P D classes [(h, .inr (2, [.int 0, .int 0, .int 0, .null, .null, .int 0, .int 0, .int 0, .int 0, .null]))] s.heap := hP
  obtain ⟨va0, hza⟩ := hza
  obtain ⟨vb0, hzb⟩ := hzb
  refine lv_aload_n S.1 S.2.1 d_TK_init_0 rfl (lv_at hl 0 rfl) ?_
  refine q_obj S hl.1 k_62 (Nat.le_of_ble_eq_true rfl) (Nat.le_of_ble_eq_true rfl) d_TK_init_1 ?_
  refine lv_aload_n S.1 S.2.1 d_TK_init_4 rfl (lv_at hl 0 rfl) ?_
  refine lv_iconst (v := 0) S.1 S.2.1 d_TK_init_5 (by decide) ?_
  refine q_put S hK hP hD hS 0 rfl fs_TK_29 (v := .int 0) rfl rfl (Nat.le_of_ble_eq_true rfl) d_TK_init_6 (fun H locs hP hD hS => ?_)
  have hP : va_P D classes [(h, .inr (2, [.int 0, .int 0, .int 0, .null, .null, .int 0, .int 0, .int 0, .int 0, .null]))] H := hP
  have hD : va_D A [(h, .inr (2, [.int 0, .int 0, .int 0, .null, .null, .int 0, .int 0, .int 0, .int 0, .null]))] := hD
  refine lv_aload_n S.1 S.2.1 d_TK_init_9 rfl (lv_at hl 0 rfl) ?_
  refine lv_iconst (v := 0) S.1 S.2.1 d_TK_init_10 (by decide) ?_
  refine q_put S hK hP hD hS 0 rfl fs_TK_46 (v := .int 0) rfl rfl (Nat.le_of_ble_eq_true rfl) d_TK_init_11 (fun H locs hP hD hS => ?_)
  have hP : va_P D classes [(h, .inr (2, [.int 0, .int 0, .int 0, .null, .null, .int 0, .int 0, .int 0, .int 0, .null]))] H := hP
  have hD : va_D A [(h, .inr (2, [.int 0, .int 0, .int 0, .null, .null, .int 0, .int 0, .int 0, .int 0, .null]))] := hD
  refine lv_aload_n S.1 S.2.1 d_TK_init_14 rfl (lv_at hl 0 rfl) ?_
  refine lv_iconst (v := (-1)) S.1 S.2.1 d_TK_init_15 (by decide) ?_
  refine q_put S hK hP hD hS 0 rfl fs_TK_49 (v := .int (-1)) rfl rfl (Nat.le_of_ble_eq_true rfl) d_TK_init_16 (fun H locs hP hD hS => ?_)
  have hP : va_P D classes [(h, .inr (2, [.int 0, .int (-1), .int 0, .null, .null, .int 0, .int 0, .int 0, .int 0, .null]))] H := hP
  have hD : va_D A [(h, .inr (2, [.int 0, .int (-1), .int 0, .null, .null, .int 0, .int 0, .int 0, .int 0, .null]))] := hD
  refine lv_aload_n S.1 S.2.1 d_TK_init_19 rfl (lv_at hl 0 rfl) ?_
  refine lv_iconst (v := 0) S.1 S.2.1 d_TK_init_20 (by decide) ?_
  refine q_put S hK hP hD hS 0 rfl fs_TK_52 (v := .int 0) rfl rfl (Nat.le_of_ble_eq_true rfl) d_TK_init_21 (fun H locs hP hD hS => ?_)
  have hP : va_P D classes [(h, .inr (2, [.int 0, .int (-1), .int 0, .null, .null, .int 0, .int 0, .int 0, .int 0, .null]))] H := hP
  have hD : va_D A [(h, .inr (2, [.int 0, .int (-1), .int 0, .null, .null, .int 0, .int 0, .int 0, .int 0, .null]))] := hD
  refine lv_aload_n S.1 S.2.1 d_TK_init_24 rfl (lv_at hl 0 rfl) ?_
  refine lv_aload_n S.1 S.2.1 d_TK_init_25 rfl (lv_at hl 1 rfl) ?_
  refine q_put S hK hP hD hS 0 rfl fs_TK_55 (v := .ref a) rfl rfl (Nat.le_of_ble_eq_true rfl) d_TK_init_26 (fun H locs hP hD hS => ?_)
  have hP : va_P D classes [(h, .inr (2, [.int 0, .int (-1), .int 0, .ref a, .null, .int 0, .int 0, .int 0, .int 0, .null]))] H := hP
  have hD : va_D A [(h, .inr (2, [.int 0, .int (-1), .int 0, .ref a, .null, .int 0, .int 0, .int 0, .int 0, .null]))] := hD
  refine lv_aload_n S.1 S.2.1 d_TK_init_29 rfl (lv_at hl 0 rfl) ?_
  refine lv_aload_n S.1 S.2.1 d_TK_init_30 rfl (lv_at hl 1 rfl) ?_
  refine vp_callSi (va_Run.run (rn_V S sc_TK_11 (As := []) (rest := [.ref h]) (c_STR_length l (t := t)) (zs.recv ((zs.kept ⟨va0, hza⟩ hS.2.1))) (fun U hU hW => ⟨hE.to hS.2.1 hU hW (fun _ h => h.elim), hza.to hS.2.1 hU hW.alike (fun _ h => h.elim)⟩) (Nat.le_of_ble_eq_true rfl) (Nat.le_of_ble_eq_true rfl) (by dsimp only [rmd] <;> omega) (by dsimp only [rmd] <;> omega) rfl hl.1 rfl (Nat.le_of_ble_eq_true rfl) d_TK_init_31)) (fun r0 h0 => ?_)
  subst h0
  refine q_put S hK hP hD hS 0 rfl fs_TK_58 (v := .int (nI n)) rfl rfl (Nat.le_of_ble_eq_true rfl) d_TK_init_34 (fun H locs hP hD hS => ?_)
  have hP : va_P D classes [(h, .inr (2, [.int 0, .int (-1), .int (nI n), .ref a, .null, .int 0, .int 0, .int 0, .int 0, .null]))] H := hP
  have hD : va_D A [(h, .inr (2, [.int 0, .int (-1), .int (nI n), .ref a, .null, .int 0, .int 0, .int 0, .int 0, .null]))] := hD
  refine lv_aload_n S.1 S.2.1 d_TK_init_37 rfl (lv_at hl 0 rfl) ?_
  refine lv_aload_n S.1 S.2.1 d_TK_init_38 rfl (lv_at hl 2 rfl) ?_
  refine q_put S hK hP hD hS 0 rfl fs_TK_1 (v := .ref b) rfl rfl (Nat.le_of_ble_eq_true rfl) d_TK_init_39 (fun H locs hP hD hS => ?_)
  have hP : va_P D classes [(h, .inr (2, [.int 0, .int (-1), .int (nI n), .ref a, .ref b, .int 0, .int 0, .int 0, .int 0, .null]))] H := hP
  have hD : va_D A [(h, .inr (2, [.int 0, .int (-1), .int (nI n), .ref a, .ref b, .int 0, .int 0, .int 0, .int 0, .null]))] := hD
  refine lv_aload_n S.1 S.2.1 d_TK_init_42 rfl (lv_at hl 0 rfl) ?_
  refine lv_iload_n S.1 S.2.1 d_TK_init_43 rfl (lv_at hl 3 rfl) ?_
  refine q_put S hK hP hD hS 0 rfl fs_TK_61 (v := .int (bI ret)) (bI_nar _) (bI_fit _) (Nat.le_of_ble_eq_true rfl) d_TK_init_44 (fun H locs hP hD hS => ?_)
  have hP : va_P D classes [(h, .inr (2, [.int 0, .int (-1), .int (nI n), .ref a, .ref b, .int (bI ret), .int 0, .int 0, .int 0, .null]))] H := hP
  have hD : va_D A [(h, .inr (2, [.int 0, .int (-1), .int (nI n), .ref a, .ref b, .int (bI ret), .int 0, .int 0, .int 0, .null]))] := hD
  refine lv_aload_n S.1 S.2.1 d_TK_init_47 rfl (lv_at hl 0 rfl) ?_
  have hPc := hP.sub (ws' := [(h, .inr (2, [.int 0, .int (-1), .int (nI n), .ref a, .ref b, .int (bI ret), .int 0, .int 0, .int 0, .null]))]) [0] rfl
  have hDc := hD.sub (ws' := [(h, .inr (2, [.int 0, .int (-1), .int (nI n), .ref a, .ref b, .int (bI ret), .int 0, .int 0, .int 0, .null]))]) [0] (by decide) rfl
  have hFc := va_free (wc := [(h, .inr (2, [.int 0, .int (-1), .int (nI n), .ref a, .ref b, .int (bI ret), .int 0, .int 0, .int 0, .null]))]) hD hS hA [0] rfl
  refine va_callv (rn_V S sc_TK_64 (As := []) (rest := []) (c_TK_setMax l (dl := dl) (k := k)) (va_recv hK hP (ci := 2) (q0 := 0) rfl rfl) (fun U hU hW => ⟨by rw [hU], hE.to hS.2.1 hU hW hFc, by rw [hU]; exact hPc, hDc.weaken (fun _ _ _ _ => trivial), hzb.to hS.2.1 hU hW.alike hFc⟩) (Nat.le_of_ble_eq_true rfl) (Nat.le_of_ble_eq_true rfl) (by dsimp only [rmd] <;> omega) (by dsimp only [rmd] <;> omega) rfl hl.1 rfl (Nat.le_of_ble_eq_true rfl) d_TK_init_48) hS (fun q _ h => hFc q h) hFc (fun _ t_ H_26 locs ht_27 hv_30 _ hB hz_29 hk_28 hS => ?_)
  obtain ⟨mx, hP1, hD1, hm1, hm2⟩ := hB
  rw [ht_27] at hP1
  obtain ⟨hP, hD⟩ := va_join (wr := []) (w1 := [(h, .inr (2, [.int 0, .int (-1), .int (nI n), .ref a, .ref b, .int (bI ret), .int 0, .int (nI mx), .int 0, .null]))]) hP hD [0] [] rfl rfl (by decide) (by decide) hk_28 hFc hP1 hD1
  have hP : va_P D classes [(h, .inr (2, [.int 0, .int (-1), .int (nI n), .ref a, .ref b, .int (bI ret), .int 0, .int (nI mx), .int 0, .null]))] H_26 := hP
  have hD : va_D A [(h, .inr (2, [.int 0, .int (-1), .int (nI n), .ref a, .ref b, .int (bI ret), .int 0, .int (nI mx), .int 0, .null]))] := hD
  refine W.widen (k := 0) (n := 0) (by omega) (by omega) ?_
  exact W.vret S.1 S.2.1 hr (fun t ht hW => ⟨⟨(), rfl, trivial, mx, by rw [ht]; exact hP, hD, hm1, hm2⟩, hS.F ht⟩) hS.2.2 d_TK_init_51 hlk
set_option maxHeartbeats 4000000 in
set_option maxRecDepth 100000 in
/-- hasMoreTokens -/
theorem c_TK_has (l : Launch) {D : va_G} {cB cC : ClassId} {sz : Nat} {h cp n a b k mx : Nat} {np : Int32} {ret : Bool} {t dl : Nat → Nat} {P : Nat → Bool} (hcp : cp ≤ n) (hmx : mx < 128) (hPd : ∀ j, j < n → (P j = true ↔ ∃ i, i < k ∧ dl i = t j)) (hdm : ∀ i, i < k → dl i ≤ mx) : Ct l y_TK_has b_TK_has 1 (Option.some FieldType.boolean) 5 0 0 [.ref h] (fun U => U.heap.size = sz ∧ en D cB cC (va_A [(h, .inr (2, [.int (nI cp), .int np, .int (nI n), .ref a, .ref b, .int (bI ret), .int 0, .int (nI mx), .int 0, .null]))] sz) U U.heap ∧ va_P D classes [(h, .inr (2, [.int (nI cp), .int np, .int (nI n), .ref a, .ref b, .int (bI ret), .int 0, .int (nI mx), .int 0, .null]))] U.heap ∧ va_D (fun _ => True) [(h, .inr (2, [.int (nI cp), .int np, .int (nI n), .ref a, .ref b, .int (bI ret), .int 0, .int (nI mx), .int 0, .null]))] ∧ zs a n t (va_A [(h, .inr (2, [.int (nI cp), .int np, .int (nI n), .ref a, .ref b, .int (bI ret), .int 0, .int (nI mx), .int 0, .null]))] sz) U U.heap ∧ zs b k dl (va_A [(h, .inr (2, [.int (nI cp), .int np, .int (nI n), .ref a, .ref b, .int (bI ret), .int 0, .int (nI mx), .int 0, .null]))] sz) U U.heap) (va_Qi (fun r (_ : Unit) => r = bI (decide (skp ret P n cp < n))) (fun _ u => va_P D classes [(h, .inr (2, [.int (nI cp), .int (nI (skp ret P n cp)), .int (nI n), .ref a, .ref b, .int (bI ret), .int 0, .int (nI mx), .int 0, .null]))] u.heap ∧ va_D (va_A [(h, .inr (2, [.int (nI cp), .int np, .int (nI n), .ref a, .ref b, .int (bI ret), .int 0, .int (nI mx), .int 0, .null]))] sz) [(h, .inr (2, [.int (nI cp), .int (nI (skp ret P n cp)), .int (nI n), .ref a, .ref b, .int (bI ret), .int 0, .int (nI mx), .int 0, .null]))]) (va_A [(h, .inr (2, [.int (nI cp), .int np, .int (nI n), .ref a, .ref b, .int (bI ret), .int 0, .int (nI mx), .int 0, .null]))] sz)) (va_A [(h, .inr (2, [.int (nI cp), .int np, .int (nI n), .ref a, .ref b, .int (bI ret), .int 0, .int (nI mx), .int 0, .null]))] sz) := by
  refine ct_of (by decide) (Nat.le_of_ble_eq_true rfl) (fun _ _ _ _ h => h) ?_
  intro p e s m below meth c ls S hr hlk hnm hB hl
  have hl : lv_has ls 1 [(0, .ref h)] := hl
  obtain ⟨hsz, hE, hP, hD0, hza, hzb⟩ := hB
  subst hsz
  have hD := hD0.self (sz := s.heap.size)
  generalize hAe : va_A [(h, .inr (2, [.int (nI cp), .int np, .int (nI n), .ref a, .ref b, .int (bI ret), .int 0, .int (nI mx), .int 0, .null]))] s.heap.size = A at hD hE hza hzb ⊢
  have hA : ∀ q : Nat, s.heap.size ≤ q → A q := fun q h => by rw [← hAe]; exact Or.inr h
  have hS : va_S A s.heap s.heap [] := va_S.rf
  have hK := hE.1
  have hP : va_P D classes [(h, .inr (2, [.int (nI cp), .int np, .int (nI n), .ref a, .ref b, .int (bI ret), .int 0, .int (nI mx), .int 0, .null]))] s.heap := hP
  have hn := hza.lt.1
  have hsk := skp_in (ret := ret) (P := P) hcp
  refine lv_aload_n S.1 S.2.1 d_TK_has_0 rfl (lv_at hl 0 rfl) ?_
  refine lv_aload_n S.1 S.2.1 d_TK_has_1 rfl (lv_at hl 0 rfl) ?_
  refine lv_aload_n S.1 S.2.1 d_TK_has_2 rfl (lv_at hl 0 rfl) ?_
  refine q_get S hK hP 0 rfl fs_TK_46 (v := .int (nI cp)) rfl d_TK_has_3 ?_
  refine vp_callSi (va_Run.run (rn_V S sc_TK_82 (As := [.int (nI cp)]) (rest := [.ref h]) (c_TK_skip l hcp hmx hPd hdm (t := t) (dl := dl)) (va_recv hK hP (ci := 2) (q0 := 0) rfl rfl) (fun U hU hW => ⟨hE.to hS.2.1 hU hW (fun _ h => h.elim), by rw [hU]; exact hP, hza.to hS.2.1 hU hW.alike (fun _ h => h.elim), hzb.to hS.2.1 hU hW.alike (fun _ h => h.elim)⟩) (Nat.le_of_ble_eq_true rfl) (Nat.le_of_ble_eq_true rfl) (by dsimp only [rmd] <;> omega) (by dsimp only [rmd] <;> omega) rfl hl.1 rfl (Nat.le_of_ble_eq_true rfl) d_TK_has_6)) (fun r0 h0 => ?_)
  subst h0
  refine q_put S hK hP hD hS 0 rfl fs_TK_49 (v := .int (nI (skp ret P n cp))) rfl rfl (Nat.le_of_ble_eq_true rfl) d_TK_has_9 (fun H locs hP hD hS => ?_)
  have hP : va_P D classes [(h, .inr (2, [.int (nI cp), .int (nI (skp ret P n cp)), .int (nI n), .ref a, .ref b, .int (bI ret), .int 0, .int (nI mx), .int 0, .null]))] H := hP
  have hD : va_D A [(h, .inr (2, [.int (nI cp), .int (nI (skp ret P n cp)), .int (nI n), .ref a, .ref b, .int (bI ret), .int 0, .int (nI mx), .int 0, .null]))] := hD
  refine lv_aload_n S.1 S.2.1 d_TK_has_12 rfl (lv_at hl 0 rfl) ?_
  refine q_get S hK hP 0 rfl fs_TK_49 (v := .int (nI (skp ret P n cp))) rfl d_TK_has_13 ?_
  refine lv_aload_n S.1 S.2.1 d_TK_has_16 rfl (lv_at hl 0 rfl) ?_
  refine q_get S hK hP 0 rfl fs_TK_58 (v := .int (nI n)) rfl d_TK_has_17 ?_
  by_cases hlt : skp ret P n cp < n
  ·
    refine lv_icmp_ge (tgt := 27) S.1 S.2.1 d_TK_has_20 (by decide) (fun c => absurd c (nI_ge hlt (by omega))) (fun _ => ?_)
    refine lv_iconst (v := 1) S.1 S.2.1 d_TK_has_23 (by decide) ?_
    refine lv_goto (tgt := 28) S.1 S.2.1 d_TK_has_24 (by decide) ?_
    refine W.widen (k := 0) (n := 0) (by omega) (by omega) ?_
    exact W.zret (v := 1) S.1 S.2.1 hr (rfl) (fun t ht hW => ⟨⟨1, (), rfl, by simp [hlt, bI], by rw [ht]; exact hP, hD⟩, hS.F ht⟩) hS.2.2 d_TK_has_28 hlk
  ·
    refine lv_icmp_ge (tgt := 27) S.1 S.2.1 d_TK_has_20 (by decide) (fun _ => ?_) (fun c => absurd (nI_le (by omega) (by omega)) c)
    refine lv_iconst (v := 0) S.1 S.2.1 d_TK_has_27 (by decide) ?_
    refine W.widen (k := 0) (n := 0) (by omega) (by omega) ?_
    exact W.zret (v := 0) S.1 S.2.1 hr (rfl) (fun t ht hW => ⟨⟨0, (), rfl, by simp [hlt, bI], by rw [ht]; exact hP, hD⟩, hS.F ht⟩) hS.2.2 d_TK_has_28 hlk
set_option maxHeartbeats 4000000 in
set_option maxRecDepth 100000 in
/-- nextToken, behind hasMoreTokens -/
theorem c_TK_next (l : Launch) {D : va_G} {cB cC : ClassId} {sz : Nat} {h cp n a b k mx : Nat} {ret : Bool} {t dl : Nat → Nat} {P : Nat → Bool} (h8n : n < 2 ^ 20) (hlt : skp ret P n cp < n) (hcp : cp ≤ n) (hmx : mx < 128) (hPd : ∀ j, j < n → (P j = true ↔ ∃ i, i < k ∧ dl i = t j)) (hdm : ∀ i, i < k → dl i ≤ mx) : Ct l y_TK_next b_TK_next 2 (Option.some (FieldType.object "java/lang/String")) 5 2 (4 + ((scn ret P n (skp ret P n cp)) - (skp ret P n cp))) [.ref h] (fun U => U.heap.size = sz ∧ en D cB cC (va_A [(h, .inr (2, [.int (nI cp), .int (nI (skp ret P n cp)), .int (nI n), .ref a, .ref b, .int (bI ret), .int 0, .int (nI mx), .int 0, .null]))] sz) U U.heap ∧ va_P D classes [(h, .inr (2, [.int (nI cp), .int (nI (skp ret P n cp)), .int (nI n), .ref a, .ref b, .int (bI ret), .int 0, .int (nI mx), .int 0, .null]))] U.heap ∧ va_D (fun _ => True) [(h, .inr (2, [.int (nI cp), .int (nI (skp ret P n cp)), .int (nI n), .ref a, .ref b, .int (bI ret), .int 0, .int (nI mx), .int 0, .null]))] ∧ zs a n t (va_A [(h, .inr (2, [.int (nI cp), .int (nI (skp ret P n cp)), .int (nI n), .ref a, .ref b, .int (bI ret), .int 0, .int (nI mx), .int 0, .null]))] sz) U U.heap ∧ zs b k dl (va_A [(h, .inr (2, [.int (nI cp), .int (nI (skp ret P n cp)), .int (nI n), .ref a, .ref b, .int (bI ret), .int 0, .int (nI mx), .int 0, .null]))] sz) U U.heap) (va_Qr (fun _ : Unit => True) (fun _ q u => va_P D classes [(h, .inr (2, [.int (nI (scn ret P n (skp ret P n cp))), .int (-1), .int (nI n), .ref a, .ref b, .int (bI ret), .int 0, .int (nI mx), .int 0, .null]))] u.heap ∧ va_D (va_A [(h, .inr (2, [.int (nI cp), .int (nI (skp ret P n cp)), .int (nI n), .ref a, .ref b, .int (bI ret), .int 0, .int (nI mx), .int 0, .null]))] sz) [(h, .inr (2, [.int (nI (scn ret P n (skp ret P n cp))), .int (-1), .int (nI n), .ref a, .ref b, .int (bI ret), .int 0, .int (nI mx), .int 0, .null]))] ∧ zs q ((scn ret P n (skp ret P n cp)) - (skp ret P n cp)) (fun x => t ((skp ret P n cp) + x)) nF u u.heap) (va_A [(h, .inr (2, [.int (nI cp), .int (nI (skp ret P n cp)), .int (nI n), .ref a, .ref b, .int (bI ret), .int 0, .int (nI mx), .int 0, .null]))] sz)) (va_A [(h, .inr (2, [.int (nI cp), .int (nI (skp ret P n cp)), .int (nI n), .ref a, .ref b, .int (bI ret), .int 0, .int (nI mx), .int 0, .null]))] sz) := by
  refine ct_of (by decide) (Nat.le_of_ble_eq_true rfl) (fun _ _ _ _ h => h) ?_
  intro p e s m below meth c ls S hr hlk hnm hB hl
  have hl : lv_has ls 2 [(0, .ref h)] := hl
  obtain ⟨hsz, hE, hP, hD0, hza, hzb⟩ := hB
  subst hsz
  have hD := hD0.self (sz := s.heap.size)
  generalize hAe : va_A [(h, .inr (2, [.int (nI cp), .int (nI (skp ret P n cp)), .int (nI n), .ref a, .ref b, .int (bI ret), .int 0, .int (nI mx), .int 0, .null]))] s.heap.size = A at hD hE hza hzb ⊢
  have hA : ∀ q : Nat, s.heap.size ≤ q → A q := fun q h => by rw [← hAe]; exact Or.inr h
  have hS : va_S A s.heap s.heap [] := va_S.rf
  have hK := hE.1
  have hP : va_P D classes [(h, .inr (2, [.int (nI cp), .int (nI (skp ret P n cp)), .int (nI n), .ref a, .ref b, .int (bI ret), .int 0, .int (nI mx), .int 0, .null]))] s.heap := hP
  have hsk := skp_in (ret := ret) (P := P) hcp
  have hsc := scn_in hlt (skp_P hcp hlt)
  refine lv_aload_n S.1 S.2.1 d_TK_next_0 rfl (lv_at hl 0 rfl) ?_
  refine lv_aload_n S.1 S.2.1 d_TK_next_1 rfl (lv_at hl 0 rfl) ?_
  refine q_get S hK hP 0 rfl fs_TK_49 (v := .int (nI (skp ret P n cp))) rfl d_TK_next_2 ?_
  refine lv_if_lt (tgt := 22) S.1 S.2.1 d_TK_next_5 (by decide) (fun c => absurd c (nI_pos (by omega))) (fun _ => ?_)
  refine lv_aload_n S.1 S.2.1 d_TK_next_8 rfl (lv_at hl 0 rfl) ?_
  refine q_get S hK hP 0 rfl fs_TK_52 (v := .int 0) rfl d_TK_next_9 ?_
  refine lv_if_ne (tgt := 22) S.1 S.2.1 d_TK_next_12 (by decide) (fun c => absurd (rfl) c) (fun _ => ?_)
  refine lv_aload_n S.1 S.2.1 d_TK_next_15 rfl (lv_at hl 0 rfl) ?_
  refine q_get S hK hP 0 rfl fs_TK_49 (v := .int (nI (skp ret P n cp))) rfl d_TK_next_16 ?_
  refine lv_goto (tgt := 30) S.1 S.2.1 d_TK_next_19 (by decide) ?_
  refine q_put S hK hP hD hS 0 rfl fs_TK_46 (v := .int (nI (skp ret P n cp))) rfl rfl (Nat.le_of_ble_eq_true rfl) d_TK_next_30 (fun H locs hP hD hS => ?_)
  have hP : va_P D classes [(h, .inr (2, [.int (nI (skp ret P n cp)), .int (nI (skp ret P n cp)), .int (nI n), .ref a, .ref b, .int (bI ret), .int 0, .int (nI mx), .int 0, .null]))] H := hP
  have hD : va_D A [(h, .inr (2, [.int (nI (skp ret P n cp)), .int (nI (skp ret P n cp)), .int (nI n), .ref a, .ref b, .int (bI ret), .int 0, .int (nI mx), .int 0, .null]))] := hD
  refine lv_aload_n S.1 S.2.1 d_TK_next_33 rfl (lv_at hl 0 rfl) ?_
  refine lv_iconst (v := 0) S.1 S.2.1 d_TK_next_34 (by decide) ?_
  refine q_put S hK hP hD hS 0 rfl fs_TK_52 (v := .int 0) rfl rfl (Nat.le_of_ble_eq_true rfl) d_TK_next_35 (fun H locs hP hD hS => ?_)
  have hP : va_P D classes [(h, .inr (2, [.int (nI (skp ret P n cp)), .int (nI (skp ret P n cp)), .int (nI n), .ref a, .ref b, .int (bI ret), .int 0, .int (nI mx), .int 0, .null]))] H := hP
  have hD : va_D A [(h, .inr (2, [.int (nI (skp ret P n cp)), .int (nI (skp ret P n cp)), .int (nI n), .ref a, .ref b, .int (bI ret), .int 0, .int (nI mx), .int 0, .null]))] := hD
  refine lv_aload_n S.1 S.2.1 d_TK_next_38 rfl (lv_at hl 0 rfl) ?_
  refine lv_iconst (v := (-1)) S.1 S.2.1 d_TK_next_39 (by decide) ?_
  refine q_put S hK hP hD hS 0 rfl fs_TK_49 (v := .int (-1)) rfl rfl (Nat.le_of_ble_eq_true rfl) d_TK_next_40 (fun H locs hP hD hS => ?_)
  have hP : va_P D classes [(h, .inr (2, [.int (nI (skp ret P n cp)), .int (-1), .int (nI n), .ref a, .ref b, .int (bI ret), .int 0, .int (nI mx), .int 0, .null]))] H := hP
  have hD : va_D A [(h, .inr (2, [.int (nI (skp ret P n cp)), .int (-1), .int (nI n), .ref a, .ref b, .int (bI ret), .int 0, .int (nI mx), .int 0, .null]))] := hD
  refine lv_aload_n S.1 S.2.1 d_TK_next_43 rfl (lv_at hl 0 rfl) ?_
  refine q_get S hK hP 0 rfl fs_TK_46 (v := .int (nI (skp ret P n cp))) rfl d_TK_next_44 ?_
  refine lv_aload_n S.1 S.2.1 d_TK_next_47 rfl (lv_at hl 0 rfl) ?_
  refine q_get S hK hP 0 rfl fs_TK_58 (v := .int (nI n)) rfl d_TK_next_48 ?_
  refine lv_icmp_lt (tgt := 62) S.1 S.2.1 d_TK_next_51 (by decide) (fun _ => ?_) (fun c => absurd (nI_lt hlt (by omega)) c)
  refine lv_aload_n S.1 S.2.1 d_TK_next_62 rfl (lv_at hl 0 rfl) ?_
  refine q_get S hK hP 0 rfl fs_TK_46 (v := .int (nI (skp ret P n cp))) rfl d_TK_next_63 ?_
  refine lv_istore_n (lv' := [(1, .int (nI (skp ret P n cp))), (0, .ref h)]) S.1 S.2.1 d_TK_next_66 rfl hl (by decide) rfl (fun ls hl => ?_)
  refine lv_aload_n S.1 S.2.1 d_TK_next_67 rfl (lv_at hl 1 rfl) ?_
  refine lv_aload_n S.1 S.2.1 d_TK_next_68 rfl (lv_at hl 1 rfl) ?_
  refine lv_aload_n S.1 S.2.1 d_TK_next_69 rfl (lv_at hl 1 rfl) ?_
  refine q_get S hK hP 0 rfl fs_TK_46 (v := .int (nI (skp ret P n cp))) rfl d_TK_next_70 ?_
  refine vp_callSi (va_Run.run (rn_V S sc_TK_88 (As := [.int (nI (skp ret P n cp))]) (rest := [.ref h]) (c_TK_scan l hlt hmx hPd hdm (t := t) (dl := dl)) (va_recv hK hP (ci := 2) (q0 := 0) rfl rfl) (fun U hU hW => ⟨hE.to hS.2.1 hU hW (fun _ h => h.elim), by rw [hU]; exact hP, hza.to hS.2.1 hU hW.alike (fun _ h => h.elim), hzb.to hS.2.1 hU hW.alike (fun _ h => h.elim)⟩) (Nat.le_of_ble_eq_true rfl) (Nat.le_of_ble_eq_true rfl) (by dsimp only [rmd] <;> omega) (by dsimp only [rmd] <;> omega) rfl hl.1 rfl (Nat.le_of_ble_eq_true rfl) d_TK_next_73)) (fun r0 h0 => ?_)
  subst h0
  refine q_put S hK hP hD hS 0 rfl fs_TK_46 (v := .int (nI (scn ret P n (skp ret P n cp)))) rfl rfl (Nat.le_of_ble_eq_true rfl) d_TK_next_76 (fun H locs hP hD hS => ?_)
  have hP : va_P D classes [(h, .inr (2, [.int (nI (scn ret P n (skp ret P n cp))), .int (-1), .int (nI n), .ref a, .ref b, .int (bI ret), .int 0, .int (nI mx), .int 0, .null]))] H := hP
  have hD : va_D A [(h, .inr (2, [.int (nI (scn ret P n (skp ret P n cp))), .int (-1), .int (nI n), .ref a, .ref b, .int (bI ret), .int 0, .int (nI mx), .int 0, .null]))] := hD
  refine lv_aload_n S.1 S.2.1 d_TK_next_79 rfl (lv_at hl 1 rfl) ?_
  refine q_get S hK hP 0 rfl fs_TK_55 (v := .ref a) rfl d_TK_next_80 ?_
  refine lv_iload_n S.1 S.2.1 d_TK_next_83 rfl (lv_at hl 0 rfl) ?_
  refine lv_aload_n S.1 S.2.1 d_TK_next_84 rfl (lv_at hl 1 rfl) ?_
  refine q_get S hK hP 0 rfl fs_TK_46 (v := .int (nI (scn ret P n (skp ret P n cp)))) rfl d_TK_next_85 ?_
  obtain ⟨va0, hza0⟩ := hza
  have hPc := hP.sub (ws' := []) [] rfl
  have hDc := hD.sub (ws' := []) [] (by decide) rfl
  have hFc := va_free (wc := []) hD hS hA [] rfl
  refine va_callr (rn_V S sc_TK_91 (As := [.int (nI (skp ret P n cp)), .int (nI (scn ret P n (skp ret P n cp)))]) (rest := []) (c_STR_substring l (t := t) (n := n) (i := (skp ret P n cp)) (j := (scn ret P n (skp ret P n cp))) hsc.1 hsc.2 (by omega)) (zs.recv ((zs.kept ⟨va0, hza0⟩ hS.2.1))) (fun U hU hW => ⟨by rw [hU], hE.to hS.2.1 hU hW hFc, by rw [hU]; exact hPc, hDc.weaken (fun _ _ _ _ => trivial), hza0.to hS.2.1 hU hW.alike hFc⟩) (Nat.le_of_ble_eq_true rfl) (Nat.le_of_ble_eq_true rfl) (by dsimp only [rmd] <;> omega) (by dsimp only [rmd] <;> omega) rfl hl.1 rfl (Nat.le_of_ble_eq_true rfl) d_TK_next_88) hS (fun q _ h => hFc q h) hFc (fun _ q t_ H_31 locs ht_32 hv_35 _ hB hz_34 hk_33 hS => ?_)
  have hzz0 := hB
  have hP1 : va_P D classes [] H_31 := vn_P
  have hD1 : va_D (va_A [] H.size) [] := vn_D
  obtain ⟨hP, hD⟩ := va_join (wr := [(h, .inr (2, [.int (nI (scn ret P n (skp ret P n cp))), .int (-1), .int (nI n), .ref a, .ref b, .int (bI ret), .int 0, .int (nI mx), .int 0, .null]))]) (w1 := []) hP hD [] [0] rfl rfl (by decide) (by decide) hk_33 hFc hP1 hD1
  have hP : va_P D classes [(h, .inr (2, [.int (nI (scn ret P n (skp ret P n cp))), .int (-1), .int (nI n), .ref a, .ref b, .int (bI ret), .int 0, .int (nI mx), .int 0, .null]))] H_31 := hP
  have hD : va_D A [(h, .inr (2, [.int (nI (scn ret P n (skp ret P n cp))), .int (-1), .int (nI n), .ref a, .ref b, .int (bI ret), .int 0, .int (nI mx), .int 0, .null]))] := hD
  rw [ht_32] at hzz0
  have hzz := zs.moved hzz0 hv_35.symm
  refine W.widen (k := 2) (n := (4 + ((scn ret P n (skp ret P n cp)) - (skp ret P n cp)))) (by omega) (by omega) ?_
  exact W.aret S.1 S.2.1 hr (Or.inl ⟨_, rfl⟩) (Or.inr ⟨_, rfl⟩) (fun t ht hW => ⟨⟨(), q, rfl, trivial, by rw [ht]; exact hP, hD, hzz.to (fun _ _ _ => rfl) ht hW.alike (fun _ h => h)⟩, hS.F ht⟩) hS.2.2 d_TK_next_91 hlk
end
section
/-- is x one of the signs that the bits of sg name -/
def sgn (sg : Int32) (x : Nat) : Bool := (decide (x = 44) && decide (¬ sg &&& 1 = 0)) || (decide (x = 32) && decide (¬ sg &&& 2 = 0)) || (decide (x = 59) && decide (¬ sg &&& 4 = 0))
def memb (k : Nat) (u : Nat → Nat) (x : Nat) : Prop := ∃ i, i < k ∧ u i = x
theorem memb_cat {n k x : Nat} {t u : Nat → Nat} : memb (n + k) (sb_cat t n u) x ↔ memb n t x ∨ memb k u x := by
  constructor
  · rintro ⟨i, h1, h2⟩
    rcases Nat.lt_or_ge i n with h | h
    · exact Or.inl ⟨i, h, by rw [sb_cat_lo h] at h2; exact h2⟩
    · refine Or.inr ⟨i - n, by omega, ?_⟩
      have := sb_cat_hi (t := t) (s := u) (n := n) (j := i - n)
      rw [show n + (i - n) = i by omega] at this
      rw [← this]; exact h2
  · rintro (⟨i, h1, h2⟩ | ⟨i, h1, h2⟩)
    · exact ⟨i, by omega, by rw [sb_cat_lo h1]; exact h2⟩
    · exact ⟨n + i, by omega, by rw [sb_cat_hi]; exact h2⟩
theorem memb_0 {u : Nat → Nat} {x : Nat} : ¬ memb 0 u x := fun ⟨_, h, _⟩ => absurd h (by omega)
theorem memb_1 {x y : Nat} : memb 1 (fun _ => y) x ↔ x = y := ⟨fun ⟨_, _, h⟩ => h.symm, fun h => ⟨0, by omega, h.symm⟩⟩
set_option maxHeartbeats 4000000 in
set_option maxRecDepth 100000 in
/-- TokenDrill.<init>() -/
theorem c_TD_init (l : Launch) {D : va_G} {cB cC : ClassId} {sz : Nat} {x c0 c1 : Nat} {t0 dl : Nat → Nat} : Ct l y_TD_init b_TD_init 1 (Option.none : Option FieldType) 6 3 30 [.ref x] (fun U => U.heap.size = sz ∧ en D cB cC (va_A [(x, .inr (0, [.null, .null]))] sz) U U.heap ∧ va_P D classes [(x, .inr (0, [.null, .null]))] U.heap ∧ va_D (fun _ => True) [(x, .inr (0, [.null, .null]))] ∧ vk_R "TokenDrill" 18 "" c0 U ∧ vk_R "TokenDrill" 20 "," c1 U ∧ zs c0 0 t0 (va_A [(x, .inr (0, [.null, .null]))] sz) U U.heap ∧ zs c1 1 dl (va_A [(x, .inr (0, [.null, .null]))] sz) U U.heap) (va_Qv (fun _ : Unit => True) (fun _ u => ∃ h v q mx, va_P D classes [(x, .inr (0, [.ref h, .ref q])), (h, .inr (1, [.ref v, .int 0, .int 0, .int (nI 0)])), (v, .inl (cB, 16, .inl (fun _ => 0))), (q, .inr (2, [.int (nI 0), .int (-1), .int (nI 0), .ref c0, .ref c1, .int (bI false), .int 0, .int (nI mx), .int 0, .null]))] u.heap ∧ va_D (va_A [(x, .inr (0, [.null, .null]))] sz) [(x, .inr (0, [.ref h, .ref q])), (h, .inr (1, [.ref v, .int 0, .int 0, .int (nI 0)])), (v, .inl (cB, 16, .inl (fun _ => 0))), (q, .inr (2, [.int (nI 0), .int (-1), .int (nI 0), .ref c0, .ref c1, .int (bI false), .int 0, .int (nI mx), .int 0, .null]))] ∧ mx < 128 ∧ ∀ i, i < 1 → dl i ≤ mx) (va_A [(x, .inr (0, [.null, .null]))] sz)) (va_A [(x, .inr (0, [.null, .null]))] sz) := by
  refine ct_of (by decide) (Nat.le_of_ble_eq_true rfl) (fun _ _ _ _ h => h) ?_
  intro p e s m below meth c ls S hr hlk hnm hB hl
  have hl : lv_has ls 1 [(0, .ref x)] := hl
  obtain ⟨hsz, hE, hP, hD0, hR0, hR1, hz0, hz1⟩ := hB
  subst hsz
  have hD := hD0.self (sz := s.heap.size)
  generalize hAe : va_A [(x, .inr (0, [.null, .null]))] s.heap.size = A at hD hE hz0 hz1 ⊢
  have hA : ∀ q : Nat, s.heap.size ≤ q → A q := fun q h => by rw [← hAe]; exact Or.inr h
  have hS : va_S A s.heap s.heap [] := va_S.rf
  have hK := hE.1
  have hP : va_P D classes [(x, .inr (0, [.null, .null]))] s.heap := hP
  have hin : meth.name = "<init>" := hnm
  refine lv_aload_n S.1 S.2.1 d_TD_init_0 rfl (lv_at hl 0 rfl) ?_
  refine q_obj S hl.1 k_19 (Nat.le_of_ble_eq_true rfl) (Nat.le_of_ble_eq_true rfl) d_TD_init_1 ?_
  refine lv_aload_n S.1 S.2.1 d_TD_init_4 rfl (lv_at hl 0 rfl) ?_
  refine va_new (ci := 1) (fs := [.null, .int 0, .int 0, .int 0]) (C := R_SB) (T := F_SB) (N := 4) S.1 S.2.1 S.2.2.2.2 i_SB t_SB t_SB_ok S.2.2.2.1 (S.2.2.2.2 _ k_22) (S.2.2.2.2 _ k_23) (S.2.2.2.2 _ k_3) hK hP hD hS hA rfl (fun j hj => by rcases (show j = 0 ∨ j = 1 ∨ j = 2 ∨ j = 3 by omega) with rfl | rfl | rfl | rfl <;> rfl) (by dsimp only [rmd] <;> omega) (by dsimp only [rmd] <;> omega) d_TD_init_5 (fun h H hP hD hS => ?_)
  have hP : va_P D classes [(x, .inr (0, [.null, .null])), (h, .inr (1, [.null, .int 0, .int 0, .int 0]))] H := hP
  have hD : va_D A [(x, .inr (0, [.null, .null])), (h, .inr (1, [.null, .int 0, .int 0, .int 0]))] := hD
  refine lv_dup S.1 S.2.1 d_TD_init_8 rfl ?_
  have hPc := hP.sub (ws' := [(h, .inr (1, [.null, .int 0, .int 0, .int 0]))]) [1] rfl
  have hDc := hD.sub (ws' := [(h, .inr (1, [.null, .int 0, .int 0, .int 0]))]) [1] (by decide) rfl
  have hFc := va_free (wc := [(h, .inr (1, [.null, .int 0, .int 0, .int 0]))]) hD hS hA [1] rfl
  refine va_callv (rn_I S sc_TD_9 (As := []) (rest := [.ref h, .ref x]) (c_SB_init l) (fun U hU hW => ⟨by rw [hU], hE.to hS.2.1 hU hW hFc, by rw [hU]; exact hPc, hDc.weaken (fun _ _ _ _ => trivial)⟩) (Nat.le_of_ble_eq_true rfl) (Nat.le_of_ble_eq_true rfl) (by dsimp only [rmd] <;> omega) (by dsimp only [rmd] <;> omega) rfl hl.1 rfl (Nat.le_of_ble_eq_true rfl) d_TD_init_9) hS (fun q _ h => hFc q h) hFc (fun _ t_ H_36 locs ht_37 hv_40 _ hB hz_39 hk_38 hS => ?_)
  obtain ⟨v, hP1, hD1⟩ := hB
  rw [ht_37] at hP1
  obtain ⟨hP, hD⟩ := va_join (wr := [(x, .inr (0, [.null, .null]))]) (w1 := [(h, .inr (1, [.ref v, .int 0, .int 0, .int 0])), (v, .inl (cB, 16, .inl (fun _ => 0)))]) hP hD [1] [0] rfl rfl (by decide) (by decide) hk_38 hFc hP1 hD1
  have hP : va_P D classes [(x, .inr (0, [.null, .null])), (h, .inr (1, [.ref v, .int 0, .int 0, .int 0])), (v, .inl (cB, 16, .inl (fun _ => 0)))] H_36 := hP
  have hD : va_D A [(x, .inr (0, [.null, .null])), (h, .inr (1, [.ref v, .int 0, .int 0, .int 0])), (v, .inl (cB, 16, .inl (fun _ => 0)))] := hD
  refine q_putF S hin hK hP hD hS 0 rfl fs_TD_10 (v := .ref h) rfl rfl (Nat.le_of_ble_eq_true rfl) d_TD_init_12 (fun H locs hP hD hS => ?_)
  have hP : va_P D classes [(x, .inr (0, [.ref h, .null])), (h, .inr (1, [.ref v, .int 0, .int 0, .int 0])), (v, .inl (cB, 16, .inl (fun _ => 0)))] H := hP
  have hD : va_D A [(x, .inr (0, [.ref h, .null])), (h, .inr (1, [.ref v, .int 0, .int 0, .int 0])), (v, .inl (cB, 16, .inl (fun _ => 0)))] := hD
  refine lv_aload_n S.1 S.2.1 d_TD_init_15 rfl (lv_at hl 0 rfl) ?_
  refine va_new (ci := 2) (fs := [.int 0, .int 0, .int 0, .null, .null, .int 0, .int 0, .int 0, .int 0, .null]) (C := R_TK) (T := F_TK) (N := 10) S.1 S.2.1 S.2.2.2.2 i_TK t_TK t_TK_ok S.2.2.2.1 (S.2.2.2.2 _ k_55) (S.2.2.2.2 _ k_56) (S.2.2.2.2 _ k_6) hK hP hD hS hA rfl (fun j hj => by rcases (show j = 0 ∨ j = 1 ∨ j = 2 ∨ j = 3 ∨ j = 4 ∨ j = 5 ∨ j = 6 ∨ j = 7 ∨ j = 8 ∨ j = 9 by omega) with rfl | rfl | rfl | rfl | rfl | rfl | rfl | rfl | rfl | rfl <;> rfl) (by dsimp only [rmd] <;> omega) (by dsimp only [rmd] <;> omega) d_TD_init_16 (fun q H hP hD hS => ?_)
  have hP : va_P D classes [(x, .inr (0, [.ref h, .null])), (h, .inr (1, [.ref v, .int 0, .int 0, .int 0])), (v, .inl (cB, 16, .inl (fun _ => 0))), (q, .inr (2, [.int 0, .int 0, .int 0, .null, .null, .int 0, .int 0, .int 0, .int 0, .null]))] H := hP
  have hD : va_D A [(x, .inr (0, [.ref h, .null])), (h, .inr (1, [.ref v, .int 0, .int 0, .int 0])), (v, .inl (cB, 16, .inl (fun _ => 0))), (q, .inr (2, [.int 0, .int 0, .int 0, .null, .null, .int 0, .int 0, .int 0, .int 0, .null]))] := hD
  refine lv_dup S.1 S.2.1 d_TD_init_19 rfl ?_
  refine va_ldcS S.1 S.2.1 S.2.2.2.1 hR0 d_TD_init_20 ?_
  refine va_ldcS S.1 S.2.1 S.2.2.2.1 hR1 d_TD_init_22 ?_
  refine lv_iconst (v := 0) S.1 S.2.1 d_TD_init_24 (by decide) ?_
  refine q_top (x' := bI false) (rfl) ?_
  have hPc := hP.sub (ws' := [(q, .inr (2, [.int 0, .int 0, .int 0, .null, .null, .int 0, .int 0, .int 0, .int 0, .null]))]) [3] rfl
  have hDc := hD.sub (ws' := [(q, .inr (2, [.int 0, .int 0, .int 0, .null, .null, .int 0, .int 0, .int 0, .int 0, .null]))]) [3] (by decide) rfl
  have hFc := va_free (wc := [(q, .inr (2, [.int 0, .int 0, .int 0, .null, .null, .int 0, .int 0, .int 0, .int 0, .null]))]) hD hS hA [3] rfl
  refine va_callv (rn_I S sc_TD_22 (As := [.ref c0, .ref c1, .int (bI false)]) (rest := [.ref q, .ref x]) (c_TK_init l (ret := false) (t := t0) (dl := dl)) (fun U hU hW => ⟨by rw [hU], hE.to hS.2.1 hU hW hFc, by rw [hU]; exact hPc, hDc.weaken (fun _ _ _ _ => trivial), hz0.to hS.2.1 hU hW.alike hFc, hz1.to hS.2.1 hU hW.alike hFc⟩) (Nat.le_of_ble_eq_true rfl) (Nat.le_of_ble_eq_true rfl) (by dsimp only [rmd] <;> omega) (by dsimp only [rmd] <;> omega) rfl hl.1 rfl (Nat.le_of_ble_eq_true rfl) d_TD_init_25) hS (fun q _ h => hFc q h) hFc (fun _ t_ H_41 locs ht_42 hv_45 _ hB hz_44 hk_43 hS => ?_)
  obtain ⟨mx, hP1, hD1, hm1, hm2⟩ := hB
  rw [ht_42] at hP1
  obtain ⟨hP, hD⟩ := va_join (wr := [(x, .inr (0, [.ref h, .null])), (h, .inr (1, [.ref v, .int 0, .int 0, .int 0])), (v, .inl (cB, 16, .inl (fun _ => 0)))]) (w1 := [(q, .inr (2, [.int (nI 0), .int (-1), .int (nI 0), .ref c0, .ref c1, .int (bI false), .int 0, .int (nI mx), .int 0, .null]))]) hP hD [3] [0, 1, 2] rfl rfl (by decide) (by decide) hk_43 hFc hP1 hD1
  have hP : va_P D classes [(x, .inr (0, [.ref h, .null])), (h, .inr (1, [.ref v, .int 0, .int 0, .int 0])), (v, .inl (cB, 16, .inl (fun _ => 0))), (q, .inr (2, [.int (nI 0), .int (-1), .int (nI 0), .ref c0, .ref c1, .int (bI false), .int 0, .int (nI mx), .int 0, .null]))] H_41 := hP
  have hD : va_D A [(x, .inr (0, [.ref h, .null])), (h, .inr (1, [.ref v, .int 0, .int 0, .int 0])), (v, .inl (cB, 16, .inl (fun _ => 0))), (q, .inr (2, [.int (nI 0), .int (-1), .int (nI 0), .ref c0, .ref c1, .int (bI false), .int 0, .int (nI mx), .int 0, .null]))] := hD
  refine q_put S hK hP hD hS 0 rfl fs_TD_25 (v := .ref q) rfl rfl (Nat.le_of_ble_eq_true rfl) d_TD_init_28 (fun H locs hP hD hS => ?_)
  have hP : va_P D classes [(x, .inr (0, [.ref h, .ref q])), (h, .inr (1, [.ref v, .int 0, .int 0, .int 0])), (v, .inl (cB, 16, .inl (fun _ => 0))), (q, .inr (2, [.int (nI 0), .int (-1), .int (nI 0), .ref c0, .ref c1, .int (bI false), .int 0, .int (nI mx), .int 0, .null]))] H := hP
  have hD : va_D A [(x, .inr (0, [.ref h, .ref q])), (h, .inr (1, [.ref v, .int 0, .int 0, .int 0])), (v, .inl (cB, 16, .inl (fun _ => 0))), (q, .inr (2, [.int (nI 0), .int (-1), .int (nI 0), .ref c0, .ref c1, .int (bI false), .int 0, .int (nI mx), .int 0, .null]))] := hD
  refine W.widen (k := 3) (n := 30) (by omega) (by omega) ?_
  exact W.vret S.1 S.2.1 hr (fun t ht hW => ⟨⟨(), rfl, trivial, h, v, q, mx, by rw [ht]; exact hP, hD, hm1, hm2⟩, hS.F ht⟩) hS.2.2 d_TD_init_31 hlk
set_option maxHeartbeats 4000000 in
set_option maxRecDepth 100000 in
/-- TokenDrill.type -/
theorem c_TD_type (l : Launch) {D : va_G} {cB cC : ClassId} {sz : Nat} {x h q v cnt cap y : Nat} {ml : Int32} {f : Nat → Int32} {tx : Nat → Nat} (hy : y < 128) (hcap : cap < 2 ^ 18) (htx : txo cap cnt f tx) : Ct l y_TD_type b_TD_type 2 (Option.none : Option FieldType) 6 1 (if cnt < cap then 0 else 2 * cap + 2) [.ref x, .int (nI y)] (fun U => U.heap.size = sz ∧ en D cB cC (va_A [(x, .inr (0, [.ref h, .ref q])), (h, .inr (1, [.ref v, .int 0, .int ml, .int (nI cnt)])), (v, .inl (cB, cap, .inl f))] sz) U U.heap ∧ va_P D classes [(x, .inr (0, [.ref h, .ref q])), (h, .inr (1, [.ref v, .int 0, .int ml, .int (nI cnt)])), (v, .inl (cB, cap, .inl f))] U.heap ∧ va_D (fun _ => True) [(x, .inr (0, [.ref h, .ref q])), (h, .inr (1, [.ref v, .int 0, .int ml, .int (nI cnt)])), (v, .inl (cB, cap, .inl f))]) (va_Qv (fun _ : Unit => True) (fun _ t => ∃ w g, va_P D classes [(x, .inr (0, [.ref h, .ref q])), (h, .inr (1, [.ref w, .int 0, .int ml, .int (nI (cnt + 1))])), (w, .inl (cB, (if cnt < cap then cap else 2 * cap + 2), .inl g))] t.heap ∧ va_D (va_A [(x, .inr (0, [.ref h, .ref q])), (h, .inr (1, [.ref v, .int 0, .int ml, .int (nI cnt)])), (v, .inl (cB, cap, .inl f))] sz) [(x, .inr (0, [.ref h, .ref q])), (h, .inr (1, [.ref w, .int 0, .int ml, .int (nI (cnt + 1))])), (w, .inl (cB, (if cnt < cap then cap else 2 * cap + 2), .inl g))] ∧ txo (if cnt < cap then cap else 2 * cap + 2) (cnt + 1) g (va_up tx cnt y)) (va_A [(x, .inr (0, [.ref h, .ref q])), (h, .inr (1, [.ref v, .int 0, .int ml, .int (nI cnt)])), (v, .inl (cB, cap, .inl f))] sz)) (va_A [(x, .inr (0, [.ref h, .ref q])), (h, .inr (1, [.ref v, .int 0, .int ml, .int (nI cnt)])), (v, .inl (cB, cap, .inl f))] sz) := by
  refine ct_of (by decide) (Nat.le_of_ble_eq_true rfl) (fun _ _ _ _ h => h) ?_
  intro p e s m below meth c ls S hr hlk hnm hB hl
  have hl : lv_has ls 2 [(0, .ref x), (1, .int (nI y))] := hl
  obtain ⟨hsz, hE, hP, hD0⟩ := hB
  subst hsz
  have hD := hD0.self (sz := s.heap.size)
  generalize hAe : va_A [(x, .inr (0, [.ref h, .ref q])), (h, .inr (1, [.ref v, .int 0, .int ml, .int (nI cnt)])), (v, .inl (cB, cap, .inl f))] s.heap.size = A at hD hE ⊢
  have hA : ∀ q : Nat, s.heap.size ≤ q → A q := fun q h => by rw [← hAe]; exact Or.inr h
  have hS : va_S A s.heap s.heap [] := va_S.rf
  have hK := hE.1
  have hP : va_P D classes [(x, .inr (0, [.ref h, .ref q])), (h, .inr (1, [.ref v, .int 0, .int ml, .int (nI cnt)])), (v, .inl (cB, cap, .inl f))] s.heap := hP
  refine lv_aload_n S.1 S.2.1 d_TD_type_0 rfl (lv_at hl 0 rfl) ?_
  refine q_get S hK hP 0 rfl fs_TD_10 (v := .ref h) rfl d_TD_type_1 ?_
  refine lv_iload_n S.1 S.2.1 d_TD_type_4 rfl (lv_at hl 1 rfl) ?_
  have hPc := hP.sub (ws' := [(h, .inr (1, [.ref v, .int 0, .int ml, .int (nI cnt)])), (v, .inl (cB, cap, .inl f))]) [1, 2] rfl
  have hDc := hD.sub (ws' := [(h, .inr (1, [.ref v, .int 0, .int ml, .int (nI cnt)])), (v, .inl (cB, cap, .inl f))]) [1, 2] (by decide) rfl
  have hFc := va_free (wc := [(h, .inr (1, [.ref v, .int 0, .int ml, .int (nI cnt)])), (v, .inl (cB, cap, .inl f))]) hD hS hA [1, 2] rfl
  refine va_callr (rn_V S sc_TD_29 (As := [.int (nI y)]) (rest := []) (c_SB_appC l hy hcap htx) (va_recv hK hP (ci := 1) (q0 := 1) rfl rfl) (fun U hU hW => ⟨by rw [hU], hE.to hS.2.1 hU hW hFc, by rw [hU]; exact hPc, hDc.weaken (fun _ _ _ _ => trivial)⟩) (Nat.le_of_ble_eq_true rfl) (Nat.le_of_ble_eq_true rfl) (by dsimp only [rmd] <;> omega) (by dsimp only [rmd] <;> omega) rfl hl.1 rfl (Nat.le_of_ble_eq_true rfl) d_TD_type_5) hS (fun q _ h => hFc q h) hFc (fun _ r0 t_ H_46 locs ht_47 hv_50 _ hB hz_49 hk_48 hS => ?_)
  obtain ⟨_, w, g, hP1, hD1, htx2⟩ := hB
  rw [ht_47] at hP1
  obtain ⟨hP, hD⟩ := va_join (wr := [(x, .inr (0, [.ref h, .ref q]))]) (w1 := [(h, .inr (1, [.ref w, .int 0, .int ml, .int (nI (cnt + 1))])), (w, .inl (cB, (if cnt < cap then cap else 2 * cap + 2), .inl g))]) hP hD [1, 2] [0] rfl rfl (by decide) (by decide) hk_48 hFc hP1 hD1
  have hP : va_P D classes [(x, .inr (0, [.ref h, .ref q])), (h, .inr (1, [.ref w, .int 0, .int ml, .int (nI (cnt + 1))])), (w, .inl (cB, (if cnt < cap then cap else 2 * cap + 2), .inl g))] H_46 := hP
  have hD : va_D A [(x, .inr (0, [.ref h, .ref q])), (h, .inr (1, [.ref w, .int 0, .int ml, .int (nI (cnt + 1))])), (w, .inl (cB, (if cnt < cap then cap else 2 * cap + 2), .inl g))] := hD
  refine lv_pop S.1 S.2.1 d_TD_type_8 rfl ?_
  refine W.widen (k := 1) (n := (if cnt < cap then 0 else 2 * cap + 2)) (by omega) (by omega) ?_
  exact W.vret S.1 S.2.1 hr (fun t ht hW => ⟨⟨(), rfl, trivial, w, g, by rw [ht]; exact hP, hD, htx2⟩, hS.F ht⟩) hS.2.2 d_TD_type_9 hlk
set_option maxHeartbeats 4000000 in
set_option maxRecDepth 100000 in
/-- TokenDrill.clear -/
theorem c_TD_clear (l : Launch) {D : va_G} {cB cC : ClassId} {sz : Nat} {x h q v cnt cap : Nat} {ml : Int32} {f : Nat → Int32} (hcap : cap < 2 ^ 20) (hcnt : cnt ≤ cap) : Ct l y_TD_clear b_TD_clear 1 (Option.none : Option FieldType) 3 0 0 [.ref x] (fun U => U.heap.size = sz ∧ en D cB cC (va_A [(x, .inr (0, [.ref h, .ref q])), (h, .inr (1, [.ref v, .int 0, .int ml, .int (nI cnt)])), (v, .inl (cB, cap, .inl f))] sz) U U.heap ∧ va_P D classes [(x, .inr (0, [.ref h, .ref q])), (h, .inr (1, [.ref v, .int 0, .int ml, .int (nI cnt)])), (v, .inl (cB, cap, .inl f))] U.heap ∧ va_D (fun _ => True) [(x, .inr (0, [.ref h, .ref q])), (h, .inr (1, [.ref v, .int 0, .int ml, .int (nI cnt)])), (v, .inl (cB, cap, .inl f))]) (va_Qv (fun _ : Unit => True) (fun _ t => ∃ ml2, va_P D classes [(x, .inr (0, [.ref h, .ref q])), (h, .inr (1, [.ref v, .int 0, .int ml2, .int (nI 0)])), (v, .inl (cB, cap, .inl f))] t.heap ∧ va_D (va_A [(x, .inr (0, [.ref h, .ref q])), (h, .inr (1, [.ref v, .int 0, .int ml, .int (nI cnt)])), (v, .inl (cB, cap, .inl f))] sz) [(x, .inr (0, [.ref h, .ref q])), (h, .inr (1, [.ref v, .int 0, .int ml2, .int (nI 0)])), (v, .inl (cB, cap, .inl f))]) (va_A [(x, .inr (0, [.ref h, .ref q])), (h, .inr (1, [.ref v, .int 0, .int ml, .int (nI cnt)])), (v, .inl (cB, cap, .inl f))] sz)) (va_A [(x, .inr (0, [.ref h, .ref q])), (h, .inr (1, [.ref v, .int 0, .int ml, .int (nI cnt)])), (v, .inl (cB, cap, .inl f))] sz) := by
  refine ct_of (by decide) (Nat.le_of_ble_eq_true rfl) (fun _ _ _ _ h => h) ?_
  intro p e s m below meth c ls S hr hlk hnm hB hl
  have hl : lv_has ls 1 [(0, .ref x)] := hl
  obtain ⟨hsz, hE, hP, hD0⟩ := hB
  subst hsz
  have hD := hD0.self (sz := s.heap.size)
  generalize hAe : va_A [(x, .inr (0, [.ref h, .ref q])), (h, .inr (1, [.ref v, .int 0, .int ml, .int (nI cnt)])), (v, .inl (cB, cap, .inl f))] s.heap.size = A at hD hE ⊢
  have hA : ∀ q : Nat, s.heap.size ≤ q → A q := fun q h => by rw [← hAe]; exact Or.inr h
  have hS : va_S A s.heap s.heap [] := va_S.rf
  have hK := hE.1
  have hP : va_P D classes [(x, .inr (0, [.ref h, .ref q])), (h, .inr (1, [.ref v, .int 0, .int ml, .int (nI cnt)])), (v, .inl (cB, cap, .inl f))] s.heap := hP
  refine lv_aload_n S.1 S.2.1 d_TD_clear_0 rfl (lv_at hl 0 rfl) ?_
  refine q_get S hK hP 0 rfl fs_TD_10 (v := .ref h) rfl d_TD_clear_1 ?_
  refine lv_iconst (v := 0) S.1 S.2.1 d_TD_clear_4 (by decide) ?_
  have hPc := hP.sub (ws' := [(h, .inr (1, [.ref v, .int 0, .int ml, .int (nI cnt)])), (v, .inl (cB, cap, .inl f))]) [1, 2] rfl
  have hDc := hD.sub (ws' := [(h, .inr (1, [.ref v, .int 0, .int ml, .int (nI cnt)])), (v, .inl (cB, cap, .inl f))]) [1, 2] (by decide) rfl
  have hFc := va_free (wc := [(h, .inr (1, [.ref v, .int 0, .int ml, .int (nI cnt)])), (v, .inl (cB, cap, .inl f))]) hD hS hA [1, 2] rfl
  refine va_callv (rn_V S sc_TD_33 (As := [.int 0]) (rest := []) (c_SB_setLen l hcap hcnt) (va_recv hK hP (ci := 1) (q0 := 1) rfl rfl) (fun U hU hW => ⟨by rw [hU], hE.to hS.2.1 hU hW hFc, by rw [hU]; exact hPc, hDc.weaken (fun _ _ _ _ => trivial)⟩) (Nat.le_of_ble_eq_true rfl) (Nat.le_of_ble_eq_true rfl) (by dsimp only [rmd] <;> omega) (by dsimp only [rmd] <;> omega) rfl hl.1 rfl (Nat.le_of_ble_eq_true rfl) d_TD_clear_5) hS (fun q _ h => hFc q h) hFc (fun _ t_ H_51 locs ht_52 hv_55 _ hB hz_54 hk_53 hS => ?_)
  obtain ⟨ml2, hP1, hD1⟩ := hB
  rw [ht_52] at hP1
  obtain ⟨hP, hD⟩ := va_join (wr := [(x, .inr (0, [.ref h, .ref q]))]) (w1 := [(h, .inr (1, [.ref v, .int 0, .int ml2, .int (nI 0)])), (v, .inl (cB, cap, .inl f))]) hP hD [1, 2] [0] rfl rfl (by decide) (by decide) hk_53 hFc hP1 hD1
  have hP : va_P D classes [(x, .inr (0, [.ref h, .ref q])), (h, .inr (1, [.ref v, .int 0, .int ml2, .int (nI 0)])), (v, .inl (cB, cap, .inl f))] H_51 := hP
  have hD : va_D A [(x, .inr (0, [.ref h, .ref q])), (h, .inr (1, [.ref v, .int 0, .int ml2, .int (nI 0)])), (v, .inl (cB, cap, .inl f))] := hD
  refine W.widen (k := 0) (n := 0) (by omega) (by omega) ?_
  exact W.vret S.1 S.2.1 hr (fun t ht hW => ⟨⟨(), rfl, trivial, ml2, by rw [ht]; exact hP, hD⟩, hS.F ht⟩) hS.2.2 d_TD_clear_8 hlk
set_option maxHeartbeats 4000000 in
set_option maxRecDepth 100000 in
/-- TokenDrill.begin -/
theorem c_TD_begin (l : Launch) {D : va_G} {cB cC : ClassId} {sz : Nat} {x h q v cnt cap b2 k : Nat} {ml : Int32} {ret : Bool} {f : Nat → Int32} {tx dl : Nat → Nat} (htx : txo cap cnt f tx) : Ct l y_TD_begin b_TD_begin 3 (Option.none : Option FieldType) 6 3 (14 + cnt) [.ref x, .ref b2, .int (bI ret)] (fun U => U.heap.size = sz ∧ en D cB cC (va_A [(x, .inr (0, [.ref h, .ref q])), (h, .inr (1, [.ref v, .int 0, .int ml, .int (nI cnt)])), (v, .inl (cB, cap, .inl f))] sz) U U.heap ∧ va_P D classes [(x, .inr (0, [.ref h, .ref q])), (h, .inr (1, [.ref v, .int 0, .int ml, .int (nI cnt)])), (v, .inl (cB, cap, .inl f))] U.heap ∧ va_D (fun _ => True) [(x, .inr (0, [.ref h, .ref q])), (h, .inr (1, [.ref v, .int 0, .int ml, .int (nI cnt)])), (v, .inl (cB, cap, .inl f))] ∧ zs b2 k dl (va_A [(x, .inr (0, [.ref h, .ref q])), (h, .inr (1, [.ref v, .int 0, .int ml, .int (nI cnt)])), (v, .inl (cB, cap, .inl f))] sz) U U.heap) (va_Qv (fun _ : Unit => True) (fun _ u => ∃ q2 a2 mx, va_P D classes [(x, .inr (0, [.ref h, .ref q2])), (h, .inr (1, [.ref v, .int 0, .int ml, .int (nI cnt)])), (v, .inl (cB, cap, .inl f)), (q2, .inr (2, [.int (nI 0), .int (-1), .int (nI cnt), .ref a2, .ref b2, .int (bI ret), .int 0, .int (nI mx), .int 0, .null]))] u.heap ∧ va_D (va_A [(x, .inr (0, [.ref h, .ref q])), (h, .inr (1, [.ref v, .int 0, .int ml, .int (nI cnt)])), (v, .inl (cB, cap, .inl f))] sz) [(x, .inr (0, [.ref h, .ref q2])), (h, .inr (1, [.ref v, .int 0, .int ml, .int (nI cnt)])), (v, .inl (cB, cap, .inl f)), (q2, .inr (2, [.int (nI 0), .int (-1), .int (nI cnt), .ref a2, .ref b2, .int (bI ret), .int 0, .int (nI mx), .int 0, .null]))] ∧ zs a2 cnt tx (fun z => z < sz ∨ va_A [(x, .inr (0, [.ref h, .ref q2])), (h, .inr (1, [.ref v, .int 0, .int ml, .int (nI cnt)])), (v, .inl (cB, cap, .inl f)), (q2, .inr (2, [.int (nI 0), .int (-1), .int (nI cnt), .ref a2, .ref b2, .int (bI ret), .int 0, .int (nI mx), .int 0, .null]))] u.heap.size z) u u.heap ∧ mx < 128 ∧ ∀ i, i < k → dl i ≤ mx) (va_A [(x, .inr (0, [.ref h, .ref q])), (h, .inr (1, [.ref v, .int 0, .int ml, .int (nI cnt)])), (v, .inl (cB, cap, .inl f))] sz)) (va_A [(x, .inr (0, [.ref h, .ref q])), (h, .inr (1, [.ref v, .int 0, .int ml, .int (nI cnt)])), (v, .inl (cB, cap, .inl f))] sz) := by
  refine ct_of (by decide) (Nat.le_of_ble_eq_true rfl) (fun _ _ _ _ h => h) ?_
  intro p e s m below meth c ls S hr hlk hnm hB hl
  have hl : lv_has ls 3 [(0, .ref x), (1, .ref b2), (2, .int (bI ret))] := hl
  obtain ⟨hsz, hE, hP, hD0, hzb⟩ := hB
  subst hsz
  have hD := hD0.self (sz := s.heap.size)
  generalize hAe : va_A [(x, .inr (0, [.ref h, .ref q])), (h, .inr (1, [.ref v, .int 0, .int ml, .int (nI cnt)])), (v, .inl (cB, cap, .inl f))] s.heap.size = A at hD hE hzb ⊢
  have hA : ∀ q : Nat, s.heap.size ≤ q → A q := fun q h => by rw [← hAe]; exact Or.inr h
  have hS : va_S A s.heap s.heap [] := va_S.rf
  have hK := hE.1
  have hP : va_P D classes [(x, .inr (0, [.ref h, .ref q])), (h, .inr (1, [.ref v, .int 0, .int ml, .int (nI cnt)])), (v, .inl (cB, cap, .inl f))] s.heap := hP
  have hc1 := htx.1
  have hc2 := htx.2.1
  refine lv_aload_n S.1 S.2.1 d_TD_begin_0 rfl (lv_at hl 0 rfl) ?_
  refine va_new (ci := 2) (fs := [.int 0, .int 0, .int 0, .null, .null, .int 0, .int 0, .int 0, .int 0, .null]) (C := R_TK) (T := F_TK) (N := 10) S.1 S.2.1 S.2.2.2.2 i_TK t_TK t_TK_ok S.2.2.2.1 (S.2.2.2.2 _ k_55) (S.2.2.2.2 _ k_56) (S.2.2.2.2 _ k_6) hK hP hD hS hA rfl (fun j hj => by rcases (show j = 0 ∨ j = 1 ∨ j = 2 ∨ j = 3 ∨ j = 4 ∨ j = 5 ∨ j = 6 ∨ j = 7 ∨ j = 8 ∨ j = 9 by omega) with rfl | rfl | rfl | rfl | rfl | rfl | rfl | rfl | rfl | rfl <;> rfl) (by dsimp only [rmd] <;> omega) (by dsimp only [rmd] <;> omega) d_TD_begin_1 (fun q2 H hP hD hS => ?_)
  have hP : va_P D classes [(x, .inr (0, [.ref h, .ref q])), (h, .inr (1, [.ref v, .int 0, .int ml, .int (nI cnt)])), (v, .inl (cB, cap, .inl f)), (q2, .inr (2, [.int 0, .int 0, .int 0, .null, .null, .int 0, .int 0, .int 0, .int 0, .null]))] H := hP
  have hD : va_D A [(x, .inr (0, [.ref h, .ref q])), (h, .inr (1, [.ref v, .int 0, .int ml, .int (nI cnt)])), (v, .inl (cB, cap, .inl f)), (q2, .inr (2, [.int 0, .int 0, .int 0, .null, .null, .int 0, .int 0, .int 0, .int 0, .null]))] := hD
  refine lv_dup S.1 S.2.1 d_TD_begin_4 rfl ?_
  refine lv_aload_n S.1 S.2.1 d_TD_begin_5 rfl (lv_at hl 0 rfl) ?_
  refine q_get S hK hP 0 rfl fs_TD_10 (v := .ref h) rfl d_TD_begin_6 ?_
  have hPc := hP.sub (ws' := [(h, .inr (1, [.ref v, .int 0, .int ml, .int (nI cnt)])), (v, .inl (cB, cap, .inl f))]) [1, 2] rfl
  have hDc := hD.sub (ws' := [(h, .inr (1, [.ref v, .int 0, .int ml, .int (nI cnt)])), (v, .inl (cB, cap, .inl f))]) [1, 2] (by decide) rfl
  have hFc := va_free (wc := [(h, .inr (1, [.ref v, .int 0, .int ml, .int (nI cnt)])), (v, .inl (cB, cap, .inl f))]) hD hS hA [1, 2] rfl
  refine va_callr (rn_V S sc_TD_37 (As := []) (rest := [.ref q2, .ref q2, .ref x]) (c_SB_toString l htx.1 htx.2.1 htx.2.2.1) (va_recv hK hP (ci := 1) (q0 := 1) rfl rfl) (fun U hU hW => ⟨by rw [hU], hE.to hS.2.1 hU hW hFc, by rw [hU]; exact hPc, hDc.weaken (fun _ _ _ _ => trivial)⟩) (Nat.le_of_ble_eq_true rfl) (Nat.le_of_ble_eq_true rfl) (by dsimp only [rmd] <;> omega) (by dsimp only [rmd] <;> omega) rfl hl.1 rfl (Nat.le_of_ble_eq_true rfl) d_TD_begin_9) hS (fun q _ h => hFc q h) hFc (fun _ a2 t_ H_56 locs ht_57 hv_60 _ hB hz_59 hk_58 hS => ?_)
  obtain ⟨w2, g, hP1, hD1, hg⟩ := hB
  rw [ht_57] at hP1
  obtain ⟨hP, hD⟩ := va_join (wr := [(x, .inr (0, [.ref h, .ref q])), (q2, .inr (2, [.int 0, .int 0, .int 0, .null, .null, .int 0, .int 0, .int 0, .int 0, .null]))]) (w1 := [(h, .inr (1, [.ref v, .int 0, .int ml, .int (nI cnt)])), (v, .inl (cB, cap, .inl f)), (a2, .inr (3, [.ref w2, .int 0, .int 0, .int 0])), (w2, .inl (cB, cnt, .inl g))]) hP hD [1, 2] [0, 3] rfl rfl (by decide) (by decide) hk_58 hFc hP1 hD1
  have hP : va_P D classes [(x, .inr (0, [.ref h, .ref q])), (q2, .inr (2, [.int 0, .int 0, .int 0, .null, .null, .int 0, .int 0, .int 0, .int 0, .null])), (h, .inr (1, [.ref v, .int 0, .int ml, .int (nI cnt)])), (v, .inl (cB, cap, .inl f)), (a2, .inr (3, [.ref w2, .int 0, .int 0, .int 0])), (w2, .inl (cB, cnt, .inl g))] H_56 := hP
  have hD : va_D A [(x, .inr (0, [.ref h, .ref q])), (q2, .inr (2, [.int 0, .int 0, .int 0, .null, .null, .int 0, .int 0, .int 0, .int 0, .null])), (h, .inr (1, [.ref v, .int 0, .int ml, .int (nI cnt)])), (v, .inl (cB, cap, .inl f)), (a2, .inr (3, [.ref w2, .int 0, .int 0, .int 0])), (w2, .inl (cB, cnt, .inl g))] := hD
  refine lv_aload_n S.1 S.2.1 d_TD_begin_12 rfl (lv_at hl 1 rfl) ?_
  refine lv_iload_n S.1 S.2.1 d_TD_begin_13 rfl (lv_at hl 2 rfl) ?_
  have hza := zs_of (A := va_A [(q2, .inr (2, [.int 0, .int 0, .int 0, .null, .null, .int 0, .int 0, .int 0, .int 0, .null]))] H_56.size) (t := tx) (k1 := 4) (k2 := 5) S.2.2.2.2 hK hP rfl rfl (na_of hD hP 4 rfl [1] rfl (by decide)) (na_of hD hP 5 rfl [1] rfl (by decide)) (by omega) (fun j hj => by rw [hg j hj]; exact (htx.2.2.2 j hj).2) (fun j hj => (htx.2.2.2 j hj).1)
  have hPc := hP.sub (ws' := [(q2, .inr (2, [.int 0, .int 0, .int 0, .null, .null, .int 0, .int 0, .int 0, .int 0, .null]))]) [1] rfl
  have hDc := hD.sub (ws' := [(q2, .inr (2, [.int 0, .int 0, .int 0, .null, .null, .int 0, .int 0, .int 0, .int 0, .null]))]) [1] (by decide) rfl
  have hFc := va_free (wc := [(q2, .inr (2, [.int 0, .int 0, .int 0, .null, .null, .int 0, .int 0, .int 0, .int 0, .null]))]) hD hS hA [1] rfl
  refine va_callv (rn_I S sc_TD_22 (As := [.ref a2, .ref b2, .int (bI ret)]) (rest := [.ref q2, .ref x]) (c_TK_init l (ret := ret) (t := tx) (dl := dl) (n := cnt) (k := k)) (fun U hU hW => ⟨by rw [hU], hE.to hS.2.1 hU hW hFc, by rw [hU]; exact hPc, hDc.weaken (fun _ _ _ _ => trivial), hza.to (fun _ _ _ => rfl) hU hW.alike (fun _ h => h), hzb.to hS.2.1 hU hW.alike hFc⟩) (Nat.le_of_ble_eq_true rfl) (Nat.le_of_ble_eq_true rfl) (by dsimp only [rmd] <;> omega) (by dsimp only [rmd] <;> omega) rfl hl.1 rfl (Nat.le_of_ble_eq_true rfl) d_TD_begin_14) hS (fun q _ h => hFc q h) hFc (fun _ t_ H_61 locs ht_62 hv_65 _ hB hz_64 hk_63 hS => ?_)
  obtain ⟨mx, hP1, hD1, hm1, hm2⟩ := hB
  rw [ht_62] at hP1
  obtain ⟨hP, hD⟩ := va_join (wr := [(x, .inr (0, [.ref h, .ref q])), (h, .inr (1, [.ref v, .int 0, .int ml, .int (nI cnt)])), (v, .inl (cB, cap, .inl f)), (a2, .inr (3, [.ref w2, .int 0, .int 0, .int 0])), (w2, .inl (cB, cnt, .inl g))]) (w1 := [(q2, .inr (2, [.int (nI 0), .int (-1), .int (nI cnt), .ref a2, .ref b2, .int (bI ret), .int 0, .int (nI mx), .int 0, .null]))]) hP hD [1] [0, 2, 3, 4, 5] rfl rfl (by decide) (by decide) hk_63 hFc hP1 hD1
  have hP : va_P D classes [(x, .inr (0, [.ref h, .ref q])), (h, .inr (1, [.ref v, .int 0, .int ml, .int (nI cnt)])), (v, .inl (cB, cap, .inl f)), (a2, .inr (3, [.ref w2, .int 0, .int 0, .int 0])), (w2, .inl (cB, cnt, .inl g)), (q2, .inr (2, [.int (nI 0), .int (-1), .int (nI cnt), .ref a2, .ref b2, .int (bI ret), .int 0, .int (nI mx), .int 0, .null]))] H_61 := hP
  have hD : va_D A [(x, .inr (0, [.ref h, .ref q])), (h, .inr (1, [.ref v, .int 0, .int ml, .int (nI cnt)])), (v, .inl (cB, cap, .inl f)), (a2, .inr (3, [.ref w2, .int 0, .int 0, .int 0])), (w2, .inl (cB, cnt, .inl g)), (q2, .inr (2, [.int (nI 0), .int (-1), .int (nI cnt), .ref a2, .ref b2, .int (bI ret), .int 0, .int (nI mx), .int 0, .null]))] := hD
  refine q_put S hK hP hD hS 0 rfl fs_TD_25 (v := .ref q2) rfl rfl (Nat.le_of_ble_eq_true rfl) d_TD_begin_17 (fun H locs hP hD hS => ?_)
  have hP : va_P D classes [(x, .inr (0, [.ref h, .ref q2])), (h, .inr (1, [.ref v, .int 0, .int ml, .int (nI cnt)])), (v, .inl (cB, cap, .inl f)), (a2, .inr (3, [.ref w2, .int 0, .int 0, .int 0])), (w2, .inl (cB, cnt, .inl g)), (q2, .inr (2, [.int (nI 0), .int (-1), .int (nI cnt), .ref a2, .ref b2, .int (bI ret), .int 0, .int (nI mx), .int 0, .null]))] H := hP
  have hD : va_D A [(x, .inr (0, [.ref h, .ref q2])), (h, .inr (1, [.ref v, .int 0, .int ml, .int (nI cnt)])), (v, .inl (cB, cap, .inl f)), (a2, .inr (3, [.ref w2, .int 0, .int 0, .int 0])), (w2, .inl (cB, cnt, .inl g)), (q2, .inr (2, [.int (nI 0), .int (-1), .int (nI cnt), .ref a2, .ref b2, .int (bI ret), .int 0, .int (nI mx), .int 0, .null]))] := hD
  have fr : ∀ z : Nat, A z → ¬ va_A [(x, .inr (0, [.ref h, .ref q2])), (h, .inr (1, [.ref v, .int 0, .int ml, .int (nI cnt)])), (v, .inl (cB, cap, .inl f)), (q2, .inr (2, [.int (nI 0), .int (-1), .int (nI cnt), .ref a2, .ref b2, .int (bI ret), .int 0, .int (nI mx), .int 0, .null]))] H.size z → ¬ z < s.heap.size := by
    intro z hz hn hlt
    rw [← hAe] at hz
    rcases hz with ⟨kz, ez, hkz⟩ | hkz
    · match kz, hkz with
      | 0, hkz => cases hkz; exact hn (Or.inl ⟨0, _, rfl⟩)
      | 1, hkz => cases hkz; exact hn (Or.inl ⟨1, _, rfl⟩)
      | 2, hkz => cases hkz; exact hn (Or.inl ⟨2, _, rfl⟩)
      | kz + 3, hkz => simp at hkz
    · omega
  have n_a2 := na_of (wc := [(x, .inr (0, [.ref h, .ref q2])), (h, .inr (1, [.ref v, .int 0, .int ml, .int (nI cnt)])), (v, .inl (cB, cap, .inl f)), (q2, .inr (2, [.int (nI 0), .int (-1), .int (nI cnt), .ref a2, .ref b2, .int (bI ret), .int 0, .int (nI mx), .int 0, .null]))]) hD hP 3 rfl [0, 1, 2, 5] rfl (by decide)
  have n_w2 := na_of (wc := [(x, .inr (0, [.ref h, .ref q2])), (h, .inr (1, [.ref v, .int 0, .int ml, .int (nI cnt)])), (v, .inl (cB, cap, .inl f)), (q2, .inr (2, [.int (nI 0), .int (-1), .int (nI cnt), .ref a2, .ref b2, .int (bI ret), .int 0, .int (nI mx), .int 0, .null]))]) hD hP 4 rfl [0, 1, 2, 5] rfl (by decide)
  have hzz := zs_of (A := fun z => z < s.heap.size ∨ va_A [(x, .inr (0, [.ref h, .ref q2])), (h, .inr (1, [.ref v, .int 0, .int ml, .int (nI cnt)])), (v, .inl (cB, cap, .inl f)), (q2, .inr (2, [.int (nI 0), .int (-1), .int (nI cnt), .ref a2, .ref b2, .int (bI ret), .int 0, .int (nI mx), .int 0, .null]))] H.size z) (t := tx) (k1 := 3) (k2 := 4) S.2.2.2.2 hK hP rfl rfl (fun hq => hq.elim (fr _ (hD.2 3 _ rfl) n_a2) n_a2) (fun hq => hq.elim (fr _ (hD.2 4 _ rfl) n_w2) n_w2) (by omega) (fun j hj => by rw [hg j hj]; exact (htx.2.2.2 j hj).2) (fun j hj => (htx.2.2.2 j hj).1)
  refine W.widen (k := 3) (n := (14 + cnt)) (by omega) (by omega) ?_
  exact W.vret S.1 S.2.1 hr (fun t ht hW => ⟨⟨(), rfl, trivial, q2, a2, mx, by rw [ht]; exact hP.sub [0, 1, 2, 5] rfl, hD.sub [0, 1, 2, 5] (by decide) rfl, by rw [ht]; exact zs.moved hzz hW.alike, hm1, hm2⟩, hS.F ht⟩) hS.2.2 d_TD_begin_20 hlk
set_option maxHeartbeats 4000000 in
set_option maxRecDepth 100000 in
/-- TokenDrill.more -/
theorem c_TD_more (l : Launch) {D : va_G} {cB cC : ClassId} {sz : Nat} {x h q cp n a b k mx : Nat} {np : Int32} {ret : Bool} {t dl : Nat → Nat} {P : Nat → Bool} (hcp : cp ≤ n) (hmx : mx < 128) (hPd : ∀ j, j < n → (P j = true ↔ ∃ i, i < k ∧ dl i = t j)) (hdm : ∀ i, i < k → dl i ≤ mx) : Ct l y_TD_more b_TD_more 1 (Option.some FieldType.boolean) 6 0 0 [.ref x] (fun U => U.heap.size = sz ∧ en D cB cC (va_A [(x, .inr (0, [.ref h, .ref q])), (q, .inr (2, [.int (nI cp), .int np, .int (nI n), .ref a, .ref b, .int (bI ret), .int 0, .int (nI mx), .int 0, .null]))] sz) U U.heap ∧ va_P D classes [(x, .inr (0, [.ref h, .ref q])), (q, .inr (2, [.int (nI cp), .int np, .int (nI n), .ref a, .ref b, .int (bI ret), .int 0, .int (nI mx), .int 0, .null]))] U.heap ∧ va_D (fun _ => True) [(x, .inr (0, [.ref h, .ref q])), (q, .inr (2, [.int (nI cp), .int np, .int (nI n), .ref a, .ref b, .int (bI ret), .int 0, .int (nI mx), .int 0, .null]))] ∧ zs a n t (va_A [(x, .inr (0, [.ref h, .ref q])), (q, .inr (2, [.int (nI cp), .int np, .int (nI n), .ref a, .ref b, .int (bI ret), .int 0, .int (nI mx), .int 0, .null]))] sz) U U.heap ∧ zs b k dl (va_A [(x, .inr (0, [.ref h, .ref q])), (q, .inr (2, [.int (nI cp), .int np, .int (nI n), .ref a, .ref b, .int (bI ret), .int 0, .int (nI mx), .int 0, .null]))] sz) U U.heap) (va_Qi (fun r (_ : Unit) => r = bI (decide (skp ret P n cp < n))) (fun _ u => va_P D classes [(x, .inr (0, [.ref h, .ref q])), (q, .inr (2, [.int (nI cp), .int (nI (skp ret P n cp)), .int (nI n), .ref a, .ref b, .int (bI ret), .int 0, .int (nI mx), .int 0, .null]))] u.heap ∧ va_D (va_A [(x, .inr (0, [.ref h, .ref q])), (q, .inr (2, [.int (nI cp), .int np, .int (nI n), .ref a, .ref b, .int (bI ret), .int 0, .int (nI mx), .int 0, .null]))] sz) [(x, .inr (0, [.ref h, .ref q])), (q, .inr (2, [.int (nI cp), .int (nI (skp ret P n cp)), .int (nI n), .ref a, .ref b, .int (bI ret), .int 0, .int (nI mx), .int 0, .null]))]) (va_A [(x, .inr (0, [.ref h, .ref q])), (q, .inr (2, [.int (nI cp), .int np, .int (nI n), .ref a, .ref b, .int (bI ret), .int 0, .int (nI mx), .int 0, .null]))] sz)) (va_A [(x, .inr (0, [.ref h, .ref q])), (q, .inr (2, [.int (nI cp), .int np, .int (nI n), .ref a, .ref b, .int (bI ret), .int 0, .int (nI mx), .int 0, .null]))] sz) := by
  refine ct_of (by decide) (Nat.le_of_ble_eq_true rfl) (fun _ _ _ _ h => h) ?_
  intro p e s m below meth c ls S hr hlk hnm hB hl
  have hl : lv_has ls 1 [(0, .ref x)] := hl
  obtain ⟨hsz, hE, hP, hD0, hza, hzb⟩ := hB
  subst hsz
  have hD := hD0.self (sz := s.heap.size)
  generalize hAe : va_A [(x, .inr (0, [.ref h, .ref q])), (q, .inr (2, [.int (nI cp), .int np, .int (nI n), .ref a, .ref b, .int (bI ret), .int 0, .int (nI mx), .int 0, .null]))] s.heap.size = A at hD hE hza hzb ⊢
  have hA : ∀ q : Nat, s.heap.size ≤ q → A q := fun q h => by rw [← hAe]; exact Or.inr h
  have hS : va_S A s.heap s.heap [] := va_S.rf
  have hK := hE.1
  have hP : va_P D classes [(x, .inr (0, [.ref h, .ref q])), (q, .inr (2, [.int (nI cp), .int np, .int (nI n), .ref a, .ref b, .int (bI ret), .int 0, .int (nI mx), .int 0, .null]))] s.heap := hP
  refine lv_aload_n S.1 S.2.1 d_TD_more_0 rfl (lv_at hl 0 rfl) ?_
  refine q_get S hK hP 0 rfl fs_TD_25 (v := .ref q) rfl d_TD_more_1 ?_
  have hPc := hP.sub (ws' := [(q, .inr (2, [.int (nI cp), .int np, .int (nI n), .ref a, .ref b, .int (bI ret), .int 0, .int (nI mx), .int 0, .null]))]) [1] rfl
  have hDc := hD.sub (ws' := [(q, .inr (2, [.int (nI cp), .int np, .int (nI n), .ref a, .ref b, .int (bI ret), .int 0, .int (nI mx), .int 0, .null]))]) [1] (by decide) rfl
  have hFc := va_free (wc := [(q, .inr (2, [.int (nI cp), .int np, .int (nI n), .ref a, .ref b, .int (bI ret), .int 0, .int (nI mx), .int 0, .null]))]) hD hS hA [1] rfl
  refine va_calli (rn_V S sc_TD_41 (As := []) (rest := []) (c_TK_has l hcp hmx hPd hdm (t := t) (dl := dl)) (va_recv hK hP (ci := 2) (q0 := 1) rfl rfl) (fun U hU hW => ⟨by rw [hU], hE.to hS.2.1 hU hW hFc, by rw [hU]; exact hPc, hDc.weaken (fun _ _ _ _ => trivial), hza.to hS.2.1 hU hW.alike hFc, hzb.to hS.2.1 hU hW.alike hFc⟩) (Nat.le_of_ble_eq_true rfl) (Nat.le_of_ble_eq_true rfl) (by dsimp only [rmd] <;> omega) (by dsimp only [rmd] <;> omega) rfl hl.1 rfl (Nat.le_of_ble_eq_true rfl) d_TD_more_4) hS (fun q _ h => hFc q h) hFc (fun r0 _ t_ H_66 locs ht_67 hv_70 hr0 hB hz_69 hk_68 hS => ?_)
  obtain ⟨hP1, hD1⟩ := hB
  rw [ht_67] at hP1
  obtain ⟨hP, hD⟩ := va_join (wr := [(x, .inr (0, [.ref h, .ref q]))]) (w1 := [(q, .inr (2, [.int (nI cp), .int (nI (skp ret P n cp)), .int (nI n), .ref a, .ref b, .int (bI ret), .int 0, .int (nI mx), .int 0, .null]))]) hP hD [1] [0] rfl rfl (by decide) (by decide) hk_68 hFc hP1 hD1
  have hP : va_P D classes [(x, .inr (0, [.ref h, .ref q])), (q, .inr (2, [.int (nI cp), .int (nI (skp ret P n cp)), .int (nI n), .ref a, .ref b, .int (bI ret), .int 0, .int (nI mx), .int 0, .null]))] H_66 := hP
  have hD : va_D A [(x, .inr (0, [.ref h, .ref q])), (q, .inr (2, [.int (nI cp), .int (nI (skp ret P n cp)), .int (nI n), .ref a, .ref b, .int (bI ret), .int 0, .int (nI mx), .int 0, .null]))] := hD
  subst hr0
  refine W.widen (k := 0) (n := 0) (by omega) (by omega) ?_
  exact W.zret (v := (bI (decide (skp ret P n cp < n)))) S.1 S.2.1 hr (bI_nar _) (fun t ht hW => ⟨⟨_, (), rfl, rfl, by rw [ht]; exact hP, hD⟩, hS.F ht⟩) hS.2.2 d_TD_more_7 hlk
set_option maxHeartbeats 4000000 in
set_option maxRecDepth 100000 in
/-- TokenDrill.left -/
theorem c_TD_left (l : Launch) {D : va_G} {cB cC : ClassId} {x h q cp n a b k mx : Nat} {np : Int32} {ret : Bool} {t dl : Nat → Nat} {P : Nat → Bool} (hcp : cp ≤ n) (hmx : mx < 128) (hPd : ∀ j, j < n → (P j = true ↔ ∃ i, i < k ∧ dl i = t j)) (hdm : ∀ i, i < k → dl i ≤ mx) : Ct l y_TD_left b_TD_left 1 (Option.some FieldType.int) 6 0 0 [.ref x] (fun U => en D cB cC nF U U.heap ∧ va_P D classes [(x, .inr (0, [.ref h, .ref q])), (q, .inr (2, [.int (nI cp), .int np, .int (nI n), .ref a, .ref b, .int (bI ret), .int 0, .int (nI mx), .int 0, .null]))] U.heap ∧ zs a n t nF U U.heap ∧ zs b k dl nF U U.heap) (vp_Si (fun r => r = nI (cnt ret P n cp))) nF := by
  refine ct_of (by decide) (Nat.le_of_ble_eq_true rfl) (fun _ _ _ _ h => h) ?_
  intro p e s m below meth c ls S hr hlk hnm hB hl
  have hl : lv_has ls 1 [(0, .ref x)] := hl
  obtain ⟨hE, hP, hza, hzb⟩ := hB
  have hK := hE.1
  have hS : va_S nF s.heap s.heap [] := va_S.rf
  refine lv_aload_n S.1 S.2.1 d_TD_left_0 rfl (lv_at hl 0 rfl) ?_
  refine q_get S hK hP 0 rfl fs_TD_25 (v := .ref q) rfl d_TD_left_1 ?_
  refine vp_callSi (va_Run.run (rn_V S sc_TD_45 (As := []) (rest := []) (c_TK_count l hcp hmx hPd hdm (t := t) (dl := dl)) (va_recv hK hP (ci := 2) (q0 := 1) rfl rfl) (fun U hU hW => ⟨hE.to hS.2.1 hU hW (fun _ h => h.elim), by rw [hU]; exact hP.sub [1] rfl, hza.to hS.2.1 hU hW.alike (fun _ h => h.elim), hzb.to hS.2.1 hU hW.alike (fun _ h => h.elim)⟩) (Nat.le_of_ble_eq_true rfl) (Nat.le_of_ble_eq_true rfl) (by dsimp only [rmd] <;> omega) (by dsimp only [rmd] <;> omega) rfl hl.1 rfl (Nat.le_of_ble_eq_true rfl) d_TD_left_4)) (fun r0 h0 => ?_)
  exact q_ri S hr hlk h0 d_TD_left_7
set_option maxHeartbeats 4000000 in
set_option maxRecDepth 100000 in
/-- TokenDrill.next -/
theorem c_TD_next (l : Launch) {D : va_G} {cB cC : ClassId} {sz : Nat} {x h q cp n a b k mx : Nat} {ret : Bool} {t dl : Nat → Nat} {P : Nat → Bool} (h8n : n < 2 ^ 20) (hlt : skp ret P n cp < n) (hcp : cp ≤ n) (hmx : mx < 128) (hPd : ∀ j, j < n → (P j = true ↔ ∃ i, i < k ∧ dl i = t j)) (hdm : ∀ i, i < k → dl i ≤ mx) : Ct l y_TD_next b_TD_next 1 (Option.some (FieldType.object "java/lang/String")) 6 2 (4 + ((scn ret P n (skp ret P n cp)) - (skp ret P n cp))) [.ref x] (fun U => U.heap.size = sz ∧ en D cB cC (va_A [(x, .inr (0, [.ref h, .ref q])), (q, .inr (2, [.int (nI cp), .int (nI (skp ret P n cp)), .int (nI n), .ref a, .ref b, .int (bI ret), .int 0, .int (nI mx), .int 0, .null]))] sz) U U.heap ∧ va_P D classes [(x, .inr (0, [.ref h, .ref q])), (q, .inr (2, [.int (nI cp), .int (nI (skp ret P n cp)), .int (nI n), .ref a, .ref b, .int (bI ret), .int 0, .int (nI mx), .int 0, .null]))] U.heap ∧ va_D (fun _ => True) [(x, .inr (0, [.ref h, .ref q])), (q, .inr (2, [.int (nI cp), .int (nI (skp ret P n cp)), .int (nI n), .ref a, .ref b, .int (bI ret), .int 0, .int (nI mx), .int 0, .null]))] ∧ zs a n t (va_A [(x, .inr (0, [.ref h, .ref q])), (q, .inr (2, [.int (nI cp), .int (nI (skp ret P n cp)), .int (nI n), .ref a, .ref b, .int (bI ret), .int 0, .int (nI mx), .int 0, .null]))] sz) U U.heap ∧ zs b k dl (va_A [(x, .inr (0, [.ref h, .ref q])), (q, .inr (2, [.int (nI cp), .int (nI (skp ret P n cp)), .int (nI n), .ref a, .ref b, .int (bI ret), .int 0, .int (nI mx), .int 0, .null]))] sz) U U.heap) (va_Qr (fun _ : Unit => True) (fun _ y u => va_P D classes [(x, .inr (0, [.ref h, .ref q])), (q, .inr (2, [.int (nI (scn ret P n (skp ret P n cp))), .int (-1), .int (nI n), .ref a, .ref b, .int (bI ret), .int 0, .int (nI mx), .int 0, .null]))] u.heap ∧ va_D (va_A [(x, .inr (0, [.ref h, .ref q])), (q, .inr (2, [.int (nI cp), .int (nI (skp ret P n cp)), .int (nI n), .ref a, .ref b, .int (bI ret), .int 0, .int (nI mx), .int 0, .null]))] sz) [(x, .inr (0, [.ref h, .ref q])), (q, .inr (2, [.int (nI (scn ret P n (skp ret P n cp))), .int (-1), .int (nI n), .ref a, .ref b, .int (bI ret), .int 0, .int (nI mx), .int 0, .null]))] ∧ zs y ((scn ret P n (skp ret P n cp)) - (skp ret P n cp)) (fun z => t ((skp ret P n cp) + z)) nF u u.heap) (va_A [(x, .inr (0, [.ref h, .ref q])), (q, .inr (2, [.int (nI cp), .int (nI (skp ret P n cp)), .int (nI n), .ref a, .ref b, .int (bI ret), .int 0, .int (nI mx), .int 0, .null]))] sz)) (va_A [(x, .inr (0, [.ref h, .ref q])), (q, .inr (2, [.int (nI cp), .int (nI (skp ret P n cp)), .int (nI n), .ref a, .ref b, .int (bI ret), .int 0, .int (nI mx), .int 0, .null]))] sz) := by
  refine ct_of (by decide) (Nat.le_of_ble_eq_true rfl) (fun _ _ _ _ h => h) ?_
  intro p e s m below meth c ls S hr hlk hnm hB hl
  have hl : lv_has ls 1 [(0, .ref x)] := hl
  obtain ⟨hsz, hE, hP, hD0, hza, hzb⟩ := hB
  subst hsz
  have hD := hD0.self (sz := s.heap.size)
  generalize hAe : va_A [(x, .inr (0, [.ref h, .ref q])), (q, .inr (2, [.int (nI cp), .int (nI (skp ret P n cp)), .int (nI n), .ref a, .ref b, .int (bI ret), .int 0, .int (nI mx), .int 0, .null]))] s.heap.size = A at hD hE hza hzb ⊢
  have hA : ∀ q : Nat, s.heap.size ≤ q → A q := fun q h => by rw [← hAe]; exact Or.inr h
  have hS : va_S A s.heap s.heap [] := va_S.rf
  have hK := hE.1
  have hP : va_P D classes [(x, .inr (0, [.ref h, .ref q])), (q, .inr (2, [.int (nI cp), .int (nI (skp ret P n cp)), .int (nI n), .ref a, .ref b, .int (bI ret), .int 0, .int (nI mx), .int 0, .null]))] s.heap := hP
  refine lv_aload_n S.1 S.2.1 d_TD_next_0 rfl (lv_at hl 0 rfl) ?_
  refine q_get S hK hP 0 rfl fs_TD_25 (v := .ref q) rfl d_TD_next_1 ?_
  have hPc := hP.sub (ws' := [(q, .inr (2, [.int (nI cp), .int (nI (skp ret P n cp)), .int (nI n), .ref a, .ref b, .int (bI ret), .int 0, .int (nI mx), .int 0, .null]))]) [1] rfl
  have hDc := hD.sub (ws' := [(q, .inr (2, [.int (nI cp), .int (nI (skp ret P n cp)), .int (nI n), .ref a, .ref b, .int (bI ret), .int 0, .int (nI mx), .int 0, .null]))]) [1] (by decide) rfl
  have hFc := va_free (wc := [(q, .inr (2, [.int (nI cp), .int (nI (skp ret P n cp)), .int (nI n), .ref a, .ref b, .int (bI ret), .int 0, .int (nI mx), .int 0, .null]))]) hD hS hA [1] rfl
  refine va_callr (rn_V S sc_TD_49 (As := []) (rest := []) (c_TK_next l h8n hlt hcp hmx hPd hdm (t := t) (dl := dl)) (va_recv hK hP (ci := 2) (q0 := 1) rfl rfl) (fun U hU hW => ⟨by rw [hU], hE.to hS.2.1 hU hW hFc, by rw [hU]; exact hPc, hDc.weaken (fun _ _ _ _ => trivial), hza.to hS.2.1 hU hW.alike hFc, hzb.to hS.2.1 hU hW.alike hFc⟩) (Nat.le_of_ble_eq_true rfl) (Nat.le_of_ble_eq_true rfl) (by dsimp only [rmd] <;> omega) (by dsimp only [rmd] <;> omega) rfl hl.1 rfl (Nat.le_of_ble_eq_true rfl) d_TD_next_4) hS (fun q _ h => hFc q h) hFc (fun _ y t_ H_71 locs ht_72 hv_75 _ hB hz_74 hk_73 hS => ?_)
  obtain ⟨hP1, hD1, hzz0⟩ := hB
  rw [ht_72] at hP1
  obtain ⟨hP, hD⟩ := va_join (wr := [(x, .inr (0, [.ref h, .ref q]))]) (w1 := [(q, .inr (2, [.int (nI (scn ret P n (skp ret P n cp))), .int (-1), .int (nI n), .ref a, .ref b, .int (bI ret), .int 0, .int (nI mx), .int 0, .null]))]) hP hD [1] [0] rfl rfl (by decide) (by decide) hk_73 hFc hP1 hD1
  have hP : va_P D classes [(x, .inr (0, [.ref h, .ref q])), (q, .inr (2, [.int (nI (scn ret P n (skp ret P n cp))), .int (-1), .int (nI n), .ref a, .ref b, .int (bI ret), .int 0, .int (nI mx), .int 0, .null]))] H_71 := hP
  have hD : va_D A [(x, .inr (0, [.ref h, .ref q])), (q, .inr (2, [.int (nI (scn ret P n (skp ret P n cp))), .int (-1), .int (nI n), .ref a, .ref b, .int (bI ret), .int 0, .int (nI mx), .int 0, .null]))] := hD
  rw [ht_72] at hzz0
  have hzz := zs.moved hzz0 hv_75.symm
  refine W.widen (k := 2) (n := (4 + ((scn ret P n (skp ret P n cp)) - (skp ret P n cp)))) (by omega) (by omega) ?_
  exact W.aret S.1 S.2.1 hr (Or.inl ⟨_, rfl⟩) (Or.inr ⟨_, rfl⟩) (fun t ht hW => ⟨⟨(), y, rfl, trivial, by rw [ht]; exact hP, hD, hzz.to (fun _ _ _ => rfl) ht hW.alike (fun _ h => h)⟩, hS.F ht⟩) hS.2.2 d_TD_next_7 hlk
set_option maxHeartbeats 4000000 in
set_option maxRecDepth 100000 in
/-- the law: is it a sign -/
theorem c_LAW_sign (l : Launch) {y : Nat} {sg : Int32} (hy : y < 128) : Ct l y_LAW_sign b_LAW_sign 2 (Option.some FieldType.boolean) 0 0 0 [.int (nI y), .int sg] (fun U => True) (vp_Si (fun r => r = bI (sgn sg y))) nF := by
  refine ct_of (by decide) (Nat.le_of_ble_eq_true rfl) (fun _ _ _ _ h => h) ?_
  intro p e s m below meth c ls S hr hlk hnm hB hl
  have hl : lv_has ls 2 [(0, .int (nI y)), (1, .int sg)] := hl
  have p36 : sgn sg y = true → W p l e (rmd 0 0 0) s m ([.int (nI y), .int sg] : List Value).toArray below meth c s.heap [] 0 0 (MQ below (vp_Si (fun r => r = bI (sgn sg y))) ([.int (nI y), .int sg] : List Value).toArray s 0 0 nF) (F0 m 36 ls []) := by
    intro h
    refine lv_iconst (v := 1) S.1 S.2.1 d_LAW_sign_36 (by decide) ?_
    refine lv_goto (tgt := 41) S.1 S.2.1 d_LAW_sign_37 (by decide) ?_
    exact q_rz S hr hlk rfl (by rw [h]; rfl) d_LAW_sign_41
  have p40 : sgn sg y = false → W p l e (rmd 0 0 0) s m ([.int (nI y), .int sg] : List Value).toArray below meth c s.heap [] 0 0 (MQ below (vp_Si (fun r => r = bI (sgn sg y))) ([.int (nI y), .int sg] : List Value).toArray s 0 0 nF) (F0 m 40 ls []) := by
    intro h
    refine lv_iconst (v := 0) S.1 S.2.1 d_LAW_sign_40 (by decide) ?_
    exact q_rz S hr hlk rfl (by rw [h]; rfl) d_LAW_sign_41
  have ne : ∀ z : Nat, z < 128 → ¬ nI y = nI z → ¬ y = z := fun z hz h1 h2 => h1 (by rw [h2])
  have eq : ∀ z : Nat, z < 128 → nI y = nI z → y = z := fun z hz h1 => (nI_eq (by omega) (by omega)).mp h1
  have p24 : (y = 44 → sg &&& 1 = 0) ∧ (y = 32 → sg &&& 2 = 0) → W p l e (rmd 0 0 0) s m ([.int (nI y), .int sg] : List Value).toArray below meth c s.heap [] 0 0 (MQ below (vp_Si (fun r => r = bI (sgn sg y))) ([.int (nI y), .int sg] : List Value).toArray s 0 0 nF) (F0 m 24 ls []) := by
    intro hh
    refine lv_iload_n S.1 S.2.1 d_LAW_sign_24 rfl (lv_at hl 0 rfl) ?_
    refine lv_bipush (v := 59) S.1 S.2.1 d_LAW_sign_25 (by decide) ?_
    refine lv_icmp_ne (tgt := 40) S.1 S.2.1 d_LAW_sign_27 (by decide) (fun c1 => ?_) (fun c1 => ?_)
    ·
      have hn := ne 59 (by omega) c1
      exact p40 (by simp [sgn, hn]; exact hh)
    ·
      have hn := eq 59 (by omega) c1
      refine lv_iload_n S.1 S.2.1 d_LAW_sign_30 rfl (lv_at hl 1 rfl) ?_
      refine lv_iconst (v := 4) S.1 S.2.1 d_LAW_sign_31 (by decide) ?_
      refine lv_iand S.1 S.2.1 d_LAW_sign_32 ?_
      refine lv_if_eq (tgt := 40) S.1 S.2.1 d_LAW_sign_33 (by decide) (fun c2 => ?_) (fun c2 => ?_)
      ·
        exact p40 (by simp [sgn, hn, c2])
      ·
        exact p36 (by simp [sgn, hn, c2])
  have p12 : (y = 44 → sg &&& 1 = 0) → W p l e (rmd 0 0 0) s m ([.int (nI y), .int sg] : List Value).toArray below meth c s.heap [] 0 0 (MQ below (vp_Si (fun r => r = bI (sgn sg y))) ([.int (nI y), .int sg] : List Value).toArray s 0 0 nF) (F0 m 12 ls []) := by
    intro hh
    refine lv_iload_n S.1 S.2.1 d_LAW_sign_12 rfl (lv_at hl 0 rfl) ?_
    refine lv_bipush (v := 32) S.1 S.2.1 d_LAW_sign_13 (by decide) ?_
    refine lv_icmp_ne (tgt := 24) S.1 S.2.1 d_LAW_sign_15 (by decide) (fun c1 => ?_) (fun c1 => ?_)
    ·
      have hn := ne 32 (by omega) c1
      exact p24 ⟨hh, fun h => absurd h hn⟩
    ·
      have hn := eq 32 (by omega) c1
      refine lv_iload_n S.1 S.2.1 d_LAW_sign_18 rfl (lv_at hl 1 rfl) ?_
      refine lv_iconst (v := 2) S.1 S.2.1 d_LAW_sign_19 (by decide) ?_
      refine lv_iand S.1 S.2.1 d_LAW_sign_20 ?_
      refine lv_if_ne (tgt := 36) S.1 S.2.1 d_LAW_sign_21 (by decide) (fun c2 => ?_) (fun c2 => ?_)
      ·
        exact p36 (by simp [sgn, hn, c2])
      ·
        exact p24 ⟨hh, fun _ => c2⟩
  refine lv_iload_n S.1 S.2.1 d_LAW_sign_0 rfl (lv_at hl 0 rfl) ?_
  refine lv_bipush (v := 44) S.1 S.2.1 d_LAW_sign_1 (by decide) ?_
  refine lv_icmp_ne (tgt := 12) S.1 S.2.1 d_LAW_sign_3 (by decide) (fun c1 => ?_) (fun c1 => ?_)
  ·
    exact p12 (fun h => absurd h (ne 44 (by omega) c1))
  ·
    refine lv_iload_n S.1 S.2.1 d_LAW_sign_6 rfl (lv_at hl 1 rfl) ?_
    refine lv_iconst (v := 1) S.1 S.2.1 d_LAW_sign_7 (by decide) ?_
    refine lv_iand S.1 S.2.1 d_LAW_sign_8 ?_
    have hn := eq 44 (by omega) c1
    refine lv_if_ne (tgt := 36) S.1 S.2.1 d_LAW_sign_9 (by decide) (fun c2 => ?_) (fun c2 => ?_)
    ·
      exact p36 (by simp [sgn, hn, c2])
    ·
      exact p12 (fun _ => c2)
set_option maxHeartbeats 4000000 in
set_option maxRecDepth 100000 in
/-- the law: the text of the signs -/
theorem c_LAW_signs (l : Launch) {D : va_G} {cB cC : ClassId} {sz : Nat} {c0 c1 c2 c3 : Nat} {sg : Int32} : Ct l y_LAW_signs b_LAW_signs 1 (Option.some (FieldType.object "java/lang/String")) 6 4 27 [.int sg] (fun U => U.heap.size = sz ∧ en D cB cC (va_A ([] : va_W) sz) U U.heap ∧ va_P D classes ([] : va_W) U.heap ∧ va_D (fun _ => True) ([] : va_W) ∧ vk_R "TokenDrillLaw" 10 "," c1 U ∧ vk_R "TokenDrillLaw" 12 "" c0 U ∧ vk_R "TokenDrillLaw" 18 " " c2 U ∧ vk_R "TokenDrillLaw" 20 ";" c3 U ∧ zs c0 0 (fun _ => 0) (va_A ([] : va_W) sz) U U.heap ∧ zs c1 1 (fun _ => 44) (va_A ([] : va_W) sz) U U.heap ∧ zs c2 1 (fun _ => 32) (va_A ([] : va_W) sz) U U.heap ∧ zs c3 1 (fun _ => 59) (va_A ([] : va_W) sz) U U.heap) (va_Qr (fun _ : Unit => True) (fun _ q u => ∃ k dl, zs q k dl (fun z => z < sz) u u.heap ∧ k ≤ 3 ∧ ∀ y, memb k dl y ↔ sgn sg y = true) (va_A ([] : va_W) sz)) (va_A ([] : va_W) sz) := by
  refine ct_of (by decide) (Nat.le_of_ble_eq_true rfl) (fun _ _ _ _ h => h) ?_
  intro p e s m below meth c ls S hr hlk hnm hB hl
  have hl : lv_has ls 1 [(0, .int sg)] := hl
  obtain ⟨hsz, hE, hP, hD0, hR1, hR0, hR2, hR3, hz0, hz1, hz2, hz3⟩ := hB
  subst hsz
  have hD := hD0.self (sz := s.heap.size)
  generalize hAe : va_A ([] : va_W) s.heap.size = A at hD hE hz0 hz1 hz2 hz3 ⊢
  have hA : ∀ q : Nat, s.heap.size ≤ q → A q := fun q h => by rw [← hAe]; exact Or.inr h
  have hS : va_S A s.heap s.heap [] := va_S.rf
  have hK := hE.1
  have hP : va_P D classes ([] : va_W) s.heap := hP
  refine va_new (ci := 1) (fs := [.null, .int 0, .int 0, .int 0]) (C := R_SB) (T := F_SB) (N := 4) S.1 S.2.1 S.2.2.2.2 i_SB t_SB t_SB_ok S.2.2.2.1 (S.2.2.2.2 _ k_466) (S.2.2.2.2 _ k_23) (S.2.2.2.2 _ k_3) hK hP hD hS hA rfl (fun j hj => by rcases (show j = 0 ∨ j = 1 ∨ j = 2 ∨ j = 3 by omega) with rfl | rfl | rfl | rfl <;> rfl) (by dsimp only [rmd] <;> omega) (by dsimp only [rmd] <;> omega) d_LAW_signs_0 (fun h H hP hD hS => ?_)
  have hP : va_P D classes [(h, .inr (1, [.null, .int 0, .int 0, .int 0]))] H := hP
  have hD : va_D A [(h, .inr (1, [.null, .int 0, .int 0, .int 0]))] := hD
  refine lv_dup S.1 S.2.1 d_LAW_signs_3 rfl ?_
  have hPc := hP.sub (ws' := [(h, .inr (1, [.null, .int 0, .int 0, .int 0]))]) [0] rfl
  have hDc := hD.sub (ws' := [(h, .inr (1, [.null, .int 0, .int 0, .int 0]))]) [0] (by decide) rfl
  have hFc := va_free (wc := [(h, .inr (1, [.null, .int 0, .int 0, .int 0]))]) hD hS hA [0] rfl
  refine va_callv (rn_I S sc_LAW_9 (As := []) (rest := [.ref h]) (c_SB_init l) (fun U hU hW => ⟨by rw [hU], hE.to hS.2.1 hU hW hFc, by rw [hU]; exact hPc, hDc.weaken (fun _ _ _ _ => trivial)⟩) (Nat.le_of_ble_eq_true rfl) (Nat.le_of_ble_eq_true rfl) (by dsimp only [rmd] <;> omega) (by dsimp only [rmd] <;> omega) rfl hl.1 rfl (Nat.le_of_ble_eq_true rfl) d_LAW_signs_4) hS (fun q _ h => hFc q h) hFc (fun _ t_ H_76 locs ht_77 hv_80 _ hB hz_79 hk_78 hS => ?_)
  obtain ⟨v, hP1, hD1⟩ := hB
  rw [ht_77] at hP1
  obtain ⟨hP, hD⟩ := va_join (wr := []) (w1 := [(h, .inr (1, [.ref v, .int 0, .int 0, .int 0])), (v, .inl (cB, 16, .inl (fun _ => 0)))]) hP hD [0] [] rfl rfl (by decide) (by decide) hk_78 hFc hP1 hD1
  have hP : va_P D classes [(h, .inr (1, [.ref v, .int 0, .int 0, .int 0])), (v, .inl (cB, 16, .inl (fun _ => 0)))] H_76 := hP
  have hD : va_D A [(h, .inr (1, [.ref v, .int 0, .int 0, .int 0])), (v, .inl (cB, 16, .inl (fun _ => 0)))] := hD
  have p52 : ∀ (H : Heap) (locs : List Loc) (cnt k cx : Nat) (f : Nat → Int32) (tx u : Nat → Nat), va_P D classes [(h, .inr (1, [.ref v, .int 0, .int 0, .int (nI cnt)])), (v, .inl (cB, 16, .inl f))] H → va_D A [(h, .inr (1, [.ref v, .int 0, .int 0, .int (nI cnt)])), (v, .inl (cB, 16, .inl f))] → va_S A s.heap H locs → txo 16 cnt f tx → cnt ≤ 2 → zs cx k u A s s.heap → k ≤ 1 → (∀ y, memb cnt tx y ↔ (y = 44 ∧ ¬ sg &&& 1 = 0) ∨ (y = 32 ∧ ¬ sg &&& 2 = 0)) → (∀ y, memb k u y ↔ (y = 59 ∧ ¬ sg &&& 4 = 0)) → W p l e (rmd 6 4 27) s m ([.int sg] : List Value).toArray below meth c H locs 2 20 (MQ below (va_Qr (fun _ : Unit => True) (fun _ q u => ∃ k dl, zs q k dl (fun z => z < s.heap.size) u u.heap ∧ k ≤ 3 ∧ ∀ y, memb k dl y ↔ sgn sg y = true) A) ([.int sg] : List Value).toArray s 4 27 A) (F0 m 52 ls [.ref cx, .ref h]) := by
    intro H locs cnt k cx f tx u hP hD hS htx hcnt hzx hk1 hm1 hm2
    obtain ⟨vx, hzx⟩ := hzx
    have hPc := hP.sub (ws' := [(h, .inr (1, [.ref v, .int 0, .int 0, .int (nI cnt)])), (v, .inl (cB, 16, .inl f))]) [0, 1] rfl
    have hDc := hD.sub (ws' := [(h, .inr (1, [.ref v, .int 0, .int 0, .int (nI cnt)])), (v, .inl (cB, 16, .inl f))]) [0, 1] (by decide) rfl
    have hFc := va_free (wc := [(h, .inr (1, [.ref v, .int 0, .int 0, .int (nI cnt)])), (v, .inl (cB, 16, .inl f))]) hD hS hA [0, 1] rfl
    refine va_callr (rn_V S sc_LAW_14 (As := [.ref cx]) (rest := []) (c_SB_appS l (ml := 0) (u := u) (k := k) (cnt := cnt) (by omega) (by omega)) (va_recv hK hP (ci := 1) (q0 := 0) rfl rfl) (fun U hU hW => ⟨by rw [hU], hE.to hS.2.1 hU hW hFc, by rw [hU]; exact hPc, hDc.weaken (fun _ _ _ _ => trivial), hzx.to hS.2.1 hU hW.alike hFc⟩) (Nat.le_of_ble_eq_true rfl) (Nat.le_of_ble_eq_true rfl) (by dsimp only [rmd] <;> omega) (by dsimp only [rmd] <;> omega) rfl hl.1 rfl (Nat.le_of_ble_eq_true rfl) d_LAW_signs_52) hS (fun q _ h => hFc q h) hFc (fun _ r0 t_ H_81 locs ht_82 hv_85 _ hB hz_84 hk_83 hS => ?_)
    obtain ⟨hra, hP1, hD1⟩ := hB
    rw [ht_82] at hP1
    obtain ⟨hP, hD⟩ := va_join (wr := []) (w1 := [(h, .inr (1, [.ref v, .int 0, .int 0, .int (nI (cnt + k))])), (v, .inl (cB, 16, .inl (va_cpy (fun j => nI (u j)) f 0 cnt k)))]) hP hD [0, 1] [] rfl rfl (by decide) (by decide) hk_83 hFc hP1 hD1
    have hP : va_P D classes [(h, .inr (1, [.ref v, .int 0, .int 0, .int (nI (cnt + k))])), (v, .inl (cB, 16, .inl (va_cpy (fun j => nI (u j)) f 0 cnt k)))] H_81 := hP
    have hD : va_D A [(h, .inr (1, [.ref v, .int 0, .int 0, .int (nI (cnt + k))])), (v, .inl (cB, 16, .inl (va_cpy (fun j => nI (u j)) f 0 cnt k)))] := hD
    have hra : h = r0 := hra.symm
    subst hra
    have htx := txo_put htx (k := k) (u := u) (by omega) hzx.2.2
    have hPc := hP.sub (ws' := [(h, .inr (1, [.ref v, .int 0, .int 0, .int (nI (cnt + k))])), (v, .inl (cB, 16, .inl (va_cpy (fun j => nI (u j)) f 0 cnt k)))]) [0, 1] rfl
    have hDc := hD.sub (ws' := [(h, .inr (1, [.ref v, .int 0, .int 0, .int (nI (cnt + k))])), (v, .inl (cB, 16, .inl (va_cpy (fun j => nI (u j)) f 0 cnt k)))]) [0, 1] (by decide) rfl
    have hFc := va_free (wc := [(h, .inr (1, [.ref v, .int 0, .int 0, .int (nI (cnt + k))])), (v, .inl (cB, 16, .inl (va_cpy (fun j => nI (u j)) f 0 cnt k)))]) hD hS hA [0, 1] rfl
    refine va_callr (rn_V S sc_LAW_22 (As := []) (rest := []) (c_SB_toString l htx.1 htx.2.1 htx.2.2.1) (va_recv hK hP (ci := 1) (q0 := 0) rfl rfl) (fun U hU hW => ⟨by rw [hU], hE.to hS.2.1 hU hW hFc, by rw [hU]; exact hPc, hDc.weaken (fun _ _ _ _ => trivial)⟩) (Nat.le_of_ble_eq_true rfl) (Nat.le_of_ble_eq_true rfl) (by dsimp only [rmd] <;> omega) (by dsimp only [rmd] <;> omega) rfl hl.1 rfl (Nat.le_of_ble_eq_true rfl) d_LAW_signs_55) hS (fun q _ h => hFc q h) hFc (fun _ q t_ H_86 locs ht_87 hv_90 _ hB hz_89 hk_88 hS => ?_)
    obtain ⟨z, g, hP1, hD1, hg⟩ := hB
    rw [ht_87] at hP1
    obtain ⟨hP, hD⟩ := va_join (wr := []) (w1 := [(h, .inr (1, [.ref v, .int 0, .int 0, .int (nI (cnt + k))])), (v, .inl (cB, 16, .inl (va_cpy (fun j => nI (u j)) f 0 cnt k))), (q, .inr (3, [.ref z, .int 0, .int 0, .int 0])), (z, .inl (cB, cnt + k, .inl g))]) hP hD [0, 1] [] rfl rfl (by decide) (by decide) hk_88 hFc hP1 hD1
    have hP : va_P D classes [(h, .inr (1, [.ref v, .int 0, .int 0, .int (nI (cnt + k))])), (v, .inl (cB, 16, .inl (va_cpy (fun j => nI (u j)) f 0 cnt k))), (q, .inr (3, [.ref z, .int 0, .int 0, .int 0])), (z, .inl (cB, cnt + k, .inl g))] H_86 := hP
    have hD : va_D A [(h, .inr (1, [.ref v, .int 0, .int 0, .int (nI (cnt + k))])), (v, .inl (cB, 16, .inl (va_cpy (fun j => nI (u j)) f 0 cnt k))), (q, .inr (3, [.ref z, .int 0, .int 0, .int 0])), (z, .inl (cB, cnt + k, .inl g))] := hD
    have fr : ∀ y : Nat, A y → ¬ y < s.heap.size := fun y hy hlt => by rw [← hAe] at hy; exact na_nil hlt hy
    have hzz := zs_of (A := fun y => y < s.heap.size) (t := sb_cat tx cnt u) (k1 := 2) (k2 := 3) S.2.2.2.2 hK hP rfl rfl (fr _ (hD.2 2 _ rfl)) (fr _ (hD.2 3 _ rfl)) (by omega) (fun j hj => by rw [hg j hj]; exact (htx.2.2.2 j hj).2) (fun j hj => (htx.2.2.2 j hj).1)
    have hmm : ∀ y, memb (cnt + k) (sb_cat tx cnt u) y ↔ sgn sg y = true := fun y => by rw [memb_cat, hm1 y, hm2 y]; simp [sgn, or_assoc]
    refine W.widen (k := 4) (n := 27) (by omega) (by omega) ?_
    exact W.aret S.1 S.2.1 hr (Or.inl ⟨_, rfl⟩) (Or.inr ⟨_, rfl⟩) (fun t ht hW => ⟨⟨(), q, rfl, trivial, cnt + k, _, hzz.to (fun _ _ _ => rfl) ht hW.alike (fun _ h => h), by omega, hmm⟩, hS.F ht⟩) hS.2.2 d_LAW_signs_58 hlk
  have p36 : ∀ (H : Heap) (locs : List Loc) (cnt k cx : Nat) (f : Nat → Int32) (tx u : Nat → Nat), va_P D classes [(h, .inr (1, [.ref v, .int 0, .int 0, .int (nI cnt)])), (v, .inl (cB, 16, .inl f))] H → va_D A [(h, .inr (1, [.ref v, .int 0, .int 0, .int (nI cnt)])), (v, .inl (cB, 16, .inl f))] → va_S A s.heap H locs → txo 16 cnt f tx → cnt ≤ 1 → zs cx k u A s s.heap → k ≤ 1 → (∀ y, memb cnt tx y ↔ (y = 44 ∧ ¬ sg &&& 1 = 0)) → (∀ y, memb k u y ↔ (y = 32 ∧ ¬ sg &&& 2 = 0)) → W p l e (rmd 6 4 27) s m ([.int sg] : List Value).toArray below meth c H locs 2 20 (MQ below (va_Qr (fun _ : Unit => True) (fun _ q u => ∃ k dl, zs q k dl (fun z => z < s.heap.size) u u.heap ∧ k ≤ 3 ∧ ∀ y, memb k dl y ↔ sgn sg y = true) A) ([.int sg] : List Value).toArray s 4 27 A) (F0 m 36 ls [.ref cx, .ref h]) := by
    intro H locs cnt k cx f tx u hP hD hS htx hcnt hzx hk1 hm1 hm2
    obtain ⟨vx, hzx⟩ := hzx
    have hPc := hP.sub (ws' := [(h, .inr (1, [.ref v, .int 0, .int 0, .int (nI cnt)])), (v, .inl (cB, 16, .inl f))]) [0, 1] rfl
    have hDc := hD.sub (ws' := [(h, .inr (1, [.ref v, .int 0, .int 0, .int (nI cnt)])), (v, .inl (cB, 16, .inl f))]) [0, 1] (by decide) rfl
    have hFc := va_free (wc := [(h, .inr (1, [.ref v, .int 0, .int 0, .int (nI cnt)])), (v, .inl (cB, 16, .inl f))]) hD hS hA [0, 1] rfl
    refine va_callr (rn_V S sc_LAW_14 (As := [.ref cx]) (rest := []) (c_SB_appS l (ml := 0) (u := u) (k := k) (cnt := cnt) (by omega) (by omega)) (va_recv hK hP (ci := 1) (q0 := 0) rfl rfl) (fun U hU hW => ⟨by rw [hU], hE.to hS.2.1 hU hW hFc, by rw [hU]; exact hPc, hDc.weaken (fun _ _ _ _ => trivial), hzx.to hS.2.1 hU hW.alike hFc⟩) (Nat.le_of_ble_eq_true rfl) (Nat.le_of_ble_eq_true rfl) (by dsimp only [rmd] <;> omega) (by dsimp only [rmd] <;> omega) rfl hl.1 rfl (Nat.le_of_ble_eq_true rfl) d_LAW_signs_36) hS (fun q _ h => hFc q h) hFc (fun _ r0 t_ H_91 locs ht_92 hv_95 _ hB hz_94 hk_93 hS => ?_)
    obtain ⟨hra, hP1, hD1⟩ := hB
    rw [ht_92] at hP1
    obtain ⟨hP, hD⟩ := va_join (wr := []) (w1 := [(h, .inr (1, [.ref v, .int 0, .int 0, .int (nI (cnt + k))])), (v, .inl (cB, 16, .inl (va_cpy (fun j => nI (u j)) f 0 cnt k)))]) hP hD [0, 1] [] rfl rfl (by decide) (by decide) hk_93 hFc hP1 hD1
    have hP : va_P D classes [(h, .inr (1, [.ref v, .int 0, .int 0, .int (nI (cnt + k))])), (v, .inl (cB, 16, .inl (va_cpy (fun j => nI (u j)) f 0 cnt k)))] H_91 := hP
    have hD : va_D A [(h, .inr (1, [.ref v, .int 0, .int 0, .int (nI (cnt + k))])), (v, .inl (cB, 16, .inl (va_cpy (fun j => nI (u j)) f 0 cnt k)))] := hD
    have hra : h = r0 := hra.symm
    subst hra
    have htx := txo_put htx (k := k) (u := u) (by omega) hzx.2.2
    have hm3 : ∀ y, memb (cnt + k) (sb_cat tx cnt u) y ↔ (y = 44 ∧ ¬ sg &&& 1 = 0) ∨ (y = 32 ∧ ¬ sg &&& 2 = 0) := fun y => by rw [memb_cat, hm1 y, hm2 y]
    refine lv_iload_n S.1 S.2.1 d_LAW_signs_39 rfl (lv_at hl 0 rfl) ?_
    refine lv_iconst (v := 4) S.1 S.2.1 d_LAW_signs_40 (by decide) ?_
    refine lv_iand S.1 S.2.1 d_LAW_signs_41 ?_
    refine lv_if_eq (tgt := 50) S.1 S.2.1 d_LAW_signs_42 (by decide) (fun cb => ?_) (fun cb => ?_)
    ·
      refine va_ldcS S.1 S.2.1 S.2.2.2.1 hR0 d_LAW_signs_50 ?_
      exact p52 H_91 locs (cnt + k) 0 c0 _ _ (fun _ => 0) hP hD hS htx (by omega) hz0 (by omega) hm3 (fun y => ⟨fun h => absurd h memb_0, fun h => absurd cb h.2⟩)
    ·
      refine va_ldcS S.1 S.2.1 S.2.2.2.1 hR3 d_LAW_signs_45 ?_
      refine lv_goto (tgt := 52) S.1 S.2.1 d_LAW_signs_47 (by decide) ?_
      exact p52 H_91 locs (cnt + k) 1 c3 _ _ (fun _ => 59) hP hD hS htx (by omega) hz3 (by omega) hm3 (fun y => by rw [memb_1]; exact ⟨fun h => ⟨h, cb⟩, fun h => h.1⟩)
  have p20 : ∀ (H : Heap) (locs : List Loc) (cnt k cx : Nat) (f : Nat → Int32) (tx u : Nat → Nat), va_P D classes [(h, .inr (1, [.ref v, .int 0, .int 0, .int (nI cnt)])), (v, .inl (cB, 16, .inl f))] H → va_D A [(h, .inr (1, [.ref v, .int 0, .int 0, .int (nI cnt)])), (v, .inl (cB, 16, .inl f))] → va_S A s.heap H locs → txo 16 cnt f tx → cnt ≤ 0 → zs cx k u A s s.heap → k ≤ 1 → (∀ y, memb cnt tx y ↔ False) → (∀ y, memb k u y ↔ (y = 44 ∧ ¬ sg &&& 1 = 0)) → W p l e (rmd 6 4 27) s m ([.int sg] : List Value).toArray below meth c H locs 2 20 (MQ below (va_Qr (fun _ : Unit => True) (fun _ q u => ∃ k dl, zs q k dl (fun z => z < s.heap.size) u u.heap ∧ k ≤ 3 ∧ ∀ y, memb k dl y ↔ sgn sg y = true) A) ([.int sg] : List Value).toArray s 4 27 A) (F0 m 20 ls [.ref cx, .ref h]) := by
    intro H locs cnt k cx f tx u hP hD hS htx hcnt hzx hk1 hm1 hm2
    obtain ⟨vx, hzx⟩ := hzx
    have hPc := hP.sub (ws' := [(h, .inr (1, [.ref v, .int 0, .int 0, .int (nI cnt)])), (v, .inl (cB, 16, .inl f))]) [0, 1] rfl
    have hDc := hD.sub (ws' := [(h, .inr (1, [.ref v, .int 0, .int 0, .int (nI cnt)])), (v, .inl (cB, 16, .inl f))]) [0, 1] (by decide) rfl
    have hFc := va_free (wc := [(h, .inr (1, [.ref v, .int 0, .int 0, .int (nI cnt)])), (v, .inl (cB, 16, .inl f))]) hD hS hA [0, 1] rfl
    refine va_callr (rn_V S sc_LAW_14 (As := [.ref cx]) (rest := []) (c_SB_appS l (ml := 0) (u := u) (k := k) (cnt := cnt) (by omega) (by omega)) (va_recv hK hP (ci := 1) (q0 := 0) rfl rfl) (fun U hU hW => ⟨by rw [hU], hE.to hS.2.1 hU hW hFc, by rw [hU]; exact hPc, hDc.weaken (fun _ _ _ _ => trivial), hzx.to hS.2.1 hU hW.alike hFc⟩) (Nat.le_of_ble_eq_true rfl) (Nat.le_of_ble_eq_true rfl) (by dsimp only [rmd] <;> omega) (by dsimp only [rmd] <;> omega) rfl hl.1 rfl (Nat.le_of_ble_eq_true rfl) d_LAW_signs_20) hS (fun q _ h => hFc q h) hFc (fun _ r0 t_ H_96 locs ht_97 hv_100 _ hB hz_99 hk_98 hS => ?_)
    obtain ⟨hra, hP1, hD1⟩ := hB
    rw [ht_97] at hP1
    obtain ⟨hP, hD⟩ := va_join (wr := []) (w1 := [(h, .inr (1, [.ref v, .int 0, .int 0, .int (nI (cnt + k))])), (v, .inl (cB, 16, .inl (va_cpy (fun j => nI (u j)) f 0 cnt k)))]) hP hD [0, 1] [] rfl rfl (by decide) (by decide) hk_98 hFc hP1 hD1
    have hP : va_P D classes [(h, .inr (1, [.ref v, .int 0, .int 0, .int (nI (cnt + k))])), (v, .inl (cB, 16, .inl (va_cpy (fun j => nI (u j)) f 0 cnt k)))] H_96 := hP
    have hD : va_D A [(h, .inr (1, [.ref v, .int 0, .int 0, .int (nI (cnt + k))])), (v, .inl (cB, 16, .inl (va_cpy (fun j => nI (u j)) f 0 cnt k)))] := hD
    have hra : h = r0 := hra.symm
    subst hra
    have htx := txo_put htx (k := k) (u := u) (by omega) hzx.2.2
    have hm3 : ∀ y, memb (cnt + k) (sb_cat tx cnt u) y ↔ (y = 44 ∧ ¬ sg &&& 1 = 0) := fun y => by rw [memb_cat, hm1 y, hm2 y]; simp
    refine lv_iload_n S.1 S.2.1 d_LAW_signs_23 rfl (lv_at hl 0 rfl) ?_
    refine lv_iconst (v := 2) S.1 S.2.1 d_LAW_signs_24 (by decide) ?_
    refine lv_iand S.1 S.2.1 d_LAW_signs_25 ?_
    refine lv_if_eq (tgt := 34) S.1 S.2.1 d_LAW_signs_26 (by decide) (fun cb => ?_) (fun cb => ?_)
    ·
      refine va_ldcS S.1 S.2.1 S.2.2.2.1 hR0 d_LAW_signs_34 ?_
      exact p36 H_96 locs (cnt + k) 0 c0 _ _ (fun _ => 0) hP hD hS htx (by omega) hz0 (by omega) hm3 (fun y => ⟨fun h => absurd h memb_0, fun h => absurd cb h.2⟩)
    ·
      refine va_ldcS S.1 S.2.1 S.2.2.2.1 hR2 d_LAW_signs_29 ?_
      refine lv_goto (tgt := 36) S.1 S.2.1 d_LAW_signs_31 (by decide) ?_
      exact p36 H_96 locs (cnt + k) 1 c2 _ _ (fun _ => 32) hP hD hS htx (by omega) hz2 (by omega) hm3 (fun y => by rw [memb_1]; exact ⟨fun h => ⟨h, cb⟩, fun h => h.1⟩)
  have htx : txo 16 0 (fun _ => 0) (fun _ => 0) := ⟨by omega, by omega, fun _ _ => rfl, fun j hj => absurd hj (by omega)⟩
  have hm3 : ∀ y, memb 0 (fun _ => 0) y ↔ False := fun y => ⟨fun h => memb_0 h, fun h => h.elim⟩
  refine lv_iload_n S.1 S.2.1 d_LAW_signs_7 rfl (lv_at hl 0 rfl) ?_
  refine lv_iconst (v := 1) S.1 S.2.1 d_LAW_signs_8 (by decide) ?_
  refine lv_iand S.1 S.2.1 d_LAW_signs_9 ?_
  refine lv_if_eq (tgt := 18) S.1 S.2.1 d_LAW_signs_10 (by decide) (fun cb => ?_) (fun cb => ?_)
  ·
    refine va_ldcS S.1 S.2.1 S.2.2.2.1 hR0 d_LAW_signs_18 ?_
    exact p20 H_76 locs 0 0 c0 _ _ (fun _ => 0) hP hD hS htx (by omega) hz0 (by omega) hm3 (fun y => ⟨fun h => absurd h memb_0, fun h => absurd cb h.2⟩)
  ·
    refine va_ldcS S.1 S.2.1 S.2.2.2.1 hR1 d_LAW_signs_13 ?_
    refine lv_goto (tgt := 20) S.1 S.2.1 d_LAW_signs_15 (by decide) ?_
    exact p20 H_76 locs 0 1 c1 _ _ (fun _ => 44) hP hD hS htx (by omega) hz1 (by omega) hm3 (fun y => by rw [memb_1]; exact ⟨fun h => ⟨h, cb⟩, fun h => h.1⟩)
end
section
/-! THE CLAIM OUT OF ONE WALK OF THE LAW'S BODY. Your part is whole_start (and what it stands on); all else here is the same for every law, but numbers. -/
def R_law : String := "TokenDrillLaw"
def lw_P (b : Addr) (xs : List Int32) (args : Array Value) (s : State) : Prop := args = #[.ref b] ∧ s.IntsAt b xs ∧ xs.length ≤ 3000 ∧ (Jvm.Cond.and given_1 narrow_1).before args s = true
def lw_Q (_ : Array Value) (s : State) (o : Outcome) (t : State) : Prop := o = .returned (some (.int 1)) ∧ Framed s o t [] 600000 7302250
def lw_Z (below : List Frame) (a : Array Value) (s : State) : State → Prop := fun t => ∃ o, t.status = .running ∧ Ended t below o ∧ lw_Q a s o t
/-- the law's own end, with 1 on the stack, nothing written that was there before, its room as the claim has it -/
theorem lw_ret {p : Program} {l : Launch} {e : Env} {s : State} {m : MethodId} {below : List Frame} {meth : Method} {c : Code} {b : Nat} (hx : p.tables.exec = Jvm.exec) (hb : c.code = code) (hr : meth.sig.returnType = ret) (hlocks : meth.locks = false) {pc : Nat} {H : Heap} {ls : Array Slot} (hdg : decode code pc = .ok (.ireturn, 1)) : W p l e room_1 s m #[Value.ref b] below meth c H [] 600000 7302250 (lw_Z below #[Value.ref b] s) (F0 m pc ls [.int 1]) := by
  intro T hT X
  obtain ⟨fs, hret, hrun, hended, hW, hframe⟩ := X.leave (v := some (.int 1)) (hlocks := hlocks) (fun h => by rw [hr] at h; cases h)
  have hmeth' : T.vm.method? m = some meth := X.method'
  refine ⟨T.setFrames fs, ?_, .returned (some (.int 1)), hrun, hended, rfl, ⟨_, rfl⟩, hW, hframe⟩
  jvm_step X.here [X.here.top, hx, hb, hdg, hmeth', hr, ret, narrow_b1]
  (try refine ⟨rfl, ?_⟩); (try refine ⟨rfl, ?_⟩)
  first | (intro acts; rw [hret _ acts rfl rfl rfl]) | rw [hret _ _ rfl rfl rfl]
  exact Steps.refl _
/-- what holds at the law's entry: the machine, the code, the tables' words (any of lw_tbl by 'hts w (by decide +kernel)'), the script of L ints xs at the cell b, what the Statement gives of the start (any of its parts by flat_of_before) -/
def lw_At (p : Program) (s : State) (m : MethodId) (meth : Method) (c : Code) (b L : Nat) (xs : Nat → Int32) : Prop :=
  p.tables.exec = Jvm.exec ∧ c.code = code ∧ meth.sig.returnType = ret ∧ c.maxLocals = 16 ∧ s.vm.findClass R_law = some m.cls ∧ (∀ w ∈ lw_tbl, w.before #[Value.ref b] s = true) ∧ va_X b L xs s s.heap ∧ b < s.heap.size ∧ meth.locks = false ∧ (Jvm.Cond.and given_1 narrow_1).before #[Value.ref b] s = true
/-! the law's own frame -/
abbrev AL (s : State) : Nat → Prop := fun q => s.heap.size ≤ q
/-- what stands through the whole walk of the law -/
def LC (p : Program) (s : State) (m : MethodId) (meth : Method) (c : Code) (b L : Nat) (xs : Nat → Int32) (D : va_G) (cB cC : ClassId) (c0 c1 c2 c3 : Nat) : Prop :=
  CallFix p m c code 16 s #[Value.ref b] tb "TokenDrillLaw" ∧ meth.sig.returnType = ret ∧ meth.locks = false ∧ va_X b L xs s s.heap ∧ b < s.heap.size ∧ L ≤ 3000 ∧ en D cB cC (AL s) s s.heap ∧
  (vk_R "TokenDrillLaw" 10 "," c1 s ∧ vk_R "TokenDrillLaw" 12 "" c0 s ∧ vk_R "TokenDrillLaw" 18 " " c2 s ∧ vk_R "TokenDrillLaw" 20 ";" c3 s) ∧
  zs c0 0 (fun _ => 0) (AL s) s s.heap ∧ zs c1 1 (fun _ => 44) (AL s) s s.heap ∧ zs c2 1 (fun _ => 32) (AL s) s s.heap ∧ zs c3 1 (fun _ => 59) (AL s) s s.heap
/-- the numbers: what the law holds is what the drill holds; the room behind i ints (uc of them no typing, tc typing) -/
def lok (L n mm ap cap k mx i uc tc ce sl : Nat) (sg : Int32) (f ft fc : Nat → Int32) (tx t1 dl : Nat → Nat) : Prop :=
  txo cap n f tx ∧ (∀ j, j < n → ft j = nI (tx j)) ∧ mm ≤ L ∧ (∀ j, j < mm → fc j = nI (t1 j) ∧ t1 j < 128) ∧ ap ≤ mm ∧ mx < 128 ∧ (∀ j, j < k → dl j ≤ mx) ∧ (∀ j, j < mm → (sgn sg (t1 j) = true ↔ ∃ z, z < k ∧ dl z = t1 j)) ∧
  uc + tc = i ∧ n ≤ tc ∧ mm ≤ tc ∧ cap ≤ 2 * tc + 16 ∧ ce ≤ 6 + 7 * i ∧ sl ≤ 6100 + 50 * i + uc * tc + 2 * cap
theorem ut_le {u t : Nat} (h : u + t ≤ 3000) : u * t ≤ 4500000 := by
  rcases Nat.lt_or_ge t 1500 with h1 | h1
  · exact Nat.le_trans (Nat.mul_le_mul (show u ≤ 3000 by omega) (show t ≤ 1500 by omega)) (by omega)
  · exact Nat.le_trans (Nat.mul_le_mul (show u ≤ 1500 by omega) (show t ≤ 3000 by omega)) (by omega)
theorem va_sub {ws wc : va_W} {sz : Nat} (is : List Nat) (hC : is.map (fun i => ws[i]?) = wc.map some) : ∀ q, va_A wc sz q → va_A ws sz q := by
  intro q h
  rcases h with ⟨k, e, h⟩ | h
  · have h1 : (is.map (fun i => ws[i]?))[k]? = some (some (q, e)) := by rw [hC, List.getElem?_map, h]; rfl
    rw [List.getElem?_map] at h1
    cases hi : is[k]? with
    | none => rw [hi] at h1; cases h1
    | some i => rw [hi] at h1; exact Or.inl ⟨i, e, Option.some.inj h1⟩
  · exact Or.inr h
theorem zs.join {a n : Nat} {t : Nat → Nat} {s : State} {H H1 : Heap} {ws wc wr w1 : va_W} (h : zs a n t (va_A ws H.size) s H) (isC isR : List Nat) (hC : isC.map (fun i => ws[i]?) = wc.map some) (hR : isR.map (fun i => ws[i]?) = wr.map some) (hk : ∀ q : Nat, q < H.size → ¬ va_A wc H.size q → H1[q]? = H[q]?) (hsz : H.size ≤ H1.size) (hD1 : va_D (va_A wc H.size) w1) : zs a n t (va_A (wr ++ w1) H1.size) s H1 := by
  refine (h.kept (fun q h1 h2 => hk q h1 (fun z => h2 (va_sub isC hC q z)))).nar (fun q h1 h2 => ?_)
  rcases h2 with ⟨k, e, h2⟩ | h2
  · rcases List.mem_append.mp (List.mem_of_getElem? h2) with h3 | h3
    · obtain ⟨i, hi⟩ := List.getElem?_of_mem h3
      exact va_sub isR hR q (Or.inl ⟨i, e, hi⟩)
    · obtain ⟨i, hi⟩ := List.getElem?_of_mem h3
      exact va_sub isC hC q (hD1.2 i _ hi)
  · exact Or.inr (Nat.le_trans hsz h2)
theorem zs.goS {a n : Nat} {t : Nat → Nat} {s : State} {H H1 : Heap} {ws ws' : va_W} (h : zs a n t (va_A ws H.size) s H) (hk : ∀ q : Nat, q < H.size → ¬ va_A ws H.size q → H1[q]? = H[q]?) (hsz : H.size ≤ H1.size) (hm : ws'.map (fun y => y.1) = ws.map (fun y => y.1)) : zs a n t (va_A ws' H1.size) s H1 := by
  refine (h.kept hk).nar (fun q h1 h2 => ?_)
  rcases h2 with ⟨k, e, h2⟩ | h2
  · have h3 : (ws'.map (fun y => y.1))[k]? = some q := by rw [List.getElem?_map, h2]; rfl
    rw [hm, List.getElem?_map] at h3
    cases hi : ws[k]? with
    | none => rw [hi] at h3; cases h3
    | some y =>
      rw [hi] at h3
      obtain ⟨y1, y2⟩ := y
      cases h3
      exact Or.inl ⟨k, y2, hi⟩
  · exact Or.inr (Nat.le_trans hsz h2)
/-- behind a call whose answer is a new text: the text lies outside the world -/
theorem zs.new {a n sz : Nat} {t : Nat → Nat} {s : State} {D : va_G} {H H1 : Heap} {ws : va_W} (h : zs a n t (fun z => z < sz) s H1) (hP : va_P D classes ws H) (hsz : H.size = sz) : zs a n t (va_A ws H1.size) s H1 := by
  refine h.nar (fun q h1 h2 => ?_)
  rcases h2 with ⟨k, e, h2⟩ | h2
  · rw [← hsz]; exact (hP k _ h2).lt
  · omega
section LAWROWS
variable {p : Program} {l : Launch} {e : Env} {R : Room} {s : State} {m : MethodId} {args : Array Value} {below : List Frame} {meth : Method} {c : Code} {H : Heap} {locs : List Loc} {cells slots : Nat} {Q : State → Prop}
  {cc : ByteArray} {nL pc : Nat} {own : String} {a : Addr} {rest : List Value} {ls : Array Slot} {D : va_G} {ws : va_W} {cB cC : ClassId}
theorem q_castL (S : CallFix p m c cc nL s args tb own) (hK : va_K D classes [(cB, .byte), (cC, .char)] s) (hP : va_P D classes ws H) (hD : va_D (AL s) ws) (hS : va_S (AL s) s.heap H locs) (q0 : Nat) {N : Nat} {f : Nat → Int32} (ha : ws[q0]? = some (a, .inl (cC, N, .inl f))) {i v : Nat} (hi : i < N) (hN : N < 2 ^ 31) (hv : v < 128) (hdg : decode cc pc = .ok (.castore, 1))
    (kk : ∀ (H1 : Heap) (locs1 : List Loc), va_P D classes (ws.set q0 (a, .inl (cC, N, .inl (upd f i (nI v))))) H1 → va_D (AL s) (ws.set q0 (a, .inl (cC, N, .inl (upd f i (nI v))))) → va_S (AL s) s.heap H1 locs1 → H.size ≤ H1.size → (∀ q : Nat, q < H.size → ¬ va_A ws H.size q → H1[q]? = H[q]?) → W p l e R s m args below meth c H1 locs1 cells slots Q (F0 m (pc + 1) ls rest)) : W p l e R s m args below meth c H locs cells slots Q (F0 m pc ls (.int (nI v) :: .int (nI i) :: .ref a :: rest)) := by
  have hF : ∀ q, va_A ws H.size q → AL s q := fun q h => by
    rcases h with ⟨k, e, h⟩ | h
    · exact hD.2 k _ h
    · exact Nat.le_trans hS.1 h
  refine va_forget (fun q hq => hS.2.2 q hq) ?_
  refine q_cast (A := va_A ws H.size) (H0 := H) S hK hP hD.self va_S.rf q0 ha hi hN hv hdg (fun H1 locs1 hP1 hD1 hS1 => ?_)
  exact kk H1 locs1 hP1 (hD.set ha) ⟨Nat.le_trans hS.1 hS1.1, fun q g1 g2 => (hS1.2.1 q (Nat.lt_of_lt_of_le g1 hS.1) (fun z => g2 (hF q z))).trans (hS.2.1 q g1 g2), fun q hq => hF _ (hS1.2.2 q hq)⟩ hS1.1 hS1.2.1
end LAWROWS
theorem skp_skp {ret : Bool} {P : Nat → Bool} {n i : Nat} (h : i ≤ n) : skp ret P n (skp ret P n i) = skp ret P n i := by
  have h1 := skp_in (ret := ret) (P := P) h
  rcases Nat.lt_or_ge (skp ret P n i) n with h2 | h2
  · have h3 := skp_P h h2
    cases ret with
    | true => rfl
    | false => exact rn_stop (h3 rfl)
  · cases ret with
    | true => rfl
    | false => exact rn_end h2
theorem cnt_skp {ret : Bool} {P : Nat → Bool} {n i : Nat} (h : i ≤ n) : cnt ret P n (skp ret P n i) = cnt ret P n i := by
  have h1 := skp_in (ret := ret) (P := P) h
  rcases Nat.lt_or_ge (skp ret P n i) n with h2 | h2
  · rw [cnt_step h h2, cnt_step h1.2 (by rw [skp_skp h]; exact h2), skp_skp h]
  · rw [cnt_end h2, cnt_end (by rw [skp_skp h]; exact h2)]
/-- the law goes on from pc, i of its ints (by its own counter) and j of them (by what is done) behind it -/
def HD (p : Program) (l : Launch) (e : Env) (s : State) (m : MethodId) (below : List Frame) (meth : Method) (c : Code) (b L : Nat) (D : va_G) (cB cC : ClassId) (pc i j : Nat) : Prop :=
  ∀ (x h v q a b2 X2 X3 n mm ap cap k mx uc tc ce sl : Nat) (ml np sg : Int32) (rt : Bool) (f ft fc : Nat → Int32) (tx t1 dl : Nat → Nat) (H : Heap) (locs : List Loc) (ls : Array Slot), va_P D classes [(x, .inr (0, [.ref h, .ref q])), (h, .inr (1, [.ref v, .int 0, .int ml, .int (nI n)])), (v, .inl (cB, cap, .inl f)), (q, .inr (2, [.int (nI ap), .int np, .int (nI mm), .ref a, .ref b2, .int (bI rt), .int 0, .int (nI mx), .int 0, .null])), (X2, .inl (cC, L, .inl ft)), (X3, .inl (cC, L, .inl fc))] H → va_D (AL s) [(x, .inr (0, [.ref h, .ref q])), (h, .inr (1, [.ref v, .int 0, .int ml, .int (nI n)])), (v, .inl (cB, cap, .inl f)), (q, .inr (2, [.int (nI ap), .int np, .int (nI mm), .ref a, .ref b2, .int (bI rt), .int 0, .int (nI mx), .int 0, .null])), (X2, .inl (cC, L, .inl ft)), (X3, .inl (cC, L, .inl fc))] → va_S (AL s) s.heap H locs → zs a mm t1 (va_A [(x, .inr (0, [.ref h, .ref q])), (h, .inr (1, [.ref v, .int 0, .int ml, .int (nI n)])), (v, .inl (cB, cap, .inl f)), (q, .inr (2, [.int (nI ap), .int np, .int (nI mm), .ref a, .ref b2, .int (bI rt), .int 0, .int (nI mx), .int 0, .null])), (X2, .inl (cC, L, .inl ft)), (X3, .inl (cC, L, .inl fc))] H.size) s H → zs b2 k dl (va_A [(x, .inr (0, [.ref h, .ref q])), (h, .inr (1, [.ref v, .int 0, .int ml, .int (nI n)])), (v, .inl (cB, cap, .inl f)), (q, .inr (2, [.int (nI ap), .int np, .int (nI mm), .ref a, .ref b2, .int (bI rt), .int 0, .int (nI mx), .int 0, .null])), (X2, .inl (cC, L, .inl ft)), (X3, .inl (cC, L, .inl fc))] H.size) s H → lok L n mm ap cap k mx j uc tc ce sl sg f ft fc tx t1 dl → lv_has ls 16 [(0, .ref b), (1, .ref x), (2, .ref X2), (3, .ref X3), (4, .int (nI n)), (5, .int (nI mm)), (6, .int (nI ap)), (7, .int sg), (8, .int (bI rt)), (9, .int (nI i))] → W p l e room_1 s m #[Value.ref b] below meth c H locs ce sl (lw_Z below #[Value.ref b] s) (F0 m pc ls [])
set_option maxHeartbeats 4000000 in
theorem lw_tail {p : Program} {l : Launch} {e : Env} {s : State} {m : MethodId} {below : List Frame} {meth : Method} {c : Code} {b L : Nat} {xs : Nat → Int32} {D : va_G} {cB cC : ClassId} {c0 c1 c2 c3 : Nat} (C : LC p s m meth c b L xs D cB cC c0 c1 c2 c3) {i : Nat} (K : HD p l e s m below meth c b L D cB cC 36 (i + 1) (i + 1)) : HD p l e s m below meth c b L D cB cC 538 i (i + 1) := by
  obtain ⟨S, -⟩ := C
  intro x h v q a b2 X2 X3 n mm ap cap k mx uc tc ce sl ml np sg rt f ft fc tx t1 dl H locs ls hP hD hS hza hzb hok hl
  refine lv_iinc (v := nI (i + 1)) (lv' := [(9, .int (nI (i + 1))), (0, .ref b), (1, .ref x), (2, .ref X2), (3, .ref X3), (4, .int (nI n)), (5, .int (nI mm)), (6, .int (nI ap)), (7, .int sg), (8, .int (bI rt))]) S.1 S.2.1 d_LAW_law_538 hl (k := 9) rfl (nI_1 i) (by decide) rfl (fun ls hl => ?_)
  refine lv_goto (tgt := 36) S.1 S.2.1 d_LAW_law_541 (by decide) ?_
  exact K x h v q a b2 X2 X3 n mm ap cap k mx uc tc ce sl ml np sg rt f ft fc tx t1 dl H locs ls hP hD hS hza hzb hok (lv_sub hl [1, 2, 3, 4, 5, 6, 7, 8, 9, 0] rfl)
end
section
/-- a text made by a call, beside the cells that were there before -/
theorem zs.add {a n sz : Nat} {t : Nat → Nat} {s : State} {D : va_G} {H H1 : Heap} {w6 wt : va_W} (h : zs a n t (fun z => z < sz ∨ va_A w6 H1.size z) s H1) (hP : va_P D classes wt H) (hsz : H.size = sz) : zs a n t (va_A (w6 ++ wt) H1.size) s H1 := by
  refine h.nar (fun q h1 h2 => ?_)
  rcases h2 with ⟨k, e, h2⟩ | h2
  · rcases List.mem_append.mp (List.mem_of_getElem? h2) with h3 | h3
    · obtain ⟨i, hi⟩ := List.getElem?_of_mem h3
      exact Or.inr (Or.inl ⟨i, e, hi⟩)
    · obtain ⟨i, hi⟩ := List.getElem?_of_mem h3
      exact Or.inl (by rw [← hsz]; exact (hP i _ hi).lt)
  · omega
set_option maxHeartbeats 8000000 in
set_option maxRecDepth 100000 in
/-- case 1: the text is cleared, or nothing is done -/
theorem lw_clear {p : Program} {l : Launch} {e : Env} {s : State} {m : MethodId} {below : List Frame} {meth : Method} {c : Code} {b L : Nat} {xs : Nat → Int32} {D : va_G} {cB cC : ClassId} {c0 c1 c2 c3 : Nat} (C : LC p s m meth c b L xs D cB cC c0 c1 c2 c3) {i : Nat} (hi : i < L) (K : HD p l e s m below meth c b L D cB cC 538 i (i + 1)) {w : Int32} : ∀ (x h v q a b2 X2 X3 n mm ap cap k mx uc tc ce sl : Nat) (ml np sg : Int32) (rt : Bool) (f ft fc : Nat → Int32) (tx t1 dl : Nat → Nat) (H : Heap) (locs : List Loc) (ls : Array Slot), va_P D classes [(x, .inr (0, [.ref h, .ref q])), (h, .inr (1, [.ref v, .int 0, .int ml, .int (nI n)])), (v, .inl (cB, cap, .inl f)), (q, .inr (2, [.int (nI ap), .int np, .int (nI mm), .ref a, .ref b2, .int (bI rt), .int 0, .int (nI mx), .int 0, .null])), (X2, .inl (cC, L, .inl ft)), (X3, .inl (cC, L, .inl fc))] H → va_D (AL s) [(x, .inr (0, [.ref h, .ref q])), (h, .inr (1, [.ref v, .int 0, .int ml, .int (nI n)])), (v, .inl (cB, cap, .inl f)), (q, .inr (2, [.int (nI ap), .int np, .int (nI mm), .ref a, .ref b2, .int (bI rt), .int 0, .int (nI mx), .int 0, .null])), (X2, .inl (cC, L, .inl ft)), (X3, .inl (cC, L, .inl fc))] → va_S (AL s) s.heap H locs → zs a mm t1 (va_A [(x, .inr (0, [.ref h, .ref q])), (h, .inr (1, [.ref v, .int 0, .int ml, .int (nI n)])), (v, .inl (cB, cap, .inl f)), (q, .inr (2, [.int (nI ap), .int np, .int (nI mm), .ref a, .ref b2, .int (bI rt), .int 0, .int (nI mx), .int 0, .null])), (X2, .inl (cC, L, .inl ft)), (X3, .inl (cC, L, .inl fc))] H.size) s H → zs b2 k dl (va_A [(x, .inr (0, [.ref h, .ref q])), (h, .inr (1, [.ref v, .int 0, .int ml, .int (nI n)])), (v, .inl (cB, cap, .inl f)), (q, .inr (2, [.int (nI ap), .int np, .int (nI mm), .ref a, .ref b2, .int (bI rt), .int 0, .int (nI mx), .int 0, .null])), (X2, .inl (cC, L, .inl ft)), (X3, .inl (cC, L, .inl fc))] H.size) s H → lok L n mm ap cap k mx i uc tc ce sl sg f ft fc tx t1 dl → lv_has ls 16 [(0, .ref b), (1, .ref x), (2, .ref X2), (3, .ref X3), (4, .int (nI n)), (5, .int (nI mm)), (6, .int (nI ap)), (7, .int sg), (8, .int (bI rt)), (9, .int (nI i)), (10, .int w)] → W p l e room_1 s m #[Value.ref b] below meth c H locs ce sl (lw_Z below #[Value.ref b] s) (F0 m 165 ls []) := by
  intro x h v q a b2 X2 X3 n mm ap cap k mx uc tc ce sl ml np sg rt f ft fc tx t1 dl H locs ls hP hD hS hza hzb hok hl
  obtain ⟨S, hrr, hlk, hX, hbl, hL, hE, ⟨hR1, hR0, hR2, hR3⟩, hz0, hz1, hz2, hz3⟩ := C
  obtain ⟨htx, hft, hmL, hfc, hap, hmx, hdm, hPd, hut, hnt, hmt, hcp, hce, hsl⟩ := hok
  have hK := hE.1
  have hA : ∀ q : Nat, s.heap.size ≤ q → AL s q := fun _ h => h
  have hul := ut_le (u := uc) (t := tc) (by omega)
  have htx1 := htx.1
  have e1 : (uc + 1) * tc = uc * tc + tc := by rw [Nat.add_mul, Nat.one_mul]
  have e2 : uc * (tc + 1) = uc * tc + uc := by rw [Nat.mul_add, Nat.mul_one]
  refine lv_iload S.1 S.2.1 d_LAW_law_165 (lv_at hl 10 rfl) ?_
  refine lv_sipush (v := 240) S.1 S.2.1 d_LAW_law_167 (by decide) ?_
  refine lv_iand S.1 S.2.1 d_LAW_law_170 ?_
  refine lv_if_ne (tgt := 538) S.1 S.2.1 d_LAW_law_171 (by decide) (fun cc => ?_) (fun cc => ?_)
  ·
    exact K _ _ _ _ _ _ _ _ _ _ _ _ _ _ (uc + 1) tc _ _ _ _ _ _ _ _ _ _ _ _ _ _ ls hP hD hS hza hzb (⟨htx, hft, hmL, hfc, hap, hmx, hdm, hPd, by omega, hnt, hmt, hcp, by omega, by omega⟩) (lv_sub hl [0, 1, 2, 3, 4, 5, 6, 7, 8, 9] rfl)
  ·
    refine lv_aload_n S.1 S.2.1 d_LAW_law_174 rfl (lv_at hl 1 rfl) ?_
    have hPc := hP.sub (ws' := [(x, .inr (0, [.ref h, .ref q])), (h, .inr (1, [.ref v, .int 0, .int ml, .int (nI n)])), (v, .inl (cB, cap, .inl f))]) [0, 1, 2] rfl
    have hDc := hD.sub (ws' := [(x, .inr (0, [.ref h, .ref q])), (h, .inr (1, [.ref v, .int 0, .int ml, .int (nI n)])), (v, .inl (cB, cap, .inl f))]) [0, 1, 2] (by decide) rfl
    have hFc := va_free (wc := [(x, .inr (0, [.ref h, .ref q])), (h, .inr (1, [.ref v, .int 0, .int ml, .int (nI n)])), (v, .inl (cB, cap, .inl f))]) hD hS hA [0, 1, 2] rfl
    refine va_callv (rn_V S sc_LAW_39 (As := []) (rest := []) (c_TD_clear l htx.2.1 htx1) (va_recv hK hP (ci := 0) (q0 := 0) rfl rfl) (fun U hU hW => ⟨by rw [hU], hE.to hS.2.1 hU hW hFc, by rw [hU]; exact hPc, hDc.weaken (fun _ _ _ _ => trivial)⟩) (Nat.le_of_ble_eq_true rfl) (Nat.le_of_ble_eq_true rfl) (by dsimp only [room_1]; omega) (by dsimp only [room_1]; omega) rfl hl.1 rfl (Nat.le_of_ble_eq_true rfl) d_LAW_law_175) hS (fun q _ h => hFc q h) hFc (fun _ t_ H_101 locs ht_102 hv_105 _ hB hz_104 hk_103 hS => ?_)
    obtain ⟨ml2, hP1, hD1⟩ := hB
    rw [ht_102] at hP1
    obtain ⟨hP, hD⟩ := va_join (wr := [(q, .inr (2, [.int (nI ap), .int np, .int (nI mm), .ref a, .ref b2, .int (bI rt), .int 0, .int (nI mx), .int 0, .null])), (X2, .inl (cC, L, .inl ft)), (X3, .inl (cC, L, .inl fc))]) (w1 := [(x, .inr (0, [.ref h, .ref q])), (h, .inr (1, [.ref v, .int 0, .int ml2, .int (nI 0)])), (v, .inl (cB, cap, .inl f))]) hP hD [0, 1, 2] [3, 4, 5] rfl rfl (by decide) (by decide) hk_103 hFc hP1 hD1
    have hP : va_P D classes [(q, .inr (2, [.int (nI ap), .int np, .int (nI mm), .ref a, .ref b2, .int (bI rt), .int 0, .int (nI mx), .int 0, .null])), (X2, .inl (cC, L, .inl ft)), (X3, .inl (cC, L, .inl fc)), (x, .inr (0, [.ref h, .ref q])), (h, .inr (1, [.ref v, .int 0, .int ml2, .int (nI 0)])), (v, .inl (cB, cap, .inl f))] H_101 := hP
    have hD : va_D (AL s) [(q, .inr (2, [.int (nI ap), .int np, .int (nI mm), .ref a, .ref b2, .int (bI rt), .int 0, .int (nI mx), .int 0, .null])), (X2, .inl (cC, L, .inl ft)), (X3, .inl (cC, L, .inl fc)), (x, .inr (0, [.ref h, .ref q])), (h, .inr (1, [.ref v, .int 0, .int ml2, .int (nI 0)])), (v, .inl (cB, cap, .inl f))] := hD
    have hza := hza.join (wr := [(q, .inr (2, [.int (nI ap), .int np, .int (nI mm), .ref a, .ref b2, .int (bI rt), .int 0, .int (nI mx), .int 0, .null])), (X2, .inl (cC, L, .inl ft)), (X3, .inl (cC, L, .inl fc))]) (w1 := [(x, .inr (0, [.ref h, .ref q])), (h, .inr (1, [.ref v, .int 0, .int ml2, .int (nI 0)])), (v, .inl (cB, cap, .inl f))]) [0, 1, 2] [3, 4, 5] rfl rfl hk_103 hz_104 hD1
    have hzb := hzb.join (wr := [(q, .inr (2, [.int (nI ap), .int np, .int (nI mm), .ref a, .ref b2, .int (bI rt), .int 0, .int (nI mx), .int 0, .null])), (X2, .inl (cC, L, .inl ft)), (X3, .inl (cC, L, .inl fc))]) (w1 := [(x, .inr (0, [.ref h, .ref q])), (h, .inr (1, [.ref v, .int 0, .int ml2, .int (nI 0)])), (v, .inl (cB, cap, .inl f))]) [0, 1, 2] [3, 4, 5] rfl rfl hk_103 hz_104 hD1
    have hP := hP.sub (ws' := [(x, .inr (0, [.ref h, .ref q])), (h, .inr (1, [.ref v, .int 0, .int ml2, .int (nI 0)])), (v, .inl (cB, cap, .inl f)), (q, .inr (2, [.int (nI ap), .int np, .int (nI mm), .ref a, .ref b2, .int (bI rt), .int 0, .int (nI mx), .int 0, .null])), (X2, .inl (cC, L, .inl ft)), (X3, .inl (cC, L, .inl fc))]) [3, 4, 5, 0, 1, 2] rfl
    have hD := hD.sub (ws' := [(x, .inr (0, [.ref h, .ref q])), (h, .inr (1, [.ref v, .int 0, .int ml2, .int (nI 0)])), (v, .inl (cB, cap, .inl f)), (q, .inr (2, [.int (nI ap), .int np, .int (nI mm), .ref a, .ref b2, .int (bI rt), .int 0, .int (nI mx), .int 0, .null])), (X2, .inl (cC, L, .inl ft)), (X3, .inl (cC, L, .inl fc))]) [3, 4, 5, 0, 1, 2] (by decide) rfl
    have hza := hza.nar (A' := va_A [(x, .inr (0, [.ref h, .ref q])), (h, .inr (1, [.ref v, .int 0, .int ml2, .int (nI 0)])), (v, .inl (cB, cap, .inl f)), (q, .inr (2, [.int (nI ap), .int np, .int (nI mm), .ref a, .ref b2, .int (bI rt), .int 0, .int (nI mx), .int 0, .null])), (X2, .inl (cC, L, .inl ft)), (X3, .inl (cC, L, .inl fc))] H_101.size) (fun y _ hy => va_sub [3, 4, 5, 0, 1, 2] rfl y hy)
    have hzb := hzb.nar (A' := va_A [(x, .inr (0, [.ref h, .ref q])), (h, .inr (1, [.ref v, .int 0, .int ml2, .int (nI 0)])), (v, .inl (cB, cap, .inl f)), (q, .inr (2, [.int (nI ap), .int np, .int (nI mm), .ref a, .ref b2, .int (bI rt), .int 0, .int (nI mx), .int 0, .null])), (X2, .inl (cC, L, .inl ft)), (X3, .inl (cC, L, .inl fc))] H_101.size) (fun y _ hy => va_sub [3, 4, 5, 0, 1, 2] rfl y hy)
    refine lv_iconst (v := 0) S.1 S.2.1 d_LAW_law_178 (by decide) ?_
    refine q_top (x' := nI 0) (rfl) ?_
    refine lv_istore (lv' := [(4, .int (nI 0)), (0, .ref b), (1, .ref x), (2, .ref X2), (3, .ref X3), (5, .int (nI mm)), (6, .int (nI ap)), (7, .int sg), (8, .int (bI rt)), (9, .int (nI i)), (10, .int w)]) S.1 S.2.1 d_LAW_law_179 hl (by decide) rfl (fun ls hl => ?_)
    refine lv_goto (tgt := 538) S.1 S.2.1 d_LAW_law_181 (by decide) ?_
    exact K _ _ _ _ _ _ _ _ 0 _ _ _ _ _ (uc + 1) tc _ _ _ _ _ _ _ ft _ tx _ _ _ _ ls hP hD hS hza hzb (⟨⟨Nat.zero_le _, htx.2.1, htx.2.2.1, fun j hj => absurd hj (by omega)⟩, fun j hj => absurd hj (by omega), hmL, hfc, hap, hmx, hdm, hPd, by omega, by omega, hmt, hcp, by omega, by omega⟩) (lv_sub hl [1, 2, 3, 4, 0, 5, 6, 7, 8, 9] rfl)
set_option maxHeartbeats 8000000 in
set_option maxRecDepth 100000 in
/-- default: a sign is typed -/
theorem lw_type {p : Program} {l : Launch} {e : Env} {s : State} {m : MethodId} {below : List Frame} {meth : Method} {c : Code} {b L : Nat} {xs : Nat → Int32} {D : va_G} {cB cC : ClassId} {c0 c1 c2 c3 : Nat} (C : LC p s m meth c b L xs D cB cC c0 c1 c2 c3) {i : Nat} (hi : i < L) (K : HD p l e s m below meth c b L D cB cC 538 i (i + 1)) {w : Int32} : ∀ (x h v q a b2 X2 X3 n mm ap cap k mx uc tc ce sl : Nat) (ml np sg : Int32) (rt : Bool) (f ft fc : Nat → Int32) (tx t1 dl : Nat → Nat) (H : Heap) (locs : List Loc) (ls : Array Slot), va_P D classes [(x, .inr (0, [.ref h, .ref q])), (h, .inr (1, [.ref v, .int 0, .int ml, .int (nI n)])), (v, .inl (cB, cap, .inl f)), (q, .inr (2, [.int (nI ap), .int np, .int (nI mm), .ref a, .ref b2, .int (bI rt), .int 0, .int (nI mx), .int 0, .null])), (X2, .inl (cC, L, .inl ft)), (X3, .inl (cC, L, .inl fc))] H → va_D (AL s) [(x, .inr (0, [.ref h, .ref q])), (h, .inr (1, [.ref v, .int 0, .int ml, .int (nI n)])), (v, .inl (cB, cap, .inl f)), (q, .inr (2, [.int (nI ap), .int np, .int (nI mm), .ref a, .ref b2, .int (bI rt), .int 0, .int (nI mx), .int 0, .null])), (X2, .inl (cC, L, .inl ft)), (X3, .inl (cC, L, .inl fc))] → va_S (AL s) s.heap H locs → zs a mm t1 (va_A [(x, .inr (0, [.ref h, .ref q])), (h, .inr (1, [.ref v, .int 0, .int ml, .int (nI n)])), (v, .inl (cB, cap, .inl f)), (q, .inr (2, [.int (nI ap), .int np, .int (nI mm), .ref a, .ref b2, .int (bI rt), .int 0, .int (nI mx), .int 0, .null])), (X2, .inl (cC, L, .inl ft)), (X3, .inl (cC, L, .inl fc))] H.size) s H → zs b2 k dl (va_A [(x, .inr (0, [.ref h, .ref q])), (h, .inr (1, [.ref v, .int 0, .int ml, .int (nI n)])), (v, .inl (cB, cap, .inl f)), (q, .inr (2, [.int (nI ap), .int np, .int (nI mm), .ref a, .ref b2, .int (bI rt), .int 0, .int (nI mx), .int 0, .null])), (X2, .inl (cC, L, .inl ft)), (X3, .inl (cC, L, .inl fc))] H.size) s H → lok L n mm ap cap k mx i uc tc ce sl sg f ft fc tx t1 dl → lv_has ls 16 [(0, .ref b), (1, .ref x), (2, .ref X2), (3, .ref X3), (4, .int (nI n)), (5, .int (nI mm)), (6, .int (nI ap)), (7, .int sg), (8, .int (bI rt)), (9, .int (nI i)), (10, .int w)] → W p l e room_1 s m #[Value.ref b] below meth c H locs ce sl (lw_Z below #[Value.ref b] s) (F0 m 465 ls []) := by
  intro x h v q a b2 X2 X3 n mm ap cap k mx uc tc ce sl ml np sg rt f ft fc tx t1 dl H locs ls hP hD hS hza hzb hok hl
  obtain ⟨S, hrr, hlk, hX, hbl, hL, hE, ⟨hR1, hR0, hR2, hR3⟩, hz0, hz1, hz2, hz3⟩ := C
  obtain ⟨htx, hft, hmL, hfc, hap, hmx, hdm, hPd, hut, hnt, hmt, hcp, hce, hsl⟩ := hok
  have hK := hE.1
  have hA : ∀ q : Nat, s.heap.size ≤ q → AL s q := fun _ h => h
  have hul := ut_le (u := uc) (t := tc) (by omega)
  have htx1 := htx.1
  have e1 : (uc + 1) * tc = uc * tc + tc := by rw [Nat.add_mul, Nat.one_mul]
  have e2 : uc * (tc + 1) = uc * tc + uc := by rw [Nat.mul_add, Nat.mul_one]
  have p518 : ∀ (y : Nat) (ls : Array Slot), y < 128 → lv_has ls 16 [(0, .ref b), (1, .ref x), (2, .ref X2), (3, .ref X3), (4, .int (nI n)), (5, .int (nI mm)), (6, .int (nI ap)), (7, .int sg), (8, .int (bI rt)), (9, .int (nI i)), (10, .int w)] → W p l e room_1 s m #[Value.ref b] below meth c H locs ce sl (lw_Z below #[Value.ref b] s) (F0 m 518 ls [.int (nI y)]) := by
    intro y ls hy hl
    refine lv_istore (lv' := [(12, .int (nI y)), (0, .ref b), (1, .ref x), (2, .ref X2), (3, .ref X3), (4, .int (nI n)), (5, .int (nI mm)), (6, .int (nI ap)), (7, .int sg), (8, .int (bI rt)), (9, .int (nI i)), (10, .int w)]) S.1 S.2.1 d_LAW_law_518 hl (by decide) rfl (fun ls hl => ?_)
    refine lv_aload_n S.1 S.2.1 d_LAW_law_520 rfl (lv_at hl 2 rfl) ?_
    refine lv_iload S.1 S.2.1 d_LAW_law_521 (lv_at hl 0 rfl) ?_
    have hMS : (if n < cap then 0 else 2 * cap + 2) ≤ 2 * cap + 2 := by split <;> omega
    have hCM : cap ≤ (if n < cap then cap else 2 * cap + 2) ∧ (if n < cap then 0 else 2 * cap + 2) + 2 * cap ≤ 2 * (if n < cap then cap else 2 * cap + 2) ∧ (if n < cap then cap else 2 * cap + 2) ≤ 2 * (tc + 1) + 16 := by split <;> omega
    have hPc := hP.sub (ws' := [(x, .inr (0, [.ref h, .ref q])), (h, .inr (1, [.ref v, .int 0, .int ml, .int (nI n)])), (v, .inl (cB, cap, .inl f))]) [0, 1, 2] rfl
    have hDc := hD.sub (ws' := [(x, .inr (0, [.ref h, .ref q])), (h, .inr (1, [.ref v, .int 0, .int ml, .int (nI n)])), (v, .inl (cB, cap, .inl f))]) [0, 1, 2] (by decide) rfl
    have hFc := va_free (wc := [(x, .inr (0, [.ref h, .ref q])), (h, .inr (1, [.ref v, .int 0, .int ml, .int (nI n)])), (v, .inl (cB, cap, .inl f))]) hD hS hA [0, 1, 2] rfl
    refine va_callv (rn_V S sc_LAW_66 (As := [.int (nI y)]) (rest := []) (c_TD_type l hy (by omega) htx) (va_recv hK hP (ci := 0) (q0 := 0) rfl rfl) (fun U hU hW => ⟨by rw [hU], hE.to hS.2.1 hU hW hFc, by rw [hU]; exact hPc, hDc.weaken (fun _ _ _ _ => trivial)⟩) (Nat.le_of_ble_eq_true rfl) (Nat.le_of_ble_eq_true rfl) (by dsimp only [room_1]; omega) (by dsimp only [room_1]; omega) rfl hl.1 rfl (Nat.le_of_ble_eq_true rfl) d_LAW_law_523) hS (fun q _ h => hFc q h) hFc (fun _ t_ H_106 locs ht_107 hv_110 _ hB hz_109 hk_108 hS => ?_)
    obtain ⟨w2, g, hP1, hD1, htx2⟩ := hB
    rw [ht_107] at hP1
    obtain ⟨hP, hD⟩ := va_join (wr := [(q, .inr (2, [.int (nI ap), .int np, .int (nI mm), .ref a, .ref b2, .int (bI rt), .int 0, .int (nI mx), .int 0, .null])), (X2, .inl (cC, L, .inl ft)), (X3, .inl (cC, L, .inl fc))]) (w1 := [(x, .inr (0, [.ref h, .ref q])), (h, .inr (1, [.ref w2, .int 0, .int ml, .int (nI (n + 1))])), (w2, .inl (cB, (if n < cap then cap else 2 * cap + 2), .inl g))]) hP hD [0, 1, 2] [3, 4, 5] rfl rfl (by decide) (by decide) hk_108 hFc hP1 hD1
    have hP : va_P D classes [(q, .inr (2, [.int (nI ap), .int np, .int (nI mm), .ref a, .ref b2, .int (bI rt), .int 0, .int (nI mx), .int 0, .null])), (X2, .inl (cC, L, .inl ft)), (X3, .inl (cC, L, .inl fc)), (x, .inr (0, [.ref h, .ref q])), (h, .inr (1, [.ref w2, .int 0, .int ml, .int (nI (n + 1))])), (w2, .inl (cB, (if n < cap then cap else 2 * cap + 2), .inl g))] H_106 := hP
    have hD : va_D (AL s) [(q, .inr (2, [.int (nI ap), .int np, .int (nI mm), .ref a, .ref b2, .int (bI rt), .int 0, .int (nI mx), .int 0, .null])), (X2, .inl (cC, L, .inl ft)), (X3, .inl (cC, L, .inl fc)), (x, .inr (0, [.ref h, .ref q])), (h, .inr (1, [.ref w2, .int 0, .int ml, .int (nI (n + 1))])), (w2, .inl (cB, (if n < cap then cap else 2 * cap + 2), .inl g))] := hD
    have hza := hza.join (wr := [(q, .inr (2, [.int (nI ap), .int np, .int (nI mm), .ref a, .ref b2, .int (bI rt), .int 0, .int (nI mx), .int 0, .null])), (X2, .inl (cC, L, .inl ft)), (X3, .inl (cC, L, .inl fc))]) (w1 := [(x, .inr (0, [.ref h, .ref q])), (h, .inr (1, [.ref w2, .int 0, .int ml, .int (nI (n + 1))])), (w2, .inl (cB, (if n < cap then cap else 2 * cap + 2), .inl g))]) [0, 1, 2] [3, 4, 5] rfl rfl hk_108 hz_109 hD1
    have hzb := hzb.join (wr := [(q, .inr (2, [.int (nI ap), .int np, .int (nI mm), .ref a, .ref b2, .int (bI rt), .int 0, .int (nI mx), .int 0, .null])), (X2, .inl (cC, L, .inl ft)), (X3, .inl (cC, L, .inl fc))]) (w1 := [(x, .inr (0, [.ref h, .ref q])), (h, .inr (1, [.ref w2, .int 0, .int ml, .int (nI (n + 1))])), (w2, .inl (cB, (if n < cap then cap else 2 * cap + 2), .inl g))]) [0, 1, 2] [3, 4, 5] rfl rfl hk_108 hz_109 hD1
    have hP := hP.sub (ws' := [(x, .inr (0, [.ref h, .ref q])), (h, .inr (1, [.ref w2, .int 0, .int ml, .int (nI (n + 1))])), (w2, .inl (cB, (if n < cap then cap else 2 * cap + 2), .inl g)), (q, .inr (2, [.int (nI ap), .int np, .int (nI mm), .ref a, .ref b2, .int (bI rt), .int 0, .int (nI mx), .int 0, .null])), (X2, .inl (cC, L, .inl ft)), (X3, .inl (cC, L, .inl fc))]) [3, 4, 5, 0, 1, 2] rfl
    have hD := hD.sub (ws' := [(x, .inr (0, [.ref h, .ref q])), (h, .inr (1, [.ref w2, .int 0, .int ml, .int (nI (n + 1))])), (w2, .inl (cB, (if n < cap then cap else 2 * cap + 2), .inl g)), (q, .inr (2, [.int (nI ap), .int np, .int (nI mm), .ref a, .ref b2, .int (bI rt), .int 0, .int (nI mx), .int 0, .null])), (X2, .inl (cC, L, .inl ft)), (X3, .inl (cC, L, .inl fc))]) [3, 4, 5, 0, 1, 2] (by decide) rfl
    have hza := hza.nar (A' := va_A [(x, .inr (0, [.ref h, .ref q])), (h, .inr (1, [.ref w2, .int 0, .int ml, .int (nI (n + 1))])), (w2, .inl (cB, (if n < cap then cap else 2 * cap + 2), .inl g)), (q, .inr (2, [.int (nI ap), .int np, .int (nI mm), .ref a, .ref b2, .int (bI rt), .int 0, .int (nI mx), .int 0, .null])), (X2, .inl (cC, L, .inl ft)), (X3, .inl (cC, L, .inl fc))] H_106.size) (fun y _ hy => va_sub [3, 4, 5, 0, 1, 2] rfl y hy)
    have hzb := hzb.nar (A' := va_A [(x, .inr (0, [.ref h, .ref q])), (h, .inr (1, [.ref w2, .int 0, .int ml, .int (nI (n + 1))])), (w2, .inl (cB, (if n < cap then cap else 2 * cap + 2), .inl g)), (q, .inr (2, [.int (nI ap), .int np, .int (nI mm), .ref a, .ref b2, .int (bI rt), .int 0, .int (nI mx), .int 0, .null])), (X2, .inl (cC, L, .inl ft)), (X3, .inl (cC, L, .inl fc))] H_106.size) (fun y _ hy => va_sub [3, 4, 5, 0, 1, 2] rfl y hy)
    refine lv_aload_n S.1 S.2.1 d_LAW_law_526 rfl (lv_at hl 3 rfl) ?_
    refine lv_iload S.1 S.2.1 d_LAW_law_527 (lv_at hl 5 rfl) ?_
    refine lv_iinc (v := nI (n + 1)) (lv' := [(4, .int (nI (n + 1))), (12, .int (nI y)), (0, .ref b), (1, .ref x), (2, .ref X2), (3, .ref X3), (5, .int (nI mm)), (6, .int (nI ap)), (7, .int sg), (8, .int (bI rt)), (9, .int (nI i)), (10, .int w)]) S.1 S.2.1 d_LAW_law_529 hl (k := 5) rfl (nI_1 n) (by decide) rfl (fun ls hl => ?_)
    refine lv_iload S.1 S.2.1 d_LAW_law_532 (lv_at hl 1 rfl) ?_
    refine q_castL S hK hP hD hS 4 rfl (i := n) (v := y) (by omega) (by omega) hy d_LAW_law_534 (fun H2 locs hP hD hS hz2s hk2s => ?_)
    have hP : va_P D classes [(x, .inr (0, [.ref h, .ref q])), (h, .inr (1, [.ref w2, .int 0, .int ml, .int (nI (n + 1))])), (w2, .inl (cB, (if n < cap then cap else 2 * cap + 2), .inl g)), (q, .inr (2, [.int (nI ap), .int np, .int (nI mm), .ref a, .ref b2, .int (bI rt), .int 0, .int (nI mx), .int 0, .null])), (X2, .inl (cC, L, .inl (upd ft n (nI y)))), (X3, .inl (cC, L, .inl fc))] H2 := hP
    have hD : va_D (AL s) [(x, .inr (0, [.ref h, .ref q])), (h, .inr (1, [.ref w2, .int 0, .int ml, .int (nI (n + 1))])), (w2, .inl (cB, (if n < cap then cap else 2 * cap + 2), .inl g)), (q, .inr (2, [.int (nI ap), .int np, .int (nI mm), .ref a, .ref b2, .int (bI rt), .int 0, .int (nI mx), .int 0, .null])), (X2, .inl (cC, L, .inl (upd ft n (nI y)))), (X3, .inl (cC, L, .inl fc))] := hD
    have hza := hza.goS (ws' := [(x, .inr (0, [.ref h, .ref q])), (h, .inr (1, [.ref w2, .int 0, .int ml, .int (nI (n + 1))])), (w2, .inl (cB, (if n < cap then cap else 2 * cap + 2), .inl g)), (q, .inr (2, [.int (nI ap), .int np, .int (nI mm), .ref a, .ref b2, .int (bI rt), .int 0, .int (nI mx), .int 0, .null])), (X2, .inl (cC, L, .inl (upd ft n (nI y)))), (X3, .inl (cC, L, .inl fc))]) hk2s hz2s rfl
    have hzb := hzb.goS (ws' := [(x, .inr (0, [.ref h, .ref q])), (h, .inr (1, [.ref w2, .int 0, .int ml, .int (nI (n + 1))])), (w2, .inl (cB, (if n < cap then cap else 2 * cap + 2), .inl g)), (q, .inr (2, [.int (nI ap), .int np, .int (nI mm), .ref a, .ref b2, .int (bI rt), .int 0, .int (nI mx), .int 0, .null])), (X2, .inl (cC, L, .inl (upd ft n (nI y)))), (X3, .inl (cC, L, .inl fc))]) hk2s hz2s rfl
    refine lv_goto (tgt := 538) S.1 S.2.1 d_LAW_law_535 (by decide) ?_
    have hft2 : ∀ j, j < n + 1 → upd ft n (nI y) j = nI (va_up tx n y j) := by
      intro j hj
      by_cases hjn : j = n
      · subst hjn; rw [pk_us, va_up_self]
      · rw [pk_un hjn, va_up_ne _ _ hjn]; exact hft j (by omega)
    exact K _ _ _ _ _ _ _ _ (n + 1) _ _ (if n < cap then cap else 2 * cap + 2) _ _ uc (tc + 1) _ _ _ _ _ _ _ (upd ft n (nI y)) _ (va_up tx n y) _ _ _ _ ls hP hD hS hza hzb (⟨htx2, hft2, hmL, hfc, hap, hmx, hdm, hPd, by omega, by omega, by omega, hCM.2.2, by omega, by omega⟩) (lv_sub hl [2, 3, 4, 5, 0, 6, 7, 8, 9, 10] rfl)
  refine lv_iload S.1 S.2.1 d_LAW_law_465 (lv_at hl 10 rfl) ?_
  refine lv_iconst (v := 4) S.1 S.2.1 d_LAW_law_467 (by decide) ?_
  refine lv_ishr S.1 S.2.1 d_LAW_law_468 ?_
  refine lv_bipush (v := 7) S.1 S.2.1 d_LAW_law_469 (by decide) ?_
  refine lv_iand S.1 S.2.1 d_LAW_law_471 ?_
  refine lv_istore (lv' := [(11, .int ((w >>> (4 &&& 31)) &&& 7)), (0, .ref b), (1, .ref x), (2, .ref X2), (3, .ref X3), (4, .int (nI n)), (5, .int (nI mm)), (6, .int (nI ap)), (7, .int sg), (8, .int (bI rt)), (9, .int (nI i)), (10, .int w)]) S.1 S.2.1 d_LAW_law_472 hl (by decide) rfl (fun ls hl => ?_)
  refine lv_iload S.1 S.2.1 d_LAW_law_474 (lv_at hl 0 rfl) ?_
  refine lv_if_ne (tgt := 484) S.1 S.2.1 d_LAW_law_476 (by decide) (fun ca => ?_) (fun ca => ?_)
  ·
    refine lv_iload S.1 S.2.1 d_LAW_law_484 (lv_at hl 0 rfl) ?_
    refine lv_iconst (v := 1) S.1 S.2.1 d_LAW_law_486 (by decide) ?_
    refine lv_icmp_ne (tgt := 495) S.1 S.2.1 d_LAW_law_487 (by decide) (fun ca2 => ?_) (fun ca2 => ?_)
    ·
      refine lv_iload S.1 S.2.1 d_LAW_law_495 (lv_at hl 0 rfl) ?_
      refine lv_iconst (v := 2) S.1 S.2.1 d_LAW_law_497 (by decide) ?_
      refine lv_icmp_ne (tgt := 506) S.1 S.2.1 d_LAW_law_498 (by decide) (fun ca3 => ?_) (fun ca3 => ?_)
      ·
        refine lv_bipush (v := 97) S.1 S.2.1 d_LAW_law_506 (by decide) ?_
        refine lv_iload S.1 S.2.1 d_LAW_law_508 (lv_at hl 11 rfl) ?_
        refine lv_bipush (v := 8) S.1 S.2.1 d_LAW_law_510 (by decide) ?_
        refine lv_ishr S.1 S.2.1 d_LAW_law_512 ?_
        refine lv_bipush (v := 7) S.1 S.2.1 d_LAW_law_513 (by decide) ?_
        refine lv_iand S.1 S.2.1 d_LAW_law_515 ?_
        refine lv_iadd S.1 S.2.1 d_LAW_law_516 ?_
        obtain ⟨j8, hj8, ej8⟩ := pk_andE (w >>> ((8 : Int32) &&& 31)) (m := 7) 3 (by decide)
        refine q_top (x' := nI (97 + j8)) (by rw [ej8]; exact nI_add 97 j8) ?_
        refine lv_i2c (v := nI (97 + j8)) S.1 S.2.1 d_LAW_law_517 (as_c _ (by omega)) ?_
        exact p518 (97 + j8) ls (by omega) (lv_sub hl [1, 2, 3, 4, 5, 6, 7, 8, 9, 10, 11] rfl)
      ·
        refine lv_bipush (v := 59) S.1 S.2.1 d_LAW_law_501 (by decide) ?_
        refine q_top (x' := nI 59) (by decide) ?_
        refine lv_goto (tgt := 518) S.1 S.2.1 d_LAW_law_503 (by decide) ?_
        exact p518 59 ls (by omega) (lv_sub hl [1, 2, 3, 4, 5, 6, 7, 8, 9, 10, 11] rfl)
    ·
      refine lv_bipush (v := 32) S.1 S.2.1 d_LAW_law_490 (by decide) ?_
      refine q_top (x' := nI 32) (by decide) ?_
      refine lv_goto (tgt := 518) S.1 S.2.1 d_LAW_law_492 (by decide) ?_
      exact p518 32 ls (by omega) (lv_sub hl [1, 2, 3, 4, 5, 6, 7, 8, 9, 10, 11] rfl)
  ·
    refine lv_bipush (v := 44) S.1 S.2.1 d_LAW_law_479 (by decide) ?_
    refine q_top (x' := nI 44) (by decide) ?_
    refine lv_goto (tgt := 518) S.1 S.2.1 d_LAW_law_481 (by decide) ?_
    exact p518 44 ls (by omega) (lv_sub hl [1, 2, 3, 4, 5, 6, 7, 8, 9, 10, 11] rfl)
set_option maxHeartbeats 8000000 in
set_option maxRecDepth 100000 in
/-- case 0: the text is cut anew -/
theorem lw_begin {p : Program} {l : Launch} {e : Env} {s : State} {m : MethodId} {below : List Frame} {meth : Method} {c : Code} {b L : Nat} {xs : Nat → Int32} {D : va_G} {cB cC : ClassId} {c0 c1 c2 c3 : Nat} (C : LC p s m meth c b L xs D cB cC c0 c1 c2 c3) {i : Nat} (hi : i < L) (K : HD p l e s m below meth c b L D cB cC 538 i (i + 1)) {w : Int32} : ∀ (x h v q a b2 X2 X3 n mm ap cap k mx uc tc ce sl : Nat) (ml np sg : Int32) (rt : Bool) (f ft fc : Nat → Int32) (tx t1 dl : Nat → Nat) (H : Heap) (locs : List Loc) (ls : Array Slot), va_P D classes [(x, .inr (0, [.ref h, .ref q])), (h, .inr (1, [.ref v, .int 0, .int ml, .int (nI n)])), (v, .inl (cB, cap, .inl f)), (q, .inr (2, [.int (nI ap), .int np, .int (nI mm), .ref a, .ref b2, .int (bI rt), .int 0, .int (nI mx), .int 0, .null])), (X2, .inl (cC, L, .inl ft)), (X3, .inl (cC, L, .inl fc))] H → va_D (AL s) [(x, .inr (0, [.ref h, .ref q])), (h, .inr (1, [.ref v, .int 0, .int ml, .int (nI n)])), (v, .inl (cB, cap, .inl f)), (q, .inr (2, [.int (nI ap), .int np, .int (nI mm), .ref a, .ref b2, .int (bI rt), .int 0, .int (nI mx), .int 0, .null])), (X2, .inl (cC, L, .inl ft)), (X3, .inl (cC, L, .inl fc))] → va_S (AL s) s.heap H locs → zs a mm t1 (va_A [(x, .inr (0, [.ref h, .ref q])), (h, .inr (1, [.ref v, .int 0, .int ml, .int (nI n)])), (v, .inl (cB, cap, .inl f)), (q, .inr (2, [.int (nI ap), .int np, .int (nI mm), .ref a, .ref b2, .int (bI rt), .int 0, .int (nI mx), .int 0, .null])), (X2, .inl (cC, L, .inl ft)), (X3, .inl (cC, L, .inl fc))] H.size) s H → zs b2 k dl (va_A [(x, .inr (0, [.ref h, .ref q])), (h, .inr (1, [.ref v, .int 0, .int ml, .int (nI n)])), (v, .inl (cB, cap, .inl f)), (q, .inr (2, [.int (nI ap), .int np, .int (nI mm), .ref a, .ref b2, .int (bI rt), .int 0, .int (nI mx), .int 0, .null])), (X2, .inl (cC, L, .inl ft)), (X3, .inl (cC, L, .inl fc))] H.size) s H → lok L n mm ap cap k mx i uc tc ce sl sg f ft fc tx t1 dl → lv_has ls 16 [(0, .ref b), (1, .ref x), (2, .ref X2), (3, .ref X3), (4, .int (nI n)), (5, .int (nI mm)), (6, .int (nI ap)), (7, .int sg), (8, .int (bI rt)), (9, .int (nI i)), (10, .int w)] → W p l e room_1 s m #[Value.ref b] below meth c H locs ce sl (lw_Z below #[Value.ref b] s) (F0 m 88 ls []) := by
  intro x h v q a b2 X2 X3 n mm ap cap k mx uc tc ce sl ml np sg rt f ft fc tx t1 dl H locs ls hP hD hS hza hzb hok hl
  obtain ⟨S, hrr, hlk, hX, hbl, hL, hE, ⟨hR1, hR0, hR2, hR3⟩, hz0, hz1, hz2, hz3⟩ := C
  obtain ⟨htx, hft, hmL, hfc, hap, hmx, hdm, hPd, hut, hnt, hmt, hcp, hce, hsl⟩ := hok
  have hK := hE.1
  have hA : ∀ q : Nat, s.heap.size ≤ q → AL s q := fun _ h => h
  have hul := ut_le (u := uc) (t := tc) (by omega)
  have htx1 := htx.1
  have e1 : (uc + 1) * tc = uc * tc + tc := by rw [Nat.add_mul, Nat.one_mul]
  have e2 : uc * (tc + 1) = uc * tc + uc := by rw [Nat.mul_add, Nat.mul_one]
  refine lv_aload_n S.1 S.2.1 d_LAW_law_88 rfl (lv_at hl 1 rfl) ?_
  refine lv_iload S.1 S.2.1 d_LAW_law_89 (lv_at hl 10 rfl) ?_
  refine lv_iconst (v := 4) S.1 S.2.1 d_LAW_law_91 (by decide) ?_
  refine lv_ishr S.1 S.2.1 d_LAW_law_92 ?_
  have hP0 := hP
  have hPc := hP.sub (ws' := []) [] rfl
  have hDc := hD.sub (ws' := []) [] (by decide) rfl
  have hFc := va_free (wc := []) hD hS hA [] rfl
  refine va_callr (rn_S S sc_LAW_29 (As := [.int (w >>> (4 &&& 31))]) (rest := [.ref x]) (c_LAW_signs l (c0 := c0) (c1 := c1) (c2 := c2) (c3 := c3) (sg := (w >>> (4 &&& 31)))) (fun U hU hW => ⟨by rw [hU], hE.to hS.2.1 hU hW hFc, by rw [hU]; exact hPc, hDc.weaken (fun _ _ _ _ => trivial), vk_R.warm hW hR1, vk_R.warm hW hR0, vk_R.warm hW hR2, vk_R.warm hW hR3, hz0.to hS.2.1 hU hW.alike hFc, hz1.to hS.2.1 hU hW.alike hFc, hz2.to hS.2.1 hU hW.alike hFc, hz3.to hS.2.1 hU hW.alike hFc⟩) (Nat.le_of_ble_eq_true rfl) (Nat.le_of_ble_eq_true rfl) (by dsimp only [room_1]; omega) (by dsimp only [room_1]; omega) rfl hl.1 rfl (Nat.le_of_ble_eq_true rfl) d_LAW_law_93) hS (fun q _ h => hFc q h) hFc (fun _ b3 t_ H_111 locs ht_112 hv_115 _ hB hz_114 hk_113 hS => ?_)
  obtain ⟨k2, dl2, hzn, hk3, hmb⟩ := hB
  have hP1 : va_P D classes [] H_111 := vn_P
  have hD1 : va_D (va_A [] H.size) [] := vn_D
  obtain ⟨hP, hD⟩ := va_join (wr := [(x, .inr (0, [.ref h, .ref q])), (h, .inr (1, [.ref v, .int 0, .int ml, .int (nI n)])), (v, .inl (cB, cap, .inl f)), (q, .inr (2, [.int (nI ap), .int np, .int (nI mm), .ref a, .ref b2, .int (bI rt), .int 0, .int (nI mx), .int 0, .null])), (X2, .inl (cC, L, .inl ft)), (X3, .inl (cC, L, .inl fc))]) (w1 := []) hP hD [] [0, 1, 2, 3, 4, 5] rfl rfl (by decide) (by decide) hk_113 hFc hP1 hD1
  have hP : va_P D classes [(x, .inr (0, [.ref h, .ref q])), (h, .inr (1, [.ref v, .int 0, .int ml, .int (nI n)])), (v, .inl (cB, cap, .inl f)), (q, .inr (2, [.int (nI ap), .int np, .int (nI mm), .ref a, .ref b2, .int (bI rt), .int 0, .int (nI mx), .int 0, .null])), (X2, .inl (cC, L, .inl ft)), (X3, .inl (cC, L, .inl fc))] H_111 := hP
  have hD : va_D (AL s) [(x, .inr (0, [.ref h, .ref q])), (h, .inr (1, [.ref v, .int 0, .int ml, .int (nI n)])), (v, .inl (cB, cap, .inl f)), (q, .inr (2, [.int (nI ap), .int np, .int (nI mm), .ref a, .ref b2, .int (bI rt), .int 0, .int (nI mx), .int 0, .null])), (X2, .inl (cC, L, .inl ft)), (X3, .inl (cC, L, .inl fc))] := hD
  rw [ht_112] at hzn
  have hzb := zs.new (zs.moved hzn hv_115.symm) hP0 rfl
  obtain ⟨rb, hrb⟩ : ∃ rb : Bool, rb = decide (¬ w &&& 128 = 0) := ⟨_, rfl⟩
  have p110 : W p l e room_1 s m #[Value.ref b] below meth c H_111 locs (ce + 4) (sl + 27) (lw_Z below #[Value.ref b] s) (F0 m 110 ls [.int (bI rb), .ref b3, .ref x]) := by
    have hP0 := hP.sub (ws' := [(X2, .inl (cC, L, .inl ft)), (X3, .inl (cC, L, .inl fc))]) [4, 5] rfl
    have hPc := hP.sub (ws' := [(x, .inr (0, [.ref h, .ref q])), (h, .inr (1, [.ref v, .int 0, .int ml, .int (nI n)])), (v, .inl (cB, cap, .inl f))]) [0, 1, 2] rfl
    have hDc := hD.sub (ws' := [(x, .inr (0, [.ref h, .ref q])), (h, .inr (1, [.ref v, .int 0, .int ml, .int (nI n)])), (v, .inl (cB, cap, .inl f))]) [0, 1, 2] (by decide) rfl
    have hFc := va_free (wc := [(x, .inr (0, [.ref h, .ref q])), (h, .inr (1, [.ref v, .int 0, .int ml, .int (nI n)])), (v, .inl (cB, cap, .inl f))]) hD hS hA [0, 1, 2] rfl
    refine va_callv (rn_V S sc_LAW_35 (As := [.ref b3, .int (bI rb)]) (rest := []) (c_TD_begin l htx (ret := rb) (dl := dl2) (k := k2)) (va_recv hK hP (ci := 0) (q0 := 0) rfl rfl) (fun U hU hW => ⟨by rw [hU], hE.to hS.2.1 hU hW hFc, by rw [hU]; exact hPc, hDc.weaken (fun _ _ _ _ => trivial), hzb.to (fun _ _ _ => rfl) hU hW.alike (va_sub [0, 1, 2] rfl)⟩) (Nat.le_of_ble_eq_true rfl) (Nat.le_of_ble_eq_true rfl) (by dsimp only [room_1]; omega) (by dsimp only [room_1]; omega) rfl hl.1 rfl (Nat.le_of_ble_eq_true rfl) d_LAW_law_110) hS (fun q _ h => hFc q h) hFc (fun _ t_ H_116 locs ht_117 hv_120 _ hB hz_119 hk_118 hS => ?_)
    obtain ⟨q2, a2, mx2, hP1, hD1, hzn3, hm1, hm2⟩ := hB
    rw [ht_117] at hP1
    obtain ⟨hP, hD⟩ := va_join (wr := [(q, .inr (2, [.int (nI ap), .int np, .int (nI mm), .ref a, .ref b2, .int (bI rt), .int 0, .int (nI mx), .int 0, .null])), (X2, .inl (cC, L, .inl ft)), (X3, .inl (cC, L, .inl fc))]) (w1 := [(x, .inr (0, [.ref h, .ref q2])), (h, .inr (1, [.ref v, .int 0, .int ml, .int (nI n)])), (v, .inl (cB, cap, .inl f)), (q2, .inr (2, [.int (nI 0), .int (-1), .int (nI n), .ref a2, .ref b3, .int (bI rb), .int 0, .int (nI mx2), .int 0, .null]))]) hP hD [0, 1, 2] [3, 4, 5] rfl rfl (by decide) (by decide) hk_118 hFc hP1 hD1
    have hP : va_P D classes [(q, .inr (2, [.int (nI ap), .int np, .int (nI mm), .ref a, .ref b2, .int (bI rt), .int 0, .int (nI mx), .int 0, .null])), (X2, .inl (cC, L, .inl ft)), (X3, .inl (cC, L, .inl fc)), (x, .inr (0, [.ref h, .ref q2])), (h, .inr (1, [.ref v, .int 0, .int ml, .int (nI n)])), (v, .inl (cB, cap, .inl f)), (q2, .inr (2, [.int (nI 0), .int (-1), .int (nI n), .ref a2, .ref b3, .int (bI rb), .int 0, .int (nI mx2), .int 0, .null]))] H_116 := hP
    have hD : va_D (AL s) [(q, .inr (2, [.int (nI ap), .int np, .int (nI mm), .ref a, .ref b2, .int (bI rt), .int 0, .int (nI mx), .int 0, .null])), (X2, .inl (cC, L, .inl ft)), (X3, .inl (cC, L, .inl fc)), (x, .inr (0, [.ref h, .ref q2])), (h, .inr (1, [.ref v, .int 0, .int ml, .int (nI n)])), (v, .inl (cB, cap, .inl f)), (q2, .inr (2, [.int (nI 0), .int (-1), .int (nI n), .ref a2, .ref b3, .int (bI rb), .int 0, .int (nI mx2), .int 0, .null]))] := hD
    have hzb := hzb.join (wr := [(q, .inr (2, [.int (nI ap), .int np, .int (nI mm), .ref a, .ref b2, .int (bI rt), .int 0, .int (nI mx), .int 0, .null])), (X2, .inl (cC, L, .inl ft)), (X3, .inl (cC, L, .inl fc))]) (w1 := [(x, .inr (0, [.ref h, .ref q2])), (h, .inr (1, [.ref v, .int 0, .int ml, .int (nI n)])), (v, .inl (cB, cap, .inl f)), (q2, .inr (2, [.int (nI 0), .int (-1), .int (nI n), .ref a2, .ref b3, .int (bI rb), .int 0, .int (nI mx2), .int 0, .null]))]) [0, 1, 2] [3, 4, 5] rfl rfl hk_118 hz_119 hD1
    rw [ht_117] at hzn3
    have hza := zs.add (zs.moved hzn3 hv_120.symm) hP0 rfl
    have hP := hP.sub (ws' := [(x, .inr (0, [.ref h, .ref q2])), (h, .inr (1, [.ref v, .int 0, .int ml, .int (nI n)])), (v, .inl (cB, cap, .inl f)), (q2, .inr (2, [.int (nI 0), .int (-1), .int (nI n), .ref a2, .ref b3, .int (bI rb), .int 0, .int (nI mx2), .int 0, .null])), (X2, .inl (cC, L, .inl ft)), (X3, .inl (cC, L, .inl fc))]) [3, 4, 5, 6, 1, 2] rfl
    have hD := hD.sub (ws' := [(x, .inr (0, [.ref h, .ref q2])), (h, .inr (1, [.ref v, .int 0, .int ml, .int (nI n)])), (v, .inl (cB, cap, .inl f)), (q2, .inr (2, [.int (nI 0), .int (-1), .int (nI n), .ref a2, .ref b3, .int (bI rb), .int 0, .int (nI mx2), .int 0, .null])), (X2, .inl (cC, L, .inl ft)), (X3, .inl (cC, L, .inl fc))]) [3, 4, 5, 6, 1, 2] (by decide) rfl
    have hzb := hzb.nar (A' := va_A [(x, .inr (0, [.ref h, .ref q2])), (h, .inr (1, [.ref v, .int 0, .int ml, .int (nI n)])), (v, .inl (cB, cap, .inl f)), (q2, .inr (2, [.int (nI 0), .int (-1), .int (nI n), .ref a2, .ref b3, .int (bI rb), .int 0, .int (nI mx2), .int 0, .null])), (X2, .inl (cC, L, .inl ft)), (X3, .inl (cC, L, .inl fc))] H_116.size) (fun y _ hy => va_sub [3, 4, 5, 6, 1, 2] rfl y hy)
    have hza : zs a2 n tx (va_A [(x, .inr (0, [.ref h, .ref q2])), (h, .inr (1, [.ref v, .int 0, .int ml, .int (nI n)])), (v, .inl (cB, cap, .inl f)), (q2, .inr (2, [.int (nI 0), .int (-1), .int (nI n), .ref a2, .ref b3, .int (bI rb), .int 0, .int (nI mx2), .int 0, .null])), (X2, .inl (cC, L, .inl ft)), (X3, .inl (cC, L, .inl fc))] H_116.size) s H_116 := hza
    refine lv_iconst (v := 0) S.1 S.2.1 d_LAW_law_113 (by decide) ?_
    refine q_top (x' := nI 0) (rfl) ?_
    refine lv_istore (lv' := [(5, .int (nI 0)), (0, .ref b), (1, .ref x), (2, .ref X2), (3, .ref X3), (4, .int (nI n)), (6, .int (nI ap)), (7, .int sg), (8, .int (bI rt)), (9, .int (nI i)), (10, .int w)]) S.1 S.2.1 d_LAW_law_114 hl (by decide) rfl (fun ls hl => ?_)
    have loop : ∀ (z j : Nat) (H : Heap) (locs : List Loc) (fc : Nat → Int32) (ls : Array Slot), j + z = n → va_P D classes [(x, .inr (0, [.ref h, .ref q2])), (h, .inr (1, [.ref v, .int 0, .int ml, .int (nI n)])), (v, .inl (cB, cap, .inl f)), (q2, .inr (2, [.int (nI 0), .int (-1), .int (nI n), .ref a2, .ref b3, .int (bI rb), .int 0, .int (nI mx2), .int 0, .null])), (X2, .inl (cC, L, .inl ft)), (X3, .inl (cC, L, .inl fc))] H → va_D (AL s) [(x, .inr (0, [.ref h, .ref q2])), (h, .inr (1, [.ref v, .int 0, .int ml, .int (nI n)])), (v, .inl (cB, cap, .inl f)), (q2, .inr (2, [.int (nI 0), .int (-1), .int (nI n), .ref a2, .ref b3, .int (bI rb), .int 0, .int (nI mx2), .int 0, .null])), (X2, .inl (cC, L, .inl ft)), (X3, .inl (cC, L, .inl fc))] → va_S (AL s) s.heap H locs → zs a2 n tx (va_A [(x, .inr (0, [.ref h, .ref q2])), (h, .inr (1, [.ref v, .int 0, .int ml, .int (nI n)])), (v, .inl (cB, cap, .inl f)), (q2, .inr (2, [.int (nI 0), .int (-1), .int (nI n), .ref a2, .ref b3, .int (bI rb), .int 0, .int (nI mx2), .int 0, .null])), (X2, .inl (cC, L, .inl ft)), (X3, .inl (cC, L, .inl fc))] H.size) s H → zs b3 k2 dl2 (va_A [(x, .inr (0, [.ref h, .ref q2])), (h, .inr (1, [.ref v, .int 0, .int ml, .int (nI n)])), (v, .inl (cB, cap, .inl f)), (q2, .inr (2, [.int (nI 0), .int (-1), .int (nI n), .ref a2, .ref b3, .int (bI rb), .int 0, .int (nI mx2), .int 0, .null])), (X2, .inl (cC, L, .inl ft)), (X3, .inl (cC, L, .inl fc))] H.size) s H → (∀ y, y < j → fc y = nI (tx y)) → lv_has ls 16 [(0, .ref b), (1, .ref x), (2, .ref X2), (3, .ref X3), (4, .int (nI n)), (5, .int (nI j)), (6, .int (nI ap)), (7, .int sg), (8, .int (bI rt)), (9, .int (nI i)), (10, .int w)] → W p l e room_1 s m #[Value.ref b] below meth c H locs (ce + 4 + 3) (sl + 27 + (14 + n)) (lw_Z below #[Value.ref b] s) (F0 m 116 ls []) := by
      intro z
      induction z with
      | zero =>
        intro j H locs fc ls hj hP hD hS hza hzb hfj hl
        refine lv_iload S.1 S.2.1 d_LAW_law_116 (lv_at hl 5 rfl) ?_
        refine lv_iload S.1 S.2.1 d_LAW_law_118 (lv_at hl 4 rfl) ?_
        refine lv_icmp_ge (tgt := 137) S.1 S.2.1 d_LAW_law_120 (by decide) (fun _ => ?_) (fun c => absurd (nI_le (by omega) (by omega)) c)
        have hjn : n = j := by omega
        subst hjn
        refine lv_iconst (v := 0) S.1 S.2.1 d_LAW_law_137 (by decide) ?_
        refine q_top (x' := nI 0) (rfl) ?_
        refine lv_istore (lv' := [(6, .int (nI 0)), (0, .ref b), (1, .ref x), (2, .ref X2), (3, .ref X3), (4, .int (nI n)), (5, .int (nI n)), (7, .int sg), (8, .int (bI rt)), (9, .int (nI i)), (10, .int w)]) S.1 S.2.1 d_LAW_law_138 hl (by decide) rfl (fun ls hl => ?_)
        refine lv_iload S.1 S.2.1 d_LAW_law_140 (lv_at hl 10 rfl) ?_
        refine lv_iconst (v := 4) S.1 S.2.1 d_LAW_law_142 (by decide) ?_
        refine lv_ishr S.1 S.2.1 d_LAW_law_143 ?_
        refine lv_istore (lv' := [(7, .int (w >>> (4 &&& 31))), (6, .int (nI 0)), (0, .ref b), (1, .ref x), (2, .ref X2), (3, .ref X3), (4, .int (nI n)), (5, .int (nI n)), (8, .int (bI rt)), (9, .int (nI i)), (10, .int w)]) S.1 S.2.1 d_LAW_law_144 hl (by decide) rfl (fun ls hl => ?_)
        refine lv_iload S.1 S.2.1 d_LAW_law_146 (lv_at hl 10 rfl) ?_
        refine lv_sipush (v := 128) S.1 S.2.1 d_LAW_law_148 (by decide) ?_
        refine lv_iand S.1 S.2.1 d_LAW_law_151 ?_
        by_cases hbit : w &&& 128 = 0
        ·
          refine lv_if_eq (tgt := 159) S.1 S.2.1 d_LAW_law_152 (by decide) (fun _ => ?_) (fun c => absurd (hbit) c)
          refine lv_iconst (v := 0) S.1 S.2.1 d_LAW_law_159 (by decide) ?_
          refine q_top (x' := bI rb) (by rw [hrb]; simp [hbit, bI]) ?_
          refine lv_istore (lv' := [(8, .int (bI rb)), (7, .int (w >>> (4 &&& 31))), (6, .int (nI 0)), (0, .ref b), (1, .ref x), (2, .ref X2), (3, .ref X3), (4, .int (nI n)), (5, .int (nI n)), (9, .int (nI i)), (10, .int w)]) S.1 S.2.1 d_LAW_law_160 hl (by decide) rfl (fun ls hl => ?_)
          refine lv_goto (tgt := 538) S.1 S.2.1 d_LAW_law_162 (by decide) ?_
          exact K _ _ _ _ _ _ _ _ n n 0 _ k2 mx2 (uc + 1) tc _ _ _ (-1) (w >>> (4 &&& 31)) _ f ft fc tx tx dl2 _ _ ls hP hD hS hza hzb (⟨htx, hft, by omega, fun y hy => ⟨hfj y hy, (htx.2.2.2 y hy).1⟩, Nat.zero_le _, hm1, hm2, fun y _ => (hmb (tx y)).symm, by omega, hnt, hnt, hcp, by omega, by omega⟩) (lv_sub hl [3, 4, 5, 6, 7, 8, 2, 1, 0, 9] rfl)
        ·
          refine lv_if_eq (tgt := 159) S.1 S.2.1 d_LAW_law_152 (by decide) (fun c => absurd c (hbit)) (fun _ => ?_)
          refine lv_iconst (v := 1) S.1 S.2.1 d_LAW_law_155 (by decide) ?_
          refine lv_goto (tgt := 160) S.1 S.2.1 d_LAW_law_156 (by decide) ?_
          refine q_top (x' := bI rb) (by rw [hrb]; simp [hbit, bI]) ?_
          refine lv_istore (lv' := [(8, .int (bI rb)), (7, .int (w >>> (4 &&& 31))), (6, .int (nI 0)), (0, .ref b), (1, .ref x), (2, .ref X2), (3, .ref X3), (4, .int (nI n)), (5, .int (nI n)), (9, .int (nI i)), (10, .int w)]) S.1 S.2.1 d_LAW_law_160 hl (by decide) rfl (fun ls hl => ?_)
          refine lv_goto (tgt := 538) S.1 S.2.1 d_LAW_law_162 (by decide) ?_
          exact K _ _ _ _ _ _ _ _ n n 0 _ k2 mx2 (uc + 1) tc _ _ _ (-1) (w >>> (4 &&& 31)) _ f ft fc tx tx dl2 _ _ ls hP hD hS hza hzb (⟨htx, hft, by omega, fun y hy => ⟨hfj y hy, (htx.2.2.2 y hy).1⟩, Nat.zero_le _, hm1, hm2, fun y _ => (hmb (tx y)).symm, by omega, hnt, hnt, hcp, by omega, by omega⟩) (lv_sub hl [3, 4, 5, 6, 7, 8, 2, 1, 0, 9] rfl)
      | succ z ih =>
        intro j H locs fc ls hj hP hD hS hza hzb hfj hl
        refine lv_iload S.1 S.2.1 d_LAW_law_116 (lv_at hl 5 rfl) ?_
        refine lv_iload S.1 S.2.1 d_LAW_law_118 (lv_at hl 4 rfl) ?_
        refine lv_icmp_ge (tgt := 137) S.1 S.2.1 d_LAW_law_120 (by decide) (fun c => absurd c (nI_ge (by omega) (by omega))) (fun _ => ?_)
        refine lv_aload_n S.1 S.2.1 d_LAW_law_123 rfl (lv_at hl 3 rfl) ?_
        refine lv_iload S.1 S.2.1 d_LAW_law_124 (lv_at hl 5 rfl) ?_
        refine lv_aload_n S.1 S.2.1 d_LAW_law_126 rfl (lv_at hl 2 rfl) ?_
        refine lv_iload S.1 S.2.1 d_LAW_law_127 (lv_at hl 5 rfl) ?_
        refine q_cald S hK hP 4 rfl (i := j) (by omega) (by omega) d_LAW_law_129 ?_
        refine q_top (x' := nI (tx j)) (hft j (by omega)) ?_
        refine q_castL S hK hP hD hS 5 rfl (i := j) (v := tx j) (by omega) (by omega) (htx.2.2.2 j (by omega)).1 d_LAW_law_130 (fun H2 locs hP hD hS hz2s hk2s => ?_)
        have hP : va_P D classes [(x, .inr (0, [.ref h, .ref q2])), (h, .inr (1, [.ref v, .int 0, .int ml, .int (nI n)])), (v, .inl (cB, cap, .inl f)), (q2, .inr (2, [.int (nI 0), .int (-1), .int (nI n), .ref a2, .ref b3, .int (bI rb), .int 0, .int (nI mx2), .int 0, .null])), (X2, .inl (cC, L, .inl ft)), (X3, .inl (cC, L, .inl (upd fc j (nI (tx j)))))] H2 := hP
        have hD : va_D (AL s) [(x, .inr (0, [.ref h, .ref q2])), (h, .inr (1, [.ref v, .int 0, .int ml, .int (nI n)])), (v, .inl (cB, cap, .inl f)), (q2, .inr (2, [.int (nI 0), .int (-1), .int (nI n), .ref a2, .ref b3, .int (bI rb), .int 0, .int (nI mx2), .int 0, .null])), (X2, .inl (cC, L, .inl ft)), (X3, .inl (cC, L, .inl (upd fc j (nI (tx j)))))] := hD
        have hza := hza.goS (ws' := [(x, .inr (0, [.ref h, .ref q2])), (h, .inr (1, [.ref v, .int 0, .int ml, .int (nI n)])), (v, .inl (cB, cap, .inl f)), (q2, .inr (2, [.int (nI 0), .int (-1), .int (nI n), .ref a2, .ref b3, .int (bI rb), .int 0, .int (nI mx2), .int 0, .null])), (X2, .inl (cC, L, .inl ft)), (X3, .inl (cC, L, .inl (upd fc j (nI (tx j)))))]) hk2s hz2s rfl
        have hzb := hzb.goS (ws' := [(x, .inr (0, [.ref h, .ref q2])), (h, .inr (1, [.ref v, .int 0, .int ml, .int (nI n)])), (v, .inl (cB, cap, .inl f)), (q2, .inr (2, [.int (nI 0), .int (-1), .int (nI n), .ref a2, .ref b3, .int (bI rb), .int 0, .int (nI mx2), .int 0, .null])), (X2, .inl (cC, L, .inl ft)), (X3, .inl (cC, L, .inl (upd fc j (nI (tx j)))))]) hk2s hz2s rfl
        refine lv_iinc (v := nI (j + 1)) (lv' := [(5, .int (nI (j + 1))), (0, .ref b), (1, .ref x), (2, .ref X2), (3, .ref X3), (4, .int (nI n)), (6, .int (nI ap)), (7, .int sg), (8, .int (bI rt)), (9, .int (nI i)), (10, .int w)]) S.1 S.2.1 d_LAW_law_131 hl (k := 5) rfl (nI_1 j) (by decide) rfl (fun ls hl => ?_)
        refine lv_goto (tgt := 116) S.1 S.2.1 d_LAW_law_134 (by decide) ?_
        refine ih (j + 1) _ _ _ ls (by omega) hP hD hS hza hzb (fun y hy => ?_) (lv_sub hl [1, 2, 3, 4, 5, 0, 6, 7, 8, 9, 10] rfl)
        by_cases hyj : y = j
        · subst hyj; rw [pk_us]
        · rw [pk_un hyj]; exact hfj y (by omega)
    exact loop n 0 _ _ fc ls (by omega) hP hD hS hza hzb (fun y hy => absurd hy (by omega)) (lv_sub hl [1, 2, 3, 4, 5, 0, 6, 7, 8, 9, 10] rfl)
  refine lv_iload S.1 S.2.1 d_LAW_law_96 (lv_at hl 10 rfl) ?_
  refine lv_sipush (v := 128) S.1 S.2.1 d_LAW_law_98 (by decide) ?_
  refine lv_iand S.1 S.2.1 d_LAW_law_101 ?_
  by_cases hbit : w &&& 128 = 0
  ·
    refine lv_if_eq (tgt := 109) S.1 S.2.1 d_LAW_law_102 (by decide) (fun _ => ?_) (fun c => absurd (hbit) c)
    refine lv_iconst (v := 0) S.1 S.2.1 d_LAW_law_109 (by decide) ?_
    refine q_top (x' := bI rb) (by rw [hrb]; simp [hbit, bI]) ?_
    exact p110
  ·
    refine lv_if_eq (tgt := 109) S.1 S.2.1 d_LAW_law_102 (by decide) (fun c => absurd c (hbit)) (fun _ => ?_)
    refine lv_iconst (v := 1) S.1 S.2.1 d_LAW_law_105 (by decide) ?_
    refine lv_goto (tgt := 110) S.1 S.2.1 d_LAW_law_106 (by decide) ?_
    refine q_top (x' := bI rb) (by rw [hrb]; simp [hbit, bI]) ?_
    exact p110
end
section
set_option maxHeartbeats 8000000 in
set_option maxRecDepth 100000 in
/-- cases 2 to 4: the tokens -/
theorem lw_tok {p : Program} {l : Launch} {e : Env} {s : State} {m : MethodId} {below : List Frame} {meth : Method} {c : Code} {b L : Nat} {xs : Nat → Int32} {D : va_G} {cB cC : ClassId} {c0 c1 c2 c3 : Nat} (C : LC p s m meth c b L xs D cB cC c0 c1 c2 c3) {i : Nat} (hi : i < L) (K : HD p l e s m below meth c b L D cB cC 538 i (i + 1)) {w : Int32} : ∀ (x h v q a b2 X2 X3 n mm ap cap k mx uc tc ce sl : Nat) (ml np sg : Int32) (rt : Bool) (f ft fc : Nat → Int32) (tx t1 dl : Nat → Nat) (H : Heap) (locs : List Loc) (ls : Array Slot), va_P D classes [(x, .inr (0, [.ref h, .ref q])), (h, .inr (1, [.ref v, .int 0, .int ml, .int (nI n)])), (v, .inl (cB, cap, .inl f)), (q, .inr (2, [.int (nI ap), .int np, .int (nI mm), .ref a, .ref b2, .int (bI rt), .int 0, .int (nI mx), .int 0, .null])), (X2, .inl (cC, L, .inl ft)), (X3, .inl (cC, L, .inl fc))] H → va_D (AL s) [(x, .inr (0, [.ref h, .ref q])), (h, .inr (1, [.ref v, .int 0, .int ml, .int (nI n)])), (v, .inl (cB, cap, .inl f)), (q, .inr (2, [.int (nI ap), .int np, .int (nI mm), .ref a, .ref b2, .int (bI rt), .int 0, .int (nI mx), .int 0, .null])), (X2, .inl (cC, L, .inl ft)), (X3, .inl (cC, L, .inl fc))] → va_S (AL s) s.heap H locs → zs a mm t1 (va_A [(x, .inr (0, [.ref h, .ref q])), (h, .inr (1, [.ref v, .int 0, .int ml, .int (nI n)])), (v, .inl (cB, cap, .inl f)), (q, .inr (2, [.int (nI ap), .int np, .int (nI mm), .ref a, .ref b2, .int (bI rt), .int 0, .int (nI mx), .int 0, .null])), (X2, .inl (cC, L, .inl ft)), (X3, .inl (cC, L, .inl fc))] H.size) s H → zs b2 k dl (va_A [(x, .inr (0, [.ref h, .ref q])), (h, .inr (1, [.ref v, .int 0, .int ml, .int (nI n)])), (v, .inl (cB, cap, .inl f)), (q, .inr (2, [.int (nI ap), .int np, .int (nI mm), .ref a, .ref b2, .int (bI rt), .int 0, .int (nI mx), .int 0, .null])), (X2, .inl (cC, L, .inl ft)), (X3, .inl (cC, L, .inl fc))] H.size) s H → lok L n mm ap cap k mx i uc tc ce sl sg f ft fc tx t1 dl → lv_has ls 16 [(0, .ref b), (1, .ref x), (2, .ref X2), (3, .ref X3), (4, .int (nI n)), (5, .int (nI mm)), (6, .int (nI ap)), (7, .int sg), (8, .int (bI rt)), (9, .int (nI i)), (10, .int w)] → W p l e room_1 s m #[Value.ref b] below meth c H locs ce sl (lw_Z below #[Value.ref b] s) (F0 m 184 ls []) := by
  intro x h v q a b2 X2 X3 n mm ap cap k mx uc tc ce sl ml np sg rt f ft fc tx t1 dl H locs ls hP hD hS hza hzb hok hl
  obtain ⟨S, hrr, hlk, hX, hbl, hL, hE, ⟨hR1, hR0, hR2, hR3⟩, hz0, hz1, hz2, hz3⟩ := C
  obtain ⟨htx, hft, hmL, hfc, hap, hmx, hdm, hPd, hut, hnt, hmt, hcp, hce, hsl⟩ := hok
  have hK := hE.1
  have hA : ∀ q : Nat, s.heap.size ≤ q → AL s q := fun _ h => h
  have hul := ut_le (u := uc) (t := tc) (by omega)
  have htx1 := htx.1
  have e1 : (uc + 1) * tc = uc * tc + tc := by rw [Nat.add_mul, Nat.one_mul]
  have e2 : uc * (tc + 1) = uc * tc + uc := by rw [Nat.mul_add, Nat.mul_one]
  obtain ⟨P, hPe⟩ : ∃ P : Nat → Bool, P = fun j => sgn sg (t1 j) := ⟨_, rfl⟩
  have hPj : ∀ j, P j = sgn sg (t1 j) := fun j => by rw [hPe]
  have hPd2 : ∀ j, j < mm → (P j = true ↔ ∃ z, z < k ∧ dl z = t1 j) := fun j hj => by rw [hPj j]; exact hPd j hj
  have hsk := skp_in (ret := rt) (P := P) hap
  refine lv_iload S.1 S.2.1 d_LAW_law_184 (lv_at hl 6 rfl) ?_
  refine lv_istore (lv' := [(11, .int (nI ap)), (0, .ref b), (1, .ref x), (2, .ref X2), (3, .ref X3), (4, .int (nI n)), (5, .int (nI mm)), (6, .int (nI ap)), (7, .int sg), (8, .int (bI rt)), (9, .int (nI i)), (10, .int w)]) S.1 S.2.1 d_LAW_law_186 hl (by decide) rfl (fun ls hl => ?_)
  have p218 : ∀ (ls : Array Slot), lv_has ls 16 [(0, .ref b), (1, .ref x), (2, .ref X2), (3, .ref X3), (4, .int (nI n)), (5, .int (nI mm)), (6, .int (nI ap)), (7, .int sg), (8, .int (bI rt)), (9, .int (nI i)), (11, .int (nI (skp rt P mm ap)))] → W p l e room_1 s m #[Value.ref b] below meth c H locs ce sl (lw_Z below #[Value.ref b] s) (F0 m 218 ls []) := by
    intro ls hl
    refine lv_aload_n S.1 S.2.1 d_LAW_law_218 rfl (lv_at hl 1 rfl) ?_
    have hPc := hP.sub (ws' := [(x, .inr (0, [.ref h, .ref q])), (q, .inr (2, [.int (nI ap), .int np, .int (nI mm), .ref a, .ref b2, .int (bI rt), .int 0, .int (nI mx), .int 0, .null]))]) [0, 3] rfl
    have hDc := hD.sub (ws' := [(x, .inr (0, [.ref h, .ref q])), (q, .inr (2, [.int (nI ap), .int np, .int (nI mm), .ref a, .ref b2, .int (bI rt), .int 0, .int (nI mx), .int 0, .null]))]) [0, 3] (by decide) rfl
    have hFc := va_free (wc := [(x, .inr (0, [.ref h, .ref q])), (q, .inr (2, [.int (nI ap), .int np, .int (nI mm), .ref a, .ref b2, .int (bI rt), .int 0, .int (nI mx), .int 0, .null]))]) hD hS hA [0, 3] rfl
    refine va_calli (rn_V S sc_LAW_46 (As := []) (rest := []) (c_TD_more l hap hmx hPd2 hdm (t := t1) (dl := dl)) (va_recv hK hP (ci := 0) (q0 := 0) rfl rfl) (fun U hU hW => ⟨by rw [hU], hE.to hS.2.1 hU hW hFc, by rw [hU]; exact hPc, hDc.weaken (fun _ _ _ _ => trivial), hza.to (fun _ _ _ => rfl) hU hW.alike (va_sub [0, 3] rfl), hzb.to (fun _ _ _ => rfl) hU hW.alike (va_sub [0, 3] rfl)⟩) (Nat.le_of_ble_eq_true rfl) (Nat.le_of_ble_eq_true rfl) (by dsimp only [room_1]; omega) (by dsimp only [room_1]; omega) rfl hl.1 rfl (Nat.le_of_ble_eq_true rfl) d_LAW_law_219) hS (fun q _ h => hFc q h) hFc (fun r0 _ t_ H_121 locs ht_122 hv_125 hr0 hB hz_124 hk_123 hS => ?_)
    obtain ⟨hP1, hD1⟩ := hB
    rw [ht_122] at hP1
    obtain ⟨hP, hD⟩ := va_join (wr := [(h, .inr (1, [.ref v, .int 0, .int ml, .int (nI n)])), (v, .inl (cB, cap, .inl f)), (X2, .inl (cC, L, .inl ft)), (X3, .inl (cC, L, .inl fc))]) (w1 := [(x, .inr (0, [.ref h, .ref q])), (q, .inr (2, [.int (nI ap), .int (nI (skp rt P mm ap)), .int (nI mm), .ref a, .ref b2, .int (bI rt), .int 0, .int (nI mx), .int 0, .null]))]) hP hD [0, 3] [1, 2, 4, 5] rfl rfl (by decide) (by decide) hk_123 hFc hP1 hD1
    have hP : va_P D classes [(h, .inr (1, [.ref v, .int 0, .int ml, .int (nI n)])), (v, .inl (cB, cap, .inl f)), (X2, .inl (cC, L, .inl ft)), (X3, .inl (cC, L, .inl fc)), (x, .inr (0, [.ref h, .ref q])), (q, .inr (2, [.int (nI ap), .int (nI (skp rt P mm ap)), .int (nI mm), .ref a, .ref b2, .int (bI rt), .int 0, .int (nI mx), .int 0, .null]))] H_121 := hP
    have hD : va_D (AL s) [(h, .inr (1, [.ref v, .int 0, .int ml, .int (nI n)])), (v, .inl (cB, cap, .inl f)), (X2, .inl (cC, L, .inl ft)), (X3, .inl (cC, L, .inl fc)), (x, .inr (0, [.ref h, .ref q])), (q, .inr (2, [.int (nI ap), .int (nI (skp rt P mm ap)), .int (nI mm), .ref a, .ref b2, .int (bI rt), .int 0, .int (nI mx), .int 0, .null]))] := hD
    have hza := hza.join (wr := [(h, .inr (1, [.ref v, .int 0, .int ml, .int (nI n)])), (v, .inl (cB, cap, .inl f)), (X2, .inl (cC, L, .inl ft)), (X3, .inl (cC, L, .inl fc))]) (w1 := [(x, .inr (0, [.ref h, .ref q])), (q, .inr (2, [.int (nI ap), .int (nI (skp rt P mm ap)), .int (nI mm), .ref a, .ref b2, .int (bI rt), .int 0, .int (nI mx), .int 0, .null]))]) [0, 3] [1, 2, 4, 5] rfl rfl hk_123 hz_124 hD1
    have hzb := hzb.join (wr := [(h, .inr (1, [.ref v, .int 0, .int ml, .int (nI n)])), (v, .inl (cB, cap, .inl f)), (X2, .inl (cC, L, .inl ft)), (X3, .inl (cC, L, .inl fc))]) (w1 := [(x, .inr (0, [.ref h, .ref q])), (q, .inr (2, [.int (nI ap), .int (nI (skp rt P mm ap)), .int (nI mm), .ref a, .ref b2, .int (bI rt), .int 0, .int (nI mx), .int 0, .null]))]) [0, 3] [1, 2, 4, 5] rfl rfl hk_123 hz_124 hD1
    have hP := hP.sub (ws' := [(x, .inr (0, [.ref h, .ref q])), (h, .inr (1, [.ref v, .int 0, .int ml, .int (nI n)])), (v, .inl (cB, cap, .inl f)), (q, .inr (2, [.int (nI ap), .int (nI (skp rt P mm ap)), .int (nI mm), .ref a, .ref b2, .int (bI rt), .int 0, .int (nI mx), .int 0, .null])), (X2, .inl (cC, L, .inl ft)), (X3, .inl (cC, L, .inl fc))]) [4, 0, 1, 5, 2, 3] rfl
    have hD := hD.sub (ws' := [(x, .inr (0, [.ref h, .ref q])), (h, .inr (1, [.ref v, .int 0, .int ml, .int (nI n)])), (v, .inl (cB, cap, .inl f)), (q, .inr (2, [.int (nI ap), .int (nI (skp rt P mm ap)), .int (nI mm), .ref a, .ref b2, .int (bI rt), .int 0, .int (nI mx), .int 0, .null])), (X2, .inl (cC, L, .inl ft)), (X3, .inl (cC, L, .inl fc))]) [4, 0, 1, 5, 2, 3] (by decide) rfl
    have hza := hza.nar (A' := va_A [(x, .inr (0, [.ref h, .ref q])), (h, .inr (1, [.ref v, .int 0, .int ml, .int (nI n)])), (v, .inl (cB, cap, .inl f)), (q, .inr (2, [.int (nI ap), .int (nI (skp rt P mm ap)), .int (nI mm), .ref a, .ref b2, .int (bI rt), .int 0, .int (nI mx), .int 0, .null])), (X2, .inl (cC, L, .inl ft)), (X3, .inl (cC, L, .inl fc))] H_121.size) (fun y _ hy => va_sub [4, 0, 1, 5, 2, 3] rfl y hy)
    have hzb := hzb.nar (A' := va_A [(x, .inr (0, [.ref h, .ref q])), (h, .inr (1, [.ref v, .int 0, .int ml, .int (nI n)])), (v, .inl (cB, cap, .inl f)), (q, .inr (2, [.int (nI ap), .int (nI (skp rt P mm ap)), .int (nI mm), .ref a, .ref b2, .int (bI rt), .int 0, .int (nI mx), .int 0, .null])), (X2, .inl (cC, L, .inl ft)), (X3, .inl (cC, L, .inl fc))] H_121.size) (fun y _ hy => va_sub [4, 0, 1, 5, 2, 3] rfl y hy)
    subst hr0
    have p239 : W p l e room_1 s m #[Value.ref b] below meth c H_121 locs ce sl (lw_Z below #[Value.ref b] s) (F0 m 239 ls []) := by
      have p337 : ∀ (ls : Array Slot), lv_has ls 16 [(0, .ref b), (1, .ref x), (2, .ref X2), (3, .ref X3), (4, .int (nI n)), (5, .int (nI mm)), (6, .int (nI ap)), (7, .int sg), (8, .int (bI rt)), (9, .int (nI i)), (11, .int (nI (skp rt P mm ap))), (12, .int (nI (cnt rt P mm ap)))] → W p l e room_1 s m #[Value.ref b] below meth c H_121 locs ce sl (lw_Z below #[Value.ref b] s) (F0 m 337 ls []) := by
        intro ls hl
        refine lv_aload_n S.1 S.2.1 d_LAW_law_337 rfl (lv_at hl 1 rfl) ?_
        refine vp_callSi (va_Run.run (rn_V S sc_LAW_50 (As := []) (rest := []) (c_TD_left l hap hmx hPd2 hdm (t := t1) (dl := dl)) (va_recv hK hP (ci := 0) (q0 := 0) rfl rfl) (fun U hU hW => ⟨hE.to hS.2.1 hU hW (fun _ h => h.elim), by rw [hU]; exact hP.sub [0, 3] rfl, hza.to (fun _ _ _ => rfl) hU hW.alike (fun _ h => h.elim), hzb.to (fun _ _ _ => rfl) hU hW.alike (fun _ h => h.elim)⟩) (Nat.le_of_ble_eq_true rfl) (Nat.le_of_ble_eq_true rfl) (by dsimp only [room_1]; omega) (by dsimp only [room_1]; omega) rfl hl.1 rfl (Nat.le_of_ble_eq_true rfl) d_LAW_law_338)) (fun r0 h0 => ?_)
        subst h0
        refine lv_iload S.1 S.2.1 d_LAW_law_341 (lv_at hl 11 rfl) ?_
        refine lv_icmp_eq (tgt := 348) S.1 S.2.1 d_LAW_law_343 (by decide) (fun _ => ?_) (fun c => absurd (rfl) c)
        refine lv_iload S.1 S.2.1 d_LAW_law_348 (lv_at hl 10 rfl) ?_
        refine lv_iload S.1 S.2.1 d_LAW_law_350 (lv_at hl 5 rfl) ?_
        by_cases hJ : (skp rt P mm ap) < mm
        ·
          refine lv_icmp_ge (tgt := 538) S.1 S.2.1 d_LAW_law_352 (by decide) (fun c => absurd c (nI_ge hJ (by omega))) (fun _ => ?_)
          have hsc := scn_in hJ (skp_P hap hJ)
          refine lv_iload S.1 S.2.1 d_LAW_law_355 (lv_at hl 10 rfl) ?_
          refine lv_istore (lv' := [(13, .int (nI (skp rt P mm ap))), (0, .ref b), (1, .ref x), (2, .ref X2), (3, .ref X3), (4, .int (nI n)), (5, .int (nI mm)), (6, .int (nI ap)), (7, .int sg), (8, .int (bI rt)), (9, .int (nI i)), (11, .int (nI (skp rt P mm ap))), (12, .int (nI (cnt rt P mm ap)))]) S.1 S.2.1 d_LAW_law_357 hl (by decide) rfl (fun ls hl => ?_)
          have p399 : ∀ (ls : Array Slot), lv_has ls 16 [(0, .ref b), (1, .ref x), (2, .ref X2), (3, .ref X3), (4, .int (nI n)), (5, .int (nI mm)), (6, .int (nI ap)), (7, .int sg), (8, .int (bI rt)), (9, .int (nI i)), (11, .int (nI (skp rt P mm ap))), (13, .int (nI (scn rt P mm (skp rt P mm ap))))] → W p l e room_1 s m #[Value.ref b] below meth c H_121 locs ce sl (lw_Z below #[Value.ref b] s) (F0 m 399 ls []) := by
            intro ls hl
            refine lv_aload_n S.1 S.2.1 d_LAW_law_399 rfl (lv_at hl 1 rfl) ?_
            have hPc := hP.sub (ws' := [(x, .inr (0, [.ref h, .ref q])), (q, .inr (2, [.int (nI ap), .int (nI (skp rt P mm ap)), .int (nI mm), .ref a, .ref b2, .int (bI rt), .int 0, .int (nI mx), .int 0, .null]))]) [0, 3] rfl
            have hDc := hD.sub (ws' := [(x, .inr (0, [.ref h, .ref q])), (q, .inr (2, [.int (nI ap), .int (nI (skp rt P mm ap)), .int (nI mm), .ref a, .ref b2, .int (bI rt), .int 0, .int (nI mx), .int 0, .null]))]) [0, 3] (by decide) rfl
            have hFc := va_free (wc := [(x, .inr (0, [.ref h, .ref q])), (q, .inr (2, [.int (nI ap), .int (nI (skp rt P mm ap)), .int (nI mm), .ref a, .ref b2, .int (bI rt), .int 0, .int (nI mx), .int 0, .null]))]) hD hS hA [0, 3] rfl
            refine va_callr (rn_V S sc_LAW_54 (As := []) (rest := []) (c_TD_next l (by omega) hJ hap hmx hPd2 hdm (t := t1) (dl := dl)) (va_recv hK hP (ci := 0) (q0 := 0) rfl rfl) (fun U hU hW => ⟨by rw [hU], hE.to hS.2.1 hU hW hFc, by rw [hU]; exact hPc, hDc.weaken (fun _ _ _ _ => trivial), hza.to (fun _ _ _ => rfl) hU hW.alike (va_sub [0, 3] rfl), hzb.to (fun _ _ _ => rfl) hU hW.alike (va_sub [0, 3] rfl)⟩) (Nat.le_of_ble_eq_true rfl) (Nat.le_of_ble_eq_true rfl) (by dsimp only [room_1]; omega) (by dsimp only [room_1]; omega) rfl hl.1 rfl (Nat.le_of_ble_eq_true rfl) d_LAW_law_400) hS (fun q _ h => hFc q h) hFc (fun _ y t_ H_126 locs ht_127 hv_130 _ hB hz_129 hk_128 hS => ?_)
            obtain ⟨hP1, hD1, hzy0⟩ := hB
            rw [ht_127] at hP1
            obtain ⟨hP, hD⟩ := va_join (wr := [(h, .inr (1, [.ref v, .int 0, .int ml, .int (nI n)])), (v, .inl (cB, cap, .inl f)), (X2, .inl (cC, L, .inl ft)), (X3, .inl (cC, L, .inl fc))]) (w1 := [(x, .inr (0, [.ref h, .ref q])), (q, .inr (2, [.int (nI (scn rt P mm (skp rt P mm ap))), .int (-1), .int (nI mm), .ref a, .ref b2, .int (bI rt), .int 0, .int (nI mx), .int 0, .null]))]) hP hD [0, 3] [1, 2, 4, 5] rfl rfl (by decide) (by decide) hk_128 hFc hP1 hD1
            have hP : va_P D classes [(h, .inr (1, [.ref v, .int 0, .int ml, .int (nI n)])), (v, .inl (cB, cap, .inl f)), (X2, .inl (cC, L, .inl ft)), (X3, .inl (cC, L, .inl fc)), (x, .inr (0, [.ref h, .ref q])), (q, .inr (2, [.int (nI (scn rt P mm (skp rt P mm ap))), .int (-1), .int (nI mm), .ref a, .ref b2, .int (bI rt), .int 0, .int (nI mx), .int 0, .null]))] H_126 := hP
            have hD : va_D (AL s) [(h, .inr (1, [.ref v, .int 0, .int ml, .int (nI n)])), (v, .inl (cB, cap, .inl f)), (X2, .inl (cC, L, .inl ft)), (X3, .inl (cC, L, .inl fc)), (x, .inr (0, [.ref h, .ref q])), (q, .inr (2, [.int (nI (scn rt P mm (skp rt P mm ap))), .int (-1), .int (nI mm), .ref a, .ref b2, .int (bI rt), .int 0, .int (nI mx), .int 0, .null]))] := hD
            have hza := hza.join (wr := [(h, .inr (1, [.ref v, .int 0, .int ml, .int (nI n)])), (v, .inl (cB, cap, .inl f)), (X2, .inl (cC, L, .inl ft)), (X3, .inl (cC, L, .inl fc))]) (w1 := [(x, .inr (0, [.ref h, .ref q])), (q, .inr (2, [.int (nI (scn rt P mm (skp rt P mm ap))), .int (-1), .int (nI mm), .ref a, .ref b2, .int (bI rt), .int 0, .int (nI mx), .int 0, .null]))]) [0, 3] [1, 2, 4, 5] rfl rfl hk_128 hz_129 hD1
            have hzb := hzb.join (wr := [(h, .inr (1, [.ref v, .int 0, .int ml, .int (nI n)])), (v, .inl (cB, cap, .inl f)), (X2, .inl (cC, L, .inl ft)), (X3, .inl (cC, L, .inl fc))]) (w1 := [(x, .inr (0, [.ref h, .ref q])), (q, .inr (2, [.int (nI (scn rt P mm (skp rt P mm ap))), .int (-1), .int (nI mm), .ref a, .ref b2, .int (bI rt), .int 0, .int (nI mx), .int 0, .null]))]) [0, 3] [1, 2, 4, 5] rfl rfl hk_128 hz_129 hD1
            rw [ht_127] at hzy0
            obtain ⟨vy, hzy⟩ := zs.moved hzy0 hv_130.symm
            have hP := hP.sub (ws' := [(x, .inr (0, [.ref h, .ref q])), (h, .inr (1, [.ref v, .int 0, .int ml, .int (nI n)])), (v, .inl (cB, cap, .inl f)), (q, .inr (2, [.int (nI (scn rt P mm (skp rt P mm ap))), .int (-1), .int (nI mm), .ref a, .ref b2, .int (bI rt), .int 0, .int (nI mx), .int 0, .null])), (X2, .inl (cC, L, .inl ft)), (X3, .inl (cC, L, .inl fc))]) [4, 0, 1, 5, 2, 3] rfl
            have hD := hD.sub (ws' := [(x, .inr (0, [.ref h, .ref q])), (h, .inr (1, [.ref v, .int 0, .int ml, .int (nI n)])), (v, .inl (cB, cap, .inl f)), (q, .inr (2, [.int (nI (scn rt P mm (skp rt P mm ap))), .int (-1), .int (nI mm), .ref a, .ref b2, .int (bI rt), .int 0, .int (nI mx), .int 0, .null])), (X2, .inl (cC, L, .inl ft)), (X3, .inl (cC, L, .inl fc))]) [4, 0, 1, 5, 2, 3] (by decide) rfl
            have hza := hza.nar (A' := va_A [(x, .inr (0, [.ref h, .ref q])), (h, .inr (1, [.ref v, .int 0, .int ml, .int (nI n)])), (v, .inl (cB, cap, .inl f)), (q, .inr (2, [.int (nI (scn rt P mm (skp rt P mm ap))), .int (-1), .int (nI mm), .ref a, .ref b2, .int (bI rt), .int 0, .int (nI mx), .int 0, .null])), (X2, .inl (cC, L, .inl ft)), (X3, .inl (cC, L, .inl fc))] H_126.size) (fun y _ hy => va_sub [4, 0, 1, 5, 2, 3] rfl y hy)
            have hzb := hzb.nar (A' := va_A [(x, .inr (0, [.ref h, .ref q])), (h, .inr (1, [.ref v, .int 0, .int ml, .int (nI n)])), (v, .inl (cB, cap, .inl f)), (q, .inr (2, [.int (nI (scn rt P mm (skp rt P mm ap))), .int (-1), .int (nI mm), .ref a, .ref b2, .int (bI rt), .int 0, .int (nI mx), .int 0, .null])), (X2, .inl (cC, L, .inl ft)), (X3, .inl (cC, L, .inl fc))] H_126.size) (fun y _ hy => va_sub [4, 0, 1, 5, 2, 3] rfl y hy)
            refine lv_astore (lv' := [(14, .ref y), (0, .ref b), (1, .ref x), (2, .ref X2), (3, .ref X3), (4, .int (nI n)), (5, .int (nI mm)), (6, .int (nI ap)), (7, .int sg), (8, .int (bI rt)), (9, .int (nI i)), (11, .int (nI (skp rt P mm ap))), (13, .int (nI (scn rt P mm (skp rt P mm ap))))]) S.1 S.2.1 d_LAW_law_403 hl (by decide) rfl (fun ls hl => ?_)
            refine lv_aload S.1 S.2.1 d_LAW_law_405 (lv_at hl 0 rfl) ?_
            refine vp_callSi (va_Run.run (rn_V S sc_LAW_57 (As := []) (rest := []) (c_STR_length l (t := fun z => t1 ((skp rt P mm ap) + z))) (hzy.recv) (fun U hU hW => ⟨hE.to hS.2.1 hU hW (fun _ h => h.elim), hzy.to (fun _ _ _ => rfl) hU hW.alike (fun _ h => h)⟩) (Nat.le_of_ble_eq_true rfl) (Nat.le_of_ble_eq_true rfl) (by dsimp only [room_1]; omega) (by dsimp only [room_1]; omega) rfl hl.1 rfl (Nat.le_of_ble_eq_true rfl) d_LAW_law_407)) (fun r0 h0 => ?_)
            subst h0
            refine lv_iload S.1 S.2.1 d_LAW_law_410 (lv_at hl 12 rfl) ?_
            refine lv_iload S.1 S.2.1 d_LAW_law_412 (lv_at hl 11 rfl) ?_
            refine lv_isub S.1 S.2.1 d_LAW_law_414 ?_
            refine q_top (x' := nI ((scn rt P mm (skp rt P mm ap)) - (skp rt P mm ap))) (pk_sub (by omega)) ?_
            refine lv_icmp_eq (tgt := 420) S.1 S.2.1 d_LAW_law_415 (by decide) (fun _ => ?_) (fun c => absurd (rfl) c)
            refine lv_iconst (v := 0) S.1 S.2.1 d_LAW_law_420 (by decide) ?_
            refine lv_istore (lv' := [(15, .int 0), (14, .ref y), (0, .ref b), (1, .ref x), (2, .ref X2), (3, .ref X3), (4, .int (nI n)), (5, .int (nI mm)), (6, .int (nI ap)), (7, .int sg), (8, .int (bI rt)), (9, .int (nI i)), (11, .int (nI (skp rt P mm ap))), (13, .int (nI (scn rt P mm (skp rt P mm ap))))]) S.1 S.2.1 d_LAW_law_421 hl (by decide) rfl (fun ls hl => ?_)
            have loop : ∀ (z j : Nat) (ls : Array Slot), j + z = (scn rt P mm (skp rt P mm ap)) - (skp rt P mm ap) → lv_has ls 16 [(0, .ref b), (1, .ref x), (2, .ref X2), (3, .ref X3), (4, .int (nI n)), (5, .int (nI mm)), (6, .int (nI ap)), (7, .int sg), (8, .int (bI rt)), (9, .int (nI i)), (11, .int (nI (skp rt P mm ap))), (13, .int (nI (scn rt P mm (skp rt P mm ap)))), (14, .ref y), (15, .int (nI j))] → W p l e room_1 s m #[Value.ref b] below meth c H_126 locs (ce + 0 + 2) (sl + 0 + (4 + ((scn rt P mm (skp rt P mm ap)) - (skp rt P mm ap)))) (lw_Z below #[Value.ref b] s) (F0 m 423 ls []) := by
              intro z
              induction z with
              | zero =>
                intro j ls hj hl
                refine lv_iload S.1 S.2.1 d_LAW_law_423 (lv_at hl 13 rfl) ?_
                refine lv_aload S.1 S.2.1 d_LAW_law_425 (lv_at hl 12 rfl) ?_
                refine vp_callSi (va_Run.run (rn_V S sc_LAW_57 (As := []) (rest := [.int (nI j)]) (c_STR_length l (t := fun z => t1 ((skp rt P mm ap) + z))) (hzy.recv) (fun U hU hW => ⟨hE.to hS.2.1 hU hW (fun _ h => h.elim), hzy.to (fun _ _ _ => rfl) hU hW.alike (fun _ h => h)⟩) (Nat.le_of_ble_eq_true rfl) (Nat.le_of_ble_eq_true rfl) (by dsimp only [room_1]; omega) (by dsimp only [room_1]; omega) rfl hl.1 rfl (Nat.le_of_ble_eq_true rfl) d_LAW_law_427)) (fun r0 h0 => ?_)
                subst h0
                refine lv_icmp_ge (tgt := 458) S.1 S.2.1 d_LAW_law_430 (by decide) (fun _ => ?_) (fun c => absurd (nI_le (by omega) (by omega)) c)
                refine lv_iload S.1 S.2.1 d_LAW_law_458 (lv_at hl 11 rfl) ?_
                refine lv_istore (lv' := [(6, .int (nI (scn rt P mm (skp rt P mm ap)))), (0, .ref b), (1, .ref x), (2, .ref X2), (3, .ref X3), (4, .int (nI n)), (5, .int (nI mm)), (7, .int sg), (8, .int (bI rt)), (9, .int (nI i)), (11, .int (nI (skp rt P mm ap))), (13, .int (nI (scn rt P mm (skp rt P mm ap)))), (14, .ref y), (15, .int (nI j))]) S.1 S.2.1 d_LAW_law_460 hl (by decide) rfl (fun ls hl => ?_)
                refine lv_goto (tgt := 538) S.1 S.2.1 d_LAW_law_462 (by decide) ?_
                exact K _ _ _ _ _ _ _ _ n mm (scn rt P mm (skp rt P mm ap)) _ _ _ (uc + 1) tc _ _ _ _ sg _ _ _ _ _ _ _ _ _ ls hP hD hS hza hzb (⟨htx, hft, hmL, hfc, hsc.2, hmx, hdm, hPd, by omega, hnt, hmt, hcp, by omega, by omega⟩) (lv_sub hl [1, 2, 3, 4, 5, 6, 0, 7, 8, 9] rfl)
              | succ z ih =>
                intro j ls hj hl
                refine lv_iload S.1 S.2.1 d_LAW_law_423 (lv_at hl 13 rfl) ?_
                refine lv_aload S.1 S.2.1 d_LAW_law_425 (lv_at hl 12 rfl) ?_
                refine vp_callSi (va_Run.run (rn_V S sc_LAW_57 (As := []) (rest := [.int (nI j)]) (c_STR_length l (t := fun z => t1 ((skp rt P mm ap) + z))) (hzy.recv) (fun U hU hW => ⟨hE.to hS.2.1 hU hW (fun _ h => h.elim), hzy.to (fun _ _ _ => rfl) hU hW.alike (fun _ h => h)⟩) (Nat.le_of_ble_eq_true rfl) (Nat.le_of_ble_eq_true rfl) (by dsimp only [room_1]; omega) (by dsimp only [room_1]; omega) rfl hl.1 rfl (Nat.le_of_ble_eq_true rfl) d_LAW_law_427)) (fun r0 h0 => ?_)
                subst h0
                refine lv_icmp_ge (tgt := 458) S.1 S.2.1 d_LAW_law_430 (by decide) (fun c => absurd c (nI_ge (by omega) (by omega))) (fun _ => ?_)
                refine lv_aload S.1 S.2.1 d_LAW_law_433 (lv_at hl 12 rfl) ?_
                refine lv_iload S.1 S.2.1 d_LAW_law_435 (lv_at hl 13 rfl) ?_
                refine vp_callSi (va_Run.run (rn_V S sc_LAW_62 (As := [.int (nI j)]) (rest := []) (c_STR_charAt l (t := fun z => t1 ((skp rt P mm ap) + z)) (k := j) (by omega)) (hzy.recv) (fun U hU hW => ⟨hE.to hS.2.1 hU hW (fun _ h => h.elim), hzy.to (fun _ _ _ => rfl) hU hW.alike (fun _ h => h)⟩) (Nat.le_of_ble_eq_true rfl) (Nat.le_of_ble_eq_true rfl) (by dsimp only [room_1]; omega) (by dsimp only [room_1]; omega) rfl hl.1 rfl (Nat.le_of_ble_eq_true rfl) d_LAW_law_437)) (fun r0 h0 => ?_)
                subst h0
                refine lv_aload_n S.1 S.2.1 d_LAW_law_440 rfl (lv_at hl 3 rfl) ?_
                refine lv_iload S.1 S.2.1 d_LAW_law_441 (lv_at hl 10 rfl) ?_
                refine lv_iload S.1 S.2.1 d_LAW_law_443 (lv_at hl 13 rfl) ?_
                refine lv_iadd S.1 S.2.1 d_LAW_law_445 ?_
                refine q_top (x' := nI ((skp rt P mm ap) + j)) (nI_add _ _) ?_
                refine q_cald S hK hP 5 rfl (i := (skp rt P mm ap) + j) (by omega) (by omega) d_LAW_law_446 ?_
                refine lv_icmp_eq (tgt := 452) S.1 S.2.1 d_LAW_law_447 (by decide) (fun _ => ?_) (fun c => absurd ((hfc ((skp rt P mm ap) + j) (by omega)).1.symm) c)
                refine lv_iinc (v := nI (j + 1)) (lv' := [(15, .int (nI (j + 1))), (0, .ref b), (1, .ref x), (2, .ref X2), (3, .ref X3), (4, .int (nI n)), (5, .int (nI mm)), (6, .int (nI ap)), (7, .int sg), (8, .int (bI rt)), (9, .int (nI i)), (11, .int (nI (skp rt P mm ap))), (13, .int (nI (scn rt P mm (skp rt P mm ap)))), (14, .ref y)]) S.1 S.2.1 d_LAW_law_452 hl (k := 13) rfl (nI_1 j) (by decide) rfl (fun ls hl => ?_)
                refine lv_goto (tgt := 423) S.1 S.2.1 d_LAW_law_455 (by decide) ?_
                exact ih (j + 1) ls (by omega) (lv_sub hl [1, 2, 3, 4, 5, 6, 7, 8, 9, 10, 11, 12, 13, 0] rfl)
            exact loop ((scn rt P mm (skp rt P mm ap)) - (skp rt P mm ap)) 0 ls (by omega) (lv_sub hl [2, 3, 4, 5, 6, 7, 8, 9, 10, 11, 12, 13, 1, 0] rfl)
          have p384 : ∀ (ls : Array Slot), lv_has ls 16 [(0, .ref b), (1, .ref x), (2, .ref X2), (3, .ref X3), (4, .int (nI n)), (5, .int (nI mm)), (6, .int (nI ap)), (7, .int sg), (8, .int (bI rt)), (9, .int (nI i)), (11, .int (nI (skp rt P mm ap))), (13, .int (nI (rn (fun j => !P j) mm (skp rt P mm ap))))] → W p l e room_1 s m #[Value.ref b] below meth c H_121 locs ce sl (lw_Z below #[Value.ref b] s) (F0 m 384 ls []) := by
            intro ls hl
            cases rt with
            | false =>
              refine lv_iload S.1 S.2.1 d_LAW_law_384 (lv_at hl 8 rfl) ?_
              refine lv_if_eq (tgt := 399) S.1 S.2.1 d_LAW_law_386 (by decide) (fun _ => ?_) (fun c => absurd (rfl) c)
              exact p399 ls (lv_sub hl [0, 1, 2, 3, 4, 5, 6, 7, 8, 9, 10, 11] rfl)
            | true =>
              refine lv_iload S.1 S.2.1 d_LAW_law_384 (lv_at hl 8 rfl) ?_
              refine lv_if_eq (tgt := 399) S.1 S.2.1 d_LAW_law_386 (by decide) (fun c => absurd c (by decide)) (fun _ => ?_)
              refine lv_iload S.1 S.2.1 d_LAW_law_389 (lv_at hl 11 rfl) ?_
              refine lv_iload S.1 S.2.1 d_LAW_law_391 (lv_at hl 10 rfl) ?_
              have hrr1 := rn_in (P := (fun j => !P j)) (n := mm) (i := (skp true P mm ap)) (by omega)
              refine lv_icmp_ne (tgt := 399) S.1 S.2.1 d_LAW_law_393 (by decide) (fun cq => ?_) (fun cq => ?_)
              ·
                have hne : ¬ (rn (fun j => !P j) mm (skp true P mm ap)) = (skp true P mm ap) := fun h => cq (by rw [h])
                have esc : (scn true P mm (skp true P mm ap)) = (rn (fun j => !P j) mm (skp true P mm ap)) := by simp [scn, hne]
                exact p399 ls (by rw [esc]; exact lv_sub hl [0, 1, 2, 3, 4, 5, 6, 7, 8, 9, 10, 11] rfl)
              ·
                have heq : (rn (fun j => !P j) mm (skp true P mm ap)) = (skp true P mm ap) := (nI_eq (by omega) (by omega)).mp cq
                have esc : (scn true P mm (skp true P mm ap)) = (skp true P mm ap) + 1 := by simp [scn, heq]
                refine lv_iinc (v := nI ((scn true P mm (skp true P mm ap)))) (lv' := [(13, .int (nI ((scn true P mm (skp true P mm ap))))), (0, .ref b), (1, .ref x), (2, .ref X2), (3, .ref X3), (4, .int (nI n)), (5, .int (nI mm)), (6, .int (nI ap)), (7, .int sg), (8, .int (bI true)), (9, .int (nI i)), (11, .int (nI (skp true P mm ap)))]) S.1 S.2.1 d_LAW_law_396 hl (k := 11) rfl (by rw [esc, heq]; exact nI_1 _) (by decide) rfl (fun ls hl => ?_)
                exact p399 ls (lv_sub hl [1, 2, 3, 4, 5, 6, 7, 8, 9, 10, 11, 0] rfl)
          have loop359 : ∀ (z j : Nat) (ls : Array Slot), j + z = mm → rn (fun j => !P j) mm (skp rt P mm ap) = rn (fun j => !P j) mm j → lv_has ls 16 [(0, .ref b), (1, .ref x), (2, .ref X2), (3, .ref X3), (4, .int (nI n)), (5, .int (nI mm)), (6, .int (nI ap)), (7, .int sg), (8, .int (bI rt)), (9, .int (nI i)), (11, .int (nI (skp rt P mm ap))), (13, .int (nI j))] → W p l e room_1 s m #[Value.ref b] below meth c H_121 locs ce sl (lw_Z below #[Value.ref b] s) (F0 m 359 ls []) := by
            intro z
            induction z with
            | zero =>
              intro j ls hj hrn hl
              refine lv_iload S.1 S.2.1 d_LAW_law_359 (lv_at hl 11 rfl) ?_
              refine lv_iload S.1 S.2.1 d_LAW_law_361 (lv_at hl 5 rfl) ?_
              refine lv_icmp_ge (tgt := 384) S.1 S.2.1 d_LAW_law_363 (by decide) (fun _ => ?_) (fun c => absurd (nI_le (by omega) (by omega)) c)
              have hend : (rn (fun j => !P j) mm (skp rt P mm ap)) = j := by rw [hrn, rn_end (by omega)]
              exact p384 ls (by rw [hend]; exact lv_sub hl [0, 1, 2, 3, 4, 5, 6, 7, 8, 9, 10, 11] rfl)
            | succ z ih =>
              intro j ls hj hrn hl
              refine lv_iload S.1 S.2.1 d_LAW_law_359 (lv_at hl 11 rfl) ?_
              refine lv_iload S.1 S.2.1 d_LAW_law_361 (lv_at hl 5 rfl) ?_
              refine lv_icmp_ge (tgt := 384) S.1 S.2.1 d_LAW_law_363 (by decide) (fun c => absurd c (nI_ge (by omega) (by omega))) (fun _ => ?_)
              refine lv_aload_n S.1 S.2.1 d_LAW_law_366 rfl (lv_at hl 3 rfl) ?_
              refine lv_iload S.1 S.2.1 d_LAW_law_367 (lv_at hl 11 rfl) ?_
              refine q_cald S hK hP 5 rfl (i := j) (by omega) (by omega) d_LAW_law_369 ?_
              refine q_top (x' := nI (t1 j)) ((hfc j (by omega)).1) ?_
              refine lv_iload S.1 S.2.1 d_LAW_law_370 (lv_at hl 7 rfl) ?_
              refine vp_callSi (va_Run.run (rn_S S sc_LAW_42 (As := [.int (nI (t1 j)), .int sg]) (rest := []) (c_LAW_sign l (y := t1 j) (sg := sg) (hfc j (by omega)).2) (fun U hU hW => trivial) (Nat.le_of_ble_eq_true rfl) (Nat.le_of_ble_eq_true rfl) (by dsimp only [room_1]; omega) (by dsimp only [room_1]; omega) rfl hl.1 rfl (Nat.le_of_ble_eq_true rfl) d_LAW_law_372)) (fun r0 h0 => ?_)
              subst h0
              by_cases hs : P j = true
              ·
                have eb : bI (sgn sg (t1 j)) = 1 := by rw [← hPj j, hs]; rfl
                refine lv_if_ne (tgt := 384) S.1 S.2.1 d_LAW_law_375 (by decide) (fun _ => ?_) (fun c => absurd c ((by rw [eb]; decide)))
                have hend : (rn (fun j => !P j) mm (skp rt P mm ap)) = j := by rw [hrn, rn_stop (by simp [hs])]
                exact p384 ls (by rw [hend]; exact lv_sub hl [0, 1, 2, 3, 4, 5, 6, 7, 8, 9, 10, 11] rfl)
              ·
                have hs : P j = false := by simpa using hs
                have eb : bI (sgn sg (t1 j)) = 0 := by rw [← hPj j, hs]; rfl
                refine lv_if_ne (tgt := 384) S.1 S.2.1 d_LAW_law_375 (by decide) (fun c => absurd (eb) c) (fun _ => ?_)
                refine lv_iinc (v := nI (j + 1)) (lv' := [(13, .int (nI (j + 1))), (0, .ref b), (1, .ref x), (2, .ref X2), (3, .ref X3), (4, .int (nI n)), (5, .int (nI mm)), (6, .int (nI ap)), (7, .int sg), (8, .int (bI rt)), (9, .int (nI i)), (11, .int (nI (skp rt P mm ap)))]) S.1 S.2.1 d_LAW_law_378 hl (k := 11) rfl (nI_1 j) (by decide) rfl (fun ls hl => ?_)
                refine lv_goto (tgt := 359) S.1 S.2.1 d_LAW_law_381 (by decide) ?_
                exact ih (j + 1) ls (by omega) (by rw [hrn, rn_step (by omega) (by simp [hs])]) (lv_sub hl [1, 2, 3, 4, 5, 6, 7, 8, 9, 10, 11, 0] rfl)
          exact loop359 (mm - (skp rt P mm ap)) (skp rt P mm ap) ls (by omega) rfl (lv_sub hl [1, 2, 3, 4, 5, 6, 7, 8, 9, 10, 11, 0] rfl)
        ·
          refine lv_icmp_ge (tgt := 538) S.1 S.2.1 d_LAW_law_352 (by decide) (fun _ => ?_) (fun c => absurd (nI_le (by omega) (by omega)) c)
          exact K _ _ _ _ _ _ _ _ n mm ap _ _ _ (uc + 1) tc _ _ _ _ sg _ _ _ _ _ _ _ _ _ ls hP hD hS hza hzb (⟨htx, hft, hmL, hfc, hap, hmx, hdm, hPd, by omega, hnt, hmt, hcp, by omega, by omega⟩) (lv_sub hl [0, 1, 2, 3, 4, 5, 6, 7, 8, 9] rfl)
      refine lv_iconst (v := 0) S.1 S.2.1 d_LAW_law_239 (by decide) ?_
      refine lv_istore (lv' := [(12, .int 0), (0, .ref b), (1, .ref x), (2, .ref X2), (3, .ref X3), (4, .int (nI n)), (5, .int (nI mm)), (6, .int (nI ap)), (7, .int sg), (8, .int (bI rt)), (9, .int (nI i)), (11, .int (nI (skp rt P mm ap)))]) S.1 S.2.1 d_LAW_law_240 hl (by decide) rfl (fun ls hl => ?_)
      refine lv_iload S.1 S.2.1 d_LAW_law_242 (lv_at hl 11 rfl) ?_
      refine lv_istore (lv' := [(13, .int (nI (skp rt P mm ap))), (12, .int 0), (0, .ref b), (1, .ref x), (2, .ref X2), (3, .ref X3), (4, .int (nI n)), (5, .int (nI mm)), (6, .int (nI ap)), (7, .int sg), (8, .int (bI rt)), (9, .int (nI i)), (11, .int (nI (skp rt P mm ap)))]) S.1 S.2.1 d_LAW_law_244 hl (by decide) rfl (fun ls hl => ?_)
      have loop246 : ∀ (z qq cl : Nat) (ls : Array Slot), mm - qq < z → qq ≤ mm → skp rt P mm qq = qq → cl + cnt rt P mm qq = (cnt rt P mm ap) → lv_has ls 16 [(0, .ref b), (1, .ref x), (2, .ref X2), (3, .ref X3), (4, .int (nI n)), (5, .int (nI mm)), (6, .int (nI ap)), (7, .int sg), (8, .int (bI rt)), (9, .int (nI i)), (11, .int (nI (skp rt P mm ap))), (12, .int (nI cl)), (13, .int (nI qq))] → W p l e room_1 s m #[Value.ref b] below meth c H_121 locs ce sl (lw_Z below #[Value.ref b] s) (F0 m 246 ls []) := by
        intro z
        induction z with
        | zero => intro qq cl ls hz; omega
        | succ z ih246 =>
          intro qq cl ls hz hq hsq hcl hl
          refine lv_iload S.1 S.2.1 d_LAW_law_246 (lv_at hl 12 rfl) ?_
          refine lv_iload S.1 S.2.1 d_LAW_law_248 (lv_at hl 5 rfl) ?_
          by_cases hlt : qq < mm
          ·
            refine lv_icmp_ge (tgt := 337) S.1 S.2.1 d_LAW_law_250 (by decide) (fun c => absurd c (nI_ge hlt (by omega))) (fun _ => ?_)
            have hsc := scn_in (ret := rt) (P := P) hlt (fun hr0 => by have := skp_P hq (by rw [hsq]; exact hlt) hr0; rwa [hsq] at this)
            have hsk2 := skp_in (ret := rt) (P := P) hsc.2
            have hcs := cnt_step (ret := rt) (P := P) hq (by rw [hsq]; exact hlt)
            rw [hsq] at hcs
            have p246 : ∀ (ls : Array Slot), lv_has ls 16 [(0, .ref b), (1, .ref x), (2, .ref X2), (3, .ref X3), (4, .int (nI n)), (5, .int (nI mm)), (6, .int (nI ap)), (7, .int sg), (8, .int (bI rt)), (9, .int (nI i)), (11, .int (nI (skp rt P mm ap))), (12, .int (nI (cl + 1))), (13, .int (nI (skp rt P mm (scn rt P mm qq))))] → W p l e room_1 s m #[Value.ref b] below meth c H_121 locs ce sl (lw_Z below #[Value.ref b] s) (F0 m 246 ls []) := fun ls hl => ih246 (skp rt P mm (scn rt P mm qq)) (cl + 1) ls (by omega) hsk2.2 (skp_skp hsc.2) (by rw [cnt_skp hsc.2]; omega) hl
            have p304 : ∀ (ls : Array Slot), lv_has ls 16 [(0, .ref b), (1, .ref x), (2, .ref X2), (3, .ref X3), (4, .int (nI n)), (5, .int (nI mm)), (6, .int (nI ap)), (7, .int sg), (8, .int (bI rt)), (9, .int (nI i)), (11, .int (nI (skp rt P mm ap))), (12, .int (nI (cl + 1))), (13, .int (nI (scn rt P mm qq)))] → W p l e room_1 s m #[Value.ref b] below meth c H_121 locs ce sl (lw_Z below #[Value.ref b] s) (F0 m 304 ls []) := by
              intro ls hl
              cases rt with
              | true =>
                refine lv_iload S.1 S.2.1 d_LAW_law_304 (lv_at hl 8 rfl) ?_
                refine lv_if_ne (tgt := 334) S.1 S.2.1 d_LAW_law_306 (by decide) (fun _ => ?_) (fun c => absurd c (by decide))
                refine lv_goto (tgt := 246) S.1 S.2.1 d_LAW_law_334 (by decide) ?_
                exact p246 ls (lv_sub hl [0, 1, 2, 3, 4, 5, 6, 7, 8, 9, 10, 11, 12] rfl)
              | false =>
                have loop304 : ∀ (z j : Nat) (ls : Array Slot), j + z = mm → rn P mm (scn false P mm qq) = rn P mm j → lv_has ls 16 [(0, .ref b), (1, .ref x), (2, .ref X2), (3, .ref X3), (4, .int (nI n)), (5, .int (nI mm)), (6, .int (nI ap)), (7, .int sg), (8, .int (bI false)), (9, .int (nI i)), (11, .int (nI (skp false P mm ap))), (12, .int (nI (cl + 1))), (13, .int (nI j))] → W p l e room_1 s m #[Value.ref b] below meth c H_121 locs ce sl (lw_Z below #[Value.ref b] s) (F0 m 304 ls []) := by
                  intro z
                  induction z with
                  | zero =>
                    intro j ls hj hrn hl
                    refine lv_iload S.1 S.2.1 d_LAW_law_304 (lv_at hl 8 rfl) ?_
                    refine lv_if_ne (tgt := 334) S.1 S.2.1 d_LAW_law_306 (by decide) (fun c => absurd (rfl) c) (fun _ => ?_)
                    refine lv_iload S.1 S.2.1 d_LAW_law_309 (lv_at hl 12 rfl) ?_
                    refine lv_iload S.1 S.2.1 d_LAW_law_311 (lv_at hl 5 rfl) ?_
                    refine lv_icmp_ge (tgt := 334) S.1 S.2.1 d_LAW_law_313 (by decide) (fun _ => ?_) (fun c => absurd (nI_le (by omega) (by omega)) c)
                    have hend : rn P mm (scn false P mm qq) = j := by rw [hrn, rn_end (by omega)]
                    refine lv_goto (tgt := 246) S.1 S.2.1 d_LAW_law_334 (by decide) ?_
                    exact p246 ls (by show lv_has ls 16 [(0, .ref b), (1, .ref x), (2, .ref X2), (3, .ref X3), (4, .int (nI n)), (5, .int (nI mm)), (6, .int (nI ap)), (7, .int sg), (8, .int (bI false)), (9, .int (nI i)), (11, .int (nI (skp false P mm ap))), (12, .int (nI (cl + 1))), (13, .int (nI (rn P mm (scn false P mm qq))))]; rw [hend]; exact lv_sub hl [0, 1, 2, 3, 4, 5, 6, 7, 8, 9, 10, 11, 12] rfl)
                  | succ z ih =>
                    intro j ls hj hrn hl
                    refine lv_iload S.1 S.2.1 d_LAW_law_304 (lv_at hl 8 rfl) ?_
                    refine lv_if_ne (tgt := 334) S.1 S.2.1 d_LAW_law_306 (by decide) (fun c => absurd (rfl) c) (fun _ => ?_)
                    refine lv_iload S.1 S.2.1 d_LAW_law_309 (lv_at hl 12 rfl) ?_
                    refine lv_iload S.1 S.2.1 d_LAW_law_311 (lv_at hl 5 rfl) ?_
                    refine lv_icmp_ge (tgt := 334) S.1 S.2.1 d_LAW_law_313 (by decide) (fun c => absurd c (nI_ge (by omega) (by omega))) (fun _ => ?_)
                    refine lv_aload_n S.1 S.2.1 d_LAW_law_316 rfl (lv_at hl 3 rfl) ?_
                    refine lv_iload S.1 S.2.1 d_LAW_law_317 (lv_at hl 12 rfl) ?_
                    refine q_cald S hK hP 5 rfl (i := j) (by omega) (by omega) d_LAW_law_319 ?_
                    refine q_top (x' := nI (t1 j)) ((hfc j (by omega)).1) ?_
                    refine lv_iload S.1 S.2.1 d_LAW_law_320 (lv_at hl 7 rfl) ?_
                    refine vp_callSi (va_Run.run (rn_S S sc_LAW_42 (As := [.int (nI (t1 j)), .int sg]) (rest := []) (c_LAW_sign l (y := t1 j) (sg := sg) (hfc j (by omega)).2) (fun U hU hW => trivial) (Nat.le_of_ble_eq_true rfl) (Nat.le_of_ble_eq_true rfl) (by dsimp only [room_1]; omega) (by dsimp only [room_1]; omega) rfl hl.1 rfl (Nat.le_of_ble_eq_true rfl) d_LAW_law_322)) (fun r0 h0 => ?_)
                    subst h0
                    by_cases hs : P j = true
                    ·
                      have eb : bI (sgn sg (t1 j)) = 1 := by rw [← hPj j, hs]; rfl
                      refine lv_if_eq (tgt := 334) S.1 S.2.1 d_LAW_law_325 (by decide) (fun c => absurd c ((by rw [eb]; decide))) (fun _ => ?_)
                      refine lv_iinc (v := nI (j + 1)) (lv' := [(13, .int (nI (j + 1))), (0, .ref b), (1, .ref x), (2, .ref X2), (3, .ref X3), (4, .int (nI n)), (5, .int (nI mm)), (6, .int (nI ap)), (7, .int sg), (8, .int (bI false)), (9, .int (nI i)), (11, .int (nI (skp false P mm ap))), (12, .int (nI (cl + 1)))]) S.1 S.2.1 d_LAW_law_328 hl (k := 12) rfl (nI_1 j) (by decide) rfl (fun ls hl => ?_)
                      refine lv_goto (tgt := 304) S.1 S.2.1 d_LAW_law_331 (by decide) ?_
                      exact ih (j + 1) ls (by omega) (by rw [hrn, rn_step (by omega) (by simp [hs])]) (lv_sub hl [1, 2, 3, 4, 5, 6, 7, 8, 9, 10, 11, 12, 0] rfl)
                    ·
                      have hs : P j = false := by simpa using hs
                      have eb : bI (sgn sg (t1 j)) = 0 := by rw [← hPj j, hs]; rfl
                      refine lv_if_eq (tgt := 334) S.1 S.2.1 d_LAW_law_325 (by decide) (fun _ => ?_) (fun c => absurd (eb) c)
                      have hend : rn P mm (scn false P mm qq) = j := by rw [hrn, rn_stop (by simp [hs])]
                      refine lv_goto (tgt := 246) S.1 S.2.1 d_LAW_law_334 (by decide) ?_
                      exact p246 ls (by show lv_has ls 16 [(0, .ref b), (1, .ref x), (2, .ref X2), (3, .ref X3), (4, .int (nI n)), (5, .int (nI mm)), (6, .int (nI ap)), (7, .int sg), (8, .int (bI false)), (9, .int (nI i)), (11, .int (nI (skp false P mm ap))), (12, .int (nI (cl + 1))), (13, .int (nI (rn P mm (scn false P mm qq))))]; rw [hend]; exact lv_sub hl [0, 1, 2, 3, 4, 5, 6, 7, 8, 9, 10, 11, 12] rfl)
                exact loop304 (mm - (scn false P mm qq)) (scn false P mm qq) ls (by omega) rfl (lv_sub hl [0, 1, 2, 3, 4, 5, 6, 7, 8, 9, 10, 11, 12] rfl)
            have p297 : ∀ (ls : Array Slot), lv_has ls 16 [(0, .ref b), (1, .ref x), (2, .ref X2), (3, .ref X3), (4, .int (nI n)), (5, .int (nI mm)), (6, .int (nI ap)), (7, .int sg), (8, .int (bI rt)), (9, .int (nI i)), (11, .int (nI (skp rt P mm ap))), (12, .int (nI cl)), (13, .int (nI qq)), (14, .int (nI (scn rt P mm qq)))] → W p l e room_1 s m #[Value.ref b] below meth c H_121 locs ce sl (lw_Z below #[Value.ref b] s) (F0 m 297 ls []) := by
              intro ls hl
              refine lv_iinc (v := nI (cl + 1)) (lv' := [(12, .int (nI (cl + 1))), (0, .ref b), (1, .ref x), (2, .ref X2), (3, .ref X3), (4, .int (nI n)), (5, .int (nI mm)), (6, .int (nI ap)), (7, .int sg), (8, .int (bI rt)), (9, .int (nI i)), (11, .int (nI (skp rt P mm ap))), (13, .int (nI qq)), (14, .int (nI (scn rt P mm qq)))]) S.1 S.2.1 d_LAW_law_297 hl (k := 11) rfl (nI_1 cl) (by decide) rfl (fun ls hl => ?_)
              refine lv_iload S.1 S.2.1 d_LAW_law_300 (lv_at hl 13 rfl) ?_
              refine lv_istore (lv' := [(13, .int (nI (scn rt P mm qq))), (12, .int (nI (cl + 1))), (0, .ref b), (1, .ref x), (2, .ref X2), (3, .ref X3), (4, .int (nI n)), (5, .int (nI mm)), (6, .int (nI ap)), (7, .int sg), (8, .int (bI rt)), (9, .int (nI i)), (11, .int (nI (skp rt P mm ap))), (14, .int (nI (scn rt P mm qq)))]) S.1 S.2.1 d_LAW_law_302 hl (by decide) rfl (fun ls hl => ?_)
              exact p304 ls (lv_sub hl [2, 3, 4, 5, 6, 7, 8, 9, 10, 11, 12, 1, 0] rfl)
            have p282 : ∀ (ls : Array Slot), lv_has ls 16 [(0, .ref b), (1, .ref x), (2, .ref X2), (3, .ref X3), (4, .int (nI n)), (5, .int (nI mm)), (6, .int (nI ap)), (7, .int sg), (8, .int (bI rt)), (9, .int (nI i)), (11, .int (nI (skp rt P mm ap))), (12, .int (nI cl)), (13, .int (nI qq)), (14, .int (nI (rn (fun j => !P j) mm qq)))] → W p l e room_1 s m #[Value.ref b] below meth c H_121 locs ce sl (lw_Z below #[Value.ref b] s) (F0 m 282 ls []) := by
              intro ls hl
              cases rt with
              | false =>
                refine lv_iload S.1 S.2.1 d_LAW_law_282 (lv_at hl 8 rfl) ?_
                refine lv_if_eq (tgt := 297) S.1 S.2.1 d_LAW_law_284 (by decide) (fun _ => ?_) (fun c => absurd (rfl) c)
                exact p297 ls (lv_sub hl [0, 1, 2, 3, 4, 5, 6, 7, 8, 9, 10, 11, 12, 13] rfl)
              | true =>
                refine lv_iload S.1 S.2.1 d_LAW_law_282 (lv_at hl 8 rfl) ?_
                refine lv_if_eq (tgt := 297) S.1 S.2.1 d_LAW_law_284 (by decide) (fun c => absurd c (by decide)) (fun _ => ?_)
                refine lv_iload S.1 S.2.1 d_LAW_law_287 (lv_at hl 13 rfl) ?_
                refine lv_iload S.1 S.2.1 d_LAW_law_289 (lv_at hl 12 rfl) ?_
                have hrr1 := rn_in (P := (fun j => !P j)) (n := mm) (i := qq) (by omega)
                refine lv_icmp_ne (tgt := 297) S.1 S.2.1 d_LAW_law_291 (by decide) (fun cq => ?_) (fun cq => ?_)
                ·
                  have hne : ¬ (rn (fun j => !P j) mm qq) = qq := fun h => cq (by rw [h])
                  have esc : (scn true P mm qq) = (rn (fun j => !P j) mm qq) := by simp [scn, hne]
                  exact p297 ls (by rw [esc]; exact lv_sub hl [0, 1, 2, 3, 4, 5, 6, 7, 8, 9, 10, 11, 12, 13] rfl)
                ·
                  have heq : (rn (fun j => !P j) mm qq) = qq := (nI_eq (by omega) (by omega)).mp cq
                  have esc : (scn true P mm qq) = qq + 1 := by simp [scn, heq]
                  refine lv_iinc (v := nI ((scn true P mm qq))) (lv' := [(14, .int (nI ((scn true P mm qq)))), (0, .ref b), (1, .ref x), (2, .ref X2), (3, .ref X3), (4, .int (nI n)), (5, .int (nI mm)), (6, .int (nI ap)), (7, .int sg), (8, .int (bI true)), (9, .int (nI i)), (11, .int (nI (skp true P mm ap))), (12, .int (nI cl)), (13, .int (nI qq))]) S.1 S.2.1 d_LAW_law_294 hl (k := 13) rfl (by rw [esc, heq]; exact nI_1 _) (by decide) rfl (fun ls hl => ?_)
                  exact p297 ls (lv_sub hl [1, 2, 3, 4, 5, 6, 7, 8, 9, 10, 11, 12, 13, 0] rfl)
            refine lv_iload S.1 S.2.1 d_LAW_law_253 (lv_at hl 12 rfl) ?_
            refine lv_istore (lv' := [(14, .int (nI qq)), (0, .ref b), (1, .ref x), (2, .ref X2), (3, .ref X3), (4, .int (nI n)), (5, .int (nI mm)), (6, .int (nI ap)), (7, .int sg), (8, .int (bI rt)), (9, .int (nI i)), (11, .int (nI (skp rt P mm ap))), (12, .int (nI cl)), (13, .int (nI qq))]) S.1 S.2.1 d_LAW_law_255 hl (by decide) rfl (fun ls hl => ?_)
            have loop257 : ∀ (z j : Nat) (ls : Array Slot), j + z = mm → rn (fun j => !P j) mm qq = rn (fun j => !P j) mm j → lv_has ls 16 [(0, .ref b), (1, .ref x), (2, .ref X2), (3, .ref X3), (4, .int (nI n)), (5, .int (nI mm)), (6, .int (nI ap)), (7, .int sg), (8, .int (bI rt)), (9, .int (nI i)), (11, .int (nI (skp rt P mm ap))), (12, .int (nI cl)), (13, .int (nI qq)), (14, .int (nI j))] → W p l e room_1 s m #[Value.ref b] below meth c H_121 locs ce sl (lw_Z below #[Value.ref b] s) (F0 m 257 ls []) := by
              intro z
              induction z with
              | zero =>
                intro j ls hj hrn hl
                refine lv_iload S.1 S.2.1 d_LAW_law_257 (lv_at hl 13 rfl) ?_
                refine lv_iload S.1 S.2.1 d_LAW_law_259 (lv_at hl 5 rfl) ?_
                refine lv_icmp_ge (tgt := 282) S.1 S.2.1 d_LAW_law_261 (by decide) (fun _ => ?_) (fun c => absurd (nI_le (by omega) (by omega)) c)
                have hend : (rn (fun j => !P j) mm qq) = j := by rw [hrn, rn_end (by omega)]
                exact p282 ls (by rw [hend]; exact lv_sub hl [0, 1, 2, 3, 4, 5, 6, 7, 8, 9, 10, 11, 12, 13] rfl)
              | succ z ih =>
                intro j ls hj hrn hl
                refine lv_iload S.1 S.2.1 d_LAW_law_257 (lv_at hl 13 rfl) ?_
                refine lv_iload S.1 S.2.1 d_LAW_law_259 (lv_at hl 5 rfl) ?_
                refine lv_icmp_ge (tgt := 282) S.1 S.2.1 d_LAW_law_261 (by decide) (fun c => absurd c (nI_ge (by omega) (by omega))) (fun _ => ?_)
                refine lv_aload_n S.1 S.2.1 d_LAW_law_264 rfl (lv_at hl 3 rfl) ?_
                refine lv_iload S.1 S.2.1 d_LAW_law_265 (lv_at hl 13 rfl) ?_
                refine q_cald S hK hP 5 rfl (i := j) (by omega) (by omega) d_LAW_law_267 ?_
                refine q_top (x' := nI (t1 j)) ((hfc j (by omega)).1) ?_
                refine lv_iload S.1 S.2.1 d_LAW_law_268 (lv_at hl 7 rfl) ?_
                refine vp_callSi (va_Run.run (rn_S S sc_LAW_42 (As := [.int (nI (t1 j)), .int sg]) (rest := []) (c_LAW_sign l (y := t1 j) (sg := sg) (hfc j (by omega)).2) (fun U hU hW => trivial) (Nat.le_of_ble_eq_true rfl) (Nat.le_of_ble_eq_true rfl) (by dsimp only [room_1]; omega) (by dsimp only [room_1]; omega) rfl hl.1 rfl (Nat.le_of_ble_eq_true rfl) d_LAW_law_270)) (fun r0 h0 => ?_)
                subst h0
                by_cases hs : P j = true
                ·
                  have eb : bI (sgn sg (t1 j)) = 1 := by rw [← hPj j, hs]; rfl
                  refine lv_if_ne (tgt := 282) S.1 S.2.1 d_LAW_law_273 (by decide) (fun _ => ?_) (fun c => absurd c ((by rw [eb]; decide)))
                  have hend : (rn (fun j => !P j) mm qq) = j := by rw [hrn, rn_stop (by simp [hs])]
                  exact p282 ls (by rw [hend]; exact lv_sub hl [0, 1, 2, 3, 4, 5, 6, 7, 8, 9, 10, 11, 12, 13] rfl)
                ·
                  have hs : P j = false := by simpa using hs
                  have eb : bI (sgn sg (t1 j)) = 0 := by rw [← hPj j, hs]; rfl
                  refine lv_if_ne (tgt := 282) S.1 S.2.1 d_LAW_law_273 (by decide) (fun c => absurd (eb) c) (fun _ => ?_)
                  refine lv_iinc (v := nI (j + 1)) (lv' := [(14, .int (nI (j + 1))), (0, .ref b), (1, .ref x), (2, .ref X2), (3, .ref X3), (4, .int (nI n)), (5, .int (nI mm)), (6, .int (nI ap)), (7, .int sg), (8, .int (bI rt)), (9, .int (nI i)), (11, .int (nI (skp rt P mm ap))), (12, .int (nI cl)), (13, .int (nI qq))]) S.1 S.2.1 d_LAW_law_276 hl (k := 13) rfl (nI_1 j) (by decide) rfl (fun ls hl => ?_)
                  refine lv_goto (tgt := 257) S.1 S.2.1 d_LAW_law_279 (by decide) ?_
                  exact ih (j + 1) ls (by omega) (by rw [hrn, rn_step (by omega) (by simp [hs])]) (lv_sub hl [1, 2, 3, 4, 5, 6, 7, 8, 9, 10, 11, 12, 13, 0] rfl)
            exact loop257 (mm - qq) qq ls (by omega) rfl (lv_sub hl [1, 2, 3, 4, 5, 6, 7, 8, 9, 10, 11, 12, 13, 0] rfl)
          ·
            refine lv_icmp_ge (tgt := 337) S.1 S.2.1 d_LAW_law_250 (by decide) (fun _ => ?_) (fun c => absurd (nI_le (by omega) (by omega)) c)
            have hc0 : cl = (cnt rt P mm ap) := by rw [← hcl, cnt_end (by omega)]; rfl
            exact p337 ls (by rw [← hc0]; exact lv_sub hl [0, 1, 2, 3, 4, 5, 6, 7, 8, 9, 10, 11] rfl)
      exact loop246 (mm - (skp rt P mm ap) + 1) (skp rt P mm ap) 0 ls (by omega) hsk.2 (skp_skp hap) (by rw [cnt_skp hap, Nat.zero_add]) (lv_sub hl [2, 3, 4, 5, 6, 7, 8, 9, 10, 11, 12, 1, 0] rfl)
    refine lv_iload S.1 S.2.1 d_LAW_law_222 (lv_at hl 10 rfl) ?_
    refine lv_iload S.1 S.2.1 d_LAW_law_224 (lv_at hl 5 rfl) ?_
    by_cases hJ : (skp rt P mm ap) < mm
    ·
      refine lv_icmp_ge (tgt := 233) S.1 S.2.1 d_LAW_law_226 (by decide) (fun c => absurd c (nI_ge hJ (by omega))) (fun _ => ?_)
      refine lv_iconst (v := 1) S.1 S.2.1 d_LAW_law_229 (by decide) ?_
      refine lv_goto (tgt := 234) S.1 S.2.1 d_LAW_law_230 (by decide) ?_
      refine lv_icmp_eq (tgt := 239) S.1 S.2.1 d_LAW_law_234 (by decide) (fun _ => ?_) (fun c => absurd (by simp [hJ, bI]) c)
      exact p239
    ·
      refine lv_icmp_ge (tgt := 233) S.1 S.2.1 d_LAW_law_226 (by decide) (fun _ => ?_) (fun c => absurd (nI_le (by omega) (by omega)) c)
      refine lv_iconst (v := 0) S.1 S.2.1 d_LAW_law_233 (by decide) ?_
      refine lv_icmp_eq (tgt := 239) S.1 S.2.1 d_LAW_law_234 (by decide) (fun _ => ?_) (fun c => absurd (by simp [hJ, bI]) c)
      exact p239
  cases rt with
  | true =>
    refine lv_iload S.1 S.2.1 d_LAW_law_188 (lv_at hl 9 rfl) ?_
    refine lv_if_ne (tgt := 218) S.1 S.2.1 d_LAW_law_190 (by decide) (fun _ => ?_) (fun c => absurd c (by decide))
    exact p218 ls (lv_sub hl [1, 2, 3, 4, 5, 6, 7, 8, 9, 10, 0] rfl)
  | false =>
    have loop188 : ∀ (z j : Nat) (ls : Array Slot), j + z = mm → rn P mm ap = rn P mm j → lv_has ls 16 [(0, .ref b), (1, .ref x), (2, .ref X2), (3, .ref X3), (4, .int (nI n)), (5, .int (nI mm)), (6, .int (nI ap)), (7, .int sg), (8, .int (bI false)), (9, .int (nI i)), (11, .int (nI j))] → W p l e room_1 s m #[Value.ref b] below meth c H locs ce sl (lw_Z below #[Value.ref b] s) (F0 m 188 ls []) := by
      intro z
      induction z with
      | zero =>
        intro j ls hj hrn hl
        refine lv_iload S.1 S.2.1 d_LAW_law_188 (lv_at hl 8 rfl) ?_
        refine lv_if_ne (tgt := 218) S.1 S.2.1 d_LAW_law_190 (by decide) (fun c => absurd (rfl) c) (fun _ => ?_)
        refine lv_iload S.1 S.2.1 d_LAW_law_193 (lv_at hl 10 rfl) ?_
        refine lv_iload S.1 S.2.1 d_LAW_law_195 (lv_at hl 5 rfl) ?_
        refine lv_icmp_ge (tgt := 218) S.1 S.2.1 d_LAW_law_197 (by decide) (fun _ => ?_) (fun c => absurd (nI_le (by omega) (by omega)) c)
        have hend : rn P mm ap = j := by rw [hrn, rn_end (by omega)]
        exact p218 ls (by show lv_has ls 16 [(0, .ref b), (1, .ref x), (2, .ref X2), (3, .ref X3), (4, .int (nI n)), (5, .int (nI mm)), (6, .int (nI ap)), (7, .int sg), (8, .int (bI false)), (9, .int (nI i)), (11, .int (nI (rn P mm ap)))]; rw [hend]; exact lv_sub hl [0, 1, 2, 3, 4, 5, 6, 7, 8, 9, 10] rfl)
      | succ z ih =>
        intro j ls hj hrn hl
        refine lv_iload S.1 S.2.1 d_LAW_law_188 (lv_at hl 8 rfl) ?_
        refine lv_if_ne (tgt := 218) S.1 S.2.1 d_LAW_law_190 (by decide) (fun c => absurd (rfl) c) (fun _ => ?_)
        refine lv_iload S.1 S.2.1 d_LAW_law_193 (lv_at hl 10 rfl) ?_
        refine lv_iload S.1 S.2.1 d_LAW_law_195 (lv_at hl 5 rfl) ?_
        refine lv_icmp_ge (tgt := 218) S.1 S.2.1 d_LAW_law_197 (by decide) (fun c => absurd c (nI_ge (by omega) (by omega))) (fun _ => ?_)
        refine lv_aload_n S.1 S.2.1 d_LAW_law_200 rfl (lv_at hl 3 rfl) ?_
        refine lv_iload S.1 S.2.1 d_LAW_law_201 (lv_at hl 10 rfl) ?_
        refine q_cald S hK hP 5 rfl (i := j) (by omega) (by omega) d_LAW_law_203 ?_
        refine q_top (x' := nI (t1 j)) ((hfc j (by omega)).1) ?_
        refine lv_iload S.1 S.2.1 d_LAW_law_204 (lv_at hl 7 rfl) ?_
        refine vp_callSi (va_Run.run (rn_S S sc_LAW_42 (As := [.int (nI (t1 j)), .int sg]) (rest := []) (c_LAW_sign l (y := t1 j) (sg := sg) (hfc j (by omega)).2) (fun U hU hW => trivial) (Nat.le_of_ble_eq_true rfl) (Nat.le_of_ble_eq_true rfl) (by dsimp only [room_1]; omega) (by dsimp only [room_1]; omega) rfl hl.1 rfl (Nat.le_of_ble_eq_true rfl) d_LAW_law_206)) (fun r0 h0 => ?_)
        subst h0
        by_cases hs : P j = true
        ·
          have eb : bI (sgn sg (t1 j)) = 1 := by rw [← hPj j, hs]; rfl
          refine lv_if_eq (tgt := 218) S.1 S.2.1 d_LAW_law_209 (by decide) (fun c => absurd c ((by rw [eb]; decide))) (fun _ => ?_)
          refine lv_iinc (v := nI (j + 1)) (lv' := [(11, .int (nI (j + 1))), (0, .ref b), (1, .ref x), (2, .ref X2), (3, .ref X3), (4, .int (nI n)), (5, .int (nI mm)), (6, .int (nI ap)), (7, .int sg), (8, .int (bI false)), (9, .int (nI i))]) S.1 S.2.1 d_LAW_law_212 hl (k := 10) rfl (nI_1 j) (by decide) rfl (fun ls hl => ?_)
          refine lv_goto (tgt := 188) S.1 S.2.1 d_LAW_law_215 (by decide) ?_
          exact ih (j + 1) ls (by omega) (by rw [hrn, rn_step (by omega) (by simp [hs])]) (lv_sub hl [1, 2, 3, 4, 5, 6, 7, 8, 9, 10, 0] rfl)
        ·
          have hs : P j = false := by simpa using hs
          have eb : bI (sgn sg (t1 j)) = 0 := by rw [← hPj j, hs]; rfl
          refine lv_if_eq (tgt := 218) S.1 S.2.1 d_LAW_law_209 (by decide) (fun _ => ?_) (fun c => absurd (eb) c)
          have hend : rn P mm ap = j := by rw [hrn, rn_stop (by simp [hs])]
          exact p218 ls (by show lv_has ls 16 [(0, .ref b), (1, .ref x), (2, .ref X2), (3, .ref X3), (4, .int (nI n)), (5, .int (nI mm)), (6, .int (nI ap)), (7, .int sg), (8, .int (bI false)), (9, .int (nI i)), (11, .int (nI (rn P mm ap)))]; rw [hend]; exact lv_sub hl [0, 1, 2, 3, 4, 5, 6, 7, 8, 9, 10] rfl)
    exact loop188 (mm - ap) ap ls (by omega) rfl (lv_sub hl [1, 2, 3, 4, 5, 6, 7, 8, 9, 10, 0] rfl)
end
section
/-- a String constant of at most one sign -/
theorem cst {s : State} {args : Array Value} {own : String} {idx n : Nat} (y : Nat) (hn : n ≤ 1) (hy : y < 128) (hex : (Cond.exactly (.string own idx) "java/lang/String").before args s = true) (hco : (Cond.eq (.field (.string own idx) "java/lang/String" "coder" "B") (.int 0)).before args s = true) (har : (Cond.arrayOf (.field (.string own idx) "java/lang/String" "value" "[B") .byte).before args s = true)
    (hle : (Cond.eq (.length (.field (.string own idx) "java/lang/String" "value" "[B")) (.int (Int32.ofNat n))).before args s = true) (hel : 0 < n → (Cond.eq (.elem (.field (.string own idx) "java/lang/String" "value" "[B") (.int 0)) (.int (nI y))).before args s = true) : ∃ a, (Term.string own idx).eval args s none [] s = some (.ref a) ∧ zs a n (fun _ => y) (AL s) s s.heap := by
  obtain ⟨adK, adV, hS, hev⟩ := vk_Sof (args := args) (s := s) (N := 1) (tm := fun _ => .string own idx) (len := [n]) (byt := [[nI y]]) (A := AL s)
    (fun i hi => by have : i = 0 := by omega
                    subst this; show n < 2 ^ 31; omega)
    (fun i hi => hex) (fun i hi => hco) (fun i hi => har)
    (fun i hi => by have : i = 0 := by omega
                    subst this; exact hle)
    (fun i hi j hj => by
      have : i = 0 := by omega
      subst this
      have hjn : j < n := hj
      have : j = 0 := by omega
      subst this
      exact hel (by omega))
    (fun i j hi hj hij => absurd hij (by omega)) (fun a h => Nat.not_le.mpr h)
  obtain ⟨h1, h2, h3, h4⟩ := hS.1 0 (by omega)
  obtain ⟨cell, g1, g2, g3, g4, g5, g6, g7⟩ := h4
  refine ⟨adK 0, hev 0 (by omega), adV 0, ⟨h1, h2, h3⟩, ⟨⟨cell, g1, g2, g3, g4, g5, fun j hj => ?_, g7⟩, by omega, fun j hj => as_fit y hy⟩, fun j hj => hy⟩
  have hj0 : j = 0 := by omega
  subst hj0
  exact g6 0 hj
set_option maxHeartbeats 8000000 in
set_option maxRecDepth 100000 in
/-- THE LAW'S LOOP -/
theorem lw_loop {p : Program} {l : Launch} {e : Env} {s : State} {m : MethodId} {below : List Frame} {meth : Method} {c : Code} {b L : Nat} {xs : Nat → Int32} {D : va_G} {cB cC : ClassId} {c0 c1 c2 c3 : Nat} (C : LC p s m meth c b L xs D cB cC c0 c1 c2 c3) : ∀ (z i : Nat), i ≤ L → L + 1 ≤ i + z → HD p l e s m below meth c b L D cB cC 36 i i := by
  intro z
  induction z with
  | zero => intro i h1 h2; omega
  | succ z ih =>
    intro i hi1 hi2 x h v q a b2 X2 X3 n mm ap cap k mx uc tc ce sl ml np sg rt f ft fc tx t1 dl H locs ls hP hD hS hza hzb hok hl
    have C0 := C
    obtain ⟨S, hrr, hlk, hX, hbl, hL, hE, -⟩ := C0
    have hbA : ¬ AL s b := Nat.not_le.mpr hbl
    refine lv_iload S.1 S.2.1 d_LAW_law_36 (lv_at hl 9 rfl) ?_
    refine lv_aload_n S.1 S.2.1 d_LAW_law_38 rfl (lv_at hl 0 rfl) ?_
    refine va_slen S.1 S.2.1 hX hbl hbA hS d_LAW_law_39 ?_
    refine q_top (x' := nI L) rfl ?_
    refine lv_icmp_ge (tgt := 544) S.1 S.2.1 d_LAW_law_40 (by decide) (fun cc => ?_) (fun cc => ?_)
    ·
      obtain ⟨htx, hft, hmL, hfc, hap, hmx, hdm, hPd, hut, hnt, hmt, hcp, hce, hsl⟩ := hok
      have hul := ut_le (u := uc) (t := tc) (by omega)
      refine lv_iconst (v := 1) S.1 S.2.1 d_LAW_law_544 (by decide) ?_
      refine va_forget (fun q hq => hS.2.2 q hq) ?_
      refine W.widen (k := 600000) (n := 7302250) (by omega) (by omega) ?_
      exact lw_ret S.1 S.2.1 hrr hlk d_LAW_law_545
    ·
      have hlt : i < L := Nat.not_le.mp (fun h => cc (nI_le h (by omega)))
      have K := lw_tail (xs := xs) (c0 := c0) (c1 := c1) (c2 := c2) (c3 := c3) C (ih (i + 1) hlt (by omega))
      refine lv_aload_n S.1 S.2.1 d_LAW_law_43 rfl (lv_at hl 0 rfl) ?_
      refine lv_iload S.1 S.2.1 d_LAW_law_44 (lv_at hl 9 rfl) ?_
      refine va_sld S.1 S.2.1 hX hbl hbA hS (vp_in_nI hlt (by omega)) d_LAW_law_46 ?_
      generalize xs (nI i).toNatClampNeg = w
      refine lv_istore (lv' := [(10, .int w), (0, .ref b), (1, .ref x), (2, .ref X2), (3, .ref X3), (4, .int (nI n)), (5, .int (nI mm)), (6, .int (nI ap)), (7, .int sg), (8, .int (bI rt)), (9, .int (nI i))]) S.1 S.2.1 d_LAW_law_47 hl (by decide) rfl (fun ls hl => ?_)
      refine lv_iload S.1 S.2.1 d_LAW_law_49 (lv_at hl 0 rfl) ?_
      refine lv_bipush (v := 15) S.1 S.2.1 d_LAW_law_51 (by decide) ?_
      refine lv_iand S.1 S.2.1 d_LAW_law_53 ?_
      obtain ⟨j, hj, ej⟩ := pk_andE w (m := 15) 4 (by decide)
      refine q_top (x' := nI j) ej ?_
      rcases (show j = 0 ∨ j = 1 ∨ j = 2 ∨ j = 3 ∨ j = 4 ∨ 5 ≤ j by omega) with rfl | rfl | rfl | rfl | rfl | h5
      · refine lv_tableIn (off := 34) (tgt := 88) S.1 S.2.1 d_LAW_law_54 (by decide) (by decide) (by decide) (by decide) ?_
        exact lw_begin C hlt K x h v q a b2 X2 X3 n mm ap cap k mx uc tc ce sl ml np sg rt f ft fc tx t1 dl H locs ls hP hD hS hza hzb hok (lv_sub hl [1, 2, 3, 4, 5, 6, 7, 8, 9, 10, 0] rfl)
      · refine lv_tableIn (off := 111) (tgt := 165) S.1 S.2.1 d_LAW_law_54 (by decide) (by decide) (by decide) (by decide) ?_
        exact lw_clear C hlt K x h v q a b2 X2 X3 n mm ap cap k mx uc tc ce sl ml np sg rt f ft fc tx t1 dl H locs ls hP hD hS hza hzb hok (lv_sub hl [1, 2, 3, 4, 5, 6, 7, 8, 9, 10, 0] rfl)
      · refine lv_tableIn (off := 130) (tgt := 184) S.1 S.2.1 d_LAW_law_54 (by decide) (by decide) (by decide) (by decide) ?_
        exact lw_tok C hlt K x h v q a b2 X2 X3 n mm ap cap k mx uc tc ce sl ml np sg rt f ft fc tx t1 dl H locs ls hP hD hS hza hzb hok (lv_sub hl [1, 2, 3, 4, 5, 6, 7, 8, 9, 10, 0] rfl)
      · refine lv_tableIn (off := 130) (tgt := 184) S.1 S.2.1 d_LAW_law_54 (by decide) (by decide) (by decide) (by decide) ?_
        exact lw_tok C hlt K x h v q a b2 X2 X3 n mm ap cap k mx uc tc ce sl ml np sg rt f ft fc tx t1 dl H locs ls hP hD hS hza hzb hok (lv_sub hl [1, 2, 3, 4, 5, 6, 7, 8, 9, 10, 0] rfl)
      · refine lv_tableIn (off := 130) (tgt := 184) S.1 S.2.1 d_LAW_law_54 (by decide) (by decide) (by decide) (by decide) ?_
        exact lw_tok C hlt K x h v q a b2 X2 X3 n mm ap cap k mx uc tc ce sl ml np sg rt f ft fc tx t1 dl H locs ls hP hD hS hza hzb hok (lv_sub hl [1, 2, 3, 4, 5, 6, 7, 8, 9, 10, 0] rfl)
      · refine lv_tableOut (tgt := 465) S.1 S.2.1 d_LAW_law_54 (Or.inr (by rw [nI_toInt (by omega)]; omega)) (by decide) ?_
        exact lw_type C hlt K x h v q a b2 X2 X3 n mm ap cap k mx uc tc ce sl ml np sg rt f ft fc tx t1 dl H locs ls hP hD hS hza hzb hok (lv_sub hl [1, 2, 3, 4, 5, 6, 7, 8, 9, 10, 0] rfl)
set_option maxHeartbeats 8000000 in
set_option maxRecDepth 100000 in
/-- THE LAW, from its entry -/
theorem whole_start {p : Program} {e : Env} {s : State} {m : MethodId} {below : List Frame} {meth : Method} {c : Code} (l : Launch) {b L : Nat} {xs : Nat → Int32} (hL : L ≤ 3000) (C0 : lw_At p s m meth c b L xs) : W p l e room_1 s m #[Value.ref b] below meth c s.heap [] 0 0 (lw_Z below #[Value.ref b] s) (entryFrame m ([Value.ref b] : List Value).toArray 16) := by
  obtain ⟨hx, hb, hr, hml, hown, hts, hX, hbl, hlocks, hgv⟩ := C0
  have htb := tb_holds hts
  have S : CallFix p m c code 16 s #[Value.ref b] tb "TokenDrillLaw" := ⟨hx, hb, hml, hown, htb⟩
  have hs := flat_of_before _ hgv
  have hbA : ¬ AL s b := Nat.not_le.mpr hbl
  have hA : ∀ q : Nat, s.heap.size ≤ q → AL s q := fun _ h => h
  have hnA : ∀ a : Nat, a < s.heap.size → ¬ AL s a := fun a h => Nat.not_le.mpr h
  obtain ⟨d0, ev_d0, z_d0⟩ := cst (own := "TokenDrill") (idx := 18) (n := 0) 0 (by omega) (by omega) (hs (.exactly (.string "TokenDrill" 18) "java/lang/String") (by decide +kernel)) (hs (.eq (.field (.string "TokenDrill" 18) "java/lang/String" "coder" "B") (.int 0)) (by decide +kernel)) (hs (.arrayOf (.field (.string "TokenDrill" 18) "java/lang/String" "value" "[B") .byte) (by decide +kernel)) (hs (.eq (.length (.field (.string "TokenDrill" 18) "java/lang/String" "value" "[B")) (.int 0)) (by decide +kernel)) (fun h => absurd h (by omega))
  have r_d0 : vk_R "TokenDrill" 18 "" d0 s := vk_R.of (hts (Cond.stringRef "TokenDrill" (18 : Nat) "") (List.mem_append_right _ (List.mem_of_getElem? (i := 57) (by decide +kernel)))) ev_d0
  obtain ⟨d1, ev_d1, z_d1⟩ := cst (own := "TokenDrill") (idx := 20) (n := 1) 44 (by omega) (by omega) (hs (.exactly (.string "TokenDrill" 20) "java/lang/String") (by decide +kernel)) (hs (.eq (.field (.string "TokenDrill" 20) "java/lang/String" "coder" "B") (.int 0)) (by decide +kernel)) (hs (.arrayOf (.field (.string "TokenDrill" 20) "java/lang/String" "value" "[B") .byte) (by decide +kernel)) (hs (.eq (.length (.field (.string "TokenDrill" 20) "java/lang/String" "value" "[B")) (.int 1)) (by decide +kernel)) (fun _ => hs (.eq (.elem (.field (.string "TokenDrill" 20) "java/lang/String" "value" "[B") (.int 0)) (.int 44)) (by decide +kernel))
  have r_d1 : vk_R "TokenDrill" 20 "," d1 s := vk_R.of (hts (Cond.stringRef "TokenDrill" (20 : Nat) ",") (List.mem_append_right _ (List.mem_of_getElem? (i := 58) (by decide +kernel)))) ev_d1
  obtain ⟨c1, ev_c1, z_c1⟩ := cst (own := "TokenDrillLaw") (idx := 10) (n := 1) 44 (by omega) (by omega) (hs (.exactly (.string "TokenDrillLaw" 10) "java/lang/String") (by decide +kernel)) (hs (.eq (.field (.string "TokenDrillLaw" 10) "java/lang/String" "coder" "B") (.int 0)) (by decide +kernel)) (hs (.arrayOf (.field (.string "TokenDrillLaw" 10) "java/lang/String" "value" "[B") .byte) (by decide +kernel)) (hs (.eq (.length (.field (.string "TokenDrillLaw" 10) "java/lang/String" "value" "[B")) (.int 1)) (by decide +kernel)) (fun _ => hs (.eq (.elem (.field (.string "TokenDrillLaw" 10) "java/lang/String" "value" "[B") (.int 0)) (.int 44)) (by decide +kernel))
  have r_c1 : vk_R "TokenDrillLaw" 10 "," c1 s := vk_R.of (hts (Cond.stringRef "TokenDrillLaw" (10 : Nat) ",") (List.mem_append_right _ (List.mem_of_getElem? (i := 468) (by decide +kernel)))) ev_c1
  obtain ⟨c0, ev_c0, z_c0⟩ := cst (own := "TokenDrillLaw") (idx := 12) (n := 0) 0 (by omega) (by omega) (hs (.exactly (.string "TokenDrillLaw" 12) "java/lang/String") (by decide +kernel)) (hs (.eq (.field (.string "TokenDrillLaw" 12) "java/lang/String" "coder" "B") (.int 0)) (by decide +kernel)) (hs (.arrayOf (.field (.string "TokenDrillLaw" 12) "java/lang/String" "value" "[B") .byte) (by decide +kernel)) (hs (.eq (.length (.field (.string "TokenDrillLaw" 12) "java/lang/String" "value" "[B")) (.int 0)) (by decide +kernel)) (fun h => absurd h (by omega))
  have r_c0 : vk_R "TokenDrillLaw" 12 "" c0 s := vk_R.of (hts (Cond.stringRef "TokenDrillLaw" (12 : Nat) "") (List.mem_append_right _ (List.mem_of_getElem? (i := 469) (by decide +kernel)))) ev_c0
  obtain ⟨c2, ev_c2, z_c2⟩ := cst (own := "TokenDrillLaw") (idx := 18) (n := 1) 32 (by omega) (by omega) (hs (.exactly (.string "TokenDrillLaw" 18) "java/lang/String") (by decide +kernel)) (hs (.eq (.field (.string "TokenDrillLaw" 18) "java/lang/String" "coder" "B") (.int 0)) (by decide +kernel)) (hs (.arrayOf (.field (.string "TokenDrillLaw" 18) "java/lang/String" "value" "[B") .byte) (by decide +kernel)) (hs (.eq (.length (.field (.string "TokenDrillLaw" 18) "java/lang/String" "value" "[B")) (.int 1)) (by decide +kernel)) (fun _ => hs (.eq (.elem (.field (.string "TokenDrillLaw" 18) "java/lang/String" "value" "[B") (.int 0)) (.int 32)) (by decide +kernel))
  have r_c2 : vk_R "TokenDrillLaw" 18 " " c2 s := vk_R.of (hts (Cond.stringRef "TokenDrillLaw" (18 : Nat) " ") (List.mem_append_right _ (List.mem_of_getElem? (i := 500) (by decide +kernel)))) ev_c2
  obtain ⟨c3, ev_c3, z_c3⟩ := cst (own := "TokenDrillLaw") (idx := 20) (n := 1) 59 (by omega) (by omega) (hs (.exactly (.string "TokenDrillLaw" 20) "java/lang/String") (by decide +kernel)) (hs (.eq (.field (.string "TokenDrillLaw" 20) "java/lang/String" "coder" "B") (.int 0)) (by decide +kernel)) (hs (.arrayOf (.field (.string "TokenDrillLaw" 20) "java/lang/String" "value" "[B") .byte) (by decide +kernel)) (hs (.eq (.length (.field (.string "TokenDrillLaw" 20) "java/lang/String" "value" "[B")) (.int 1)) (by decide +kernel)) (fun _ => hs (.eq (.elem (.field (.string "TokenDrillLaw" 20) "java/lang/String" "value" "[B") (.int 0)) (.int 59)) (by decide +kernel))
  have r_c3 : vk_R "TokenDrillLaw" 20 ";" c3 s := vk_R.of (hts (Cond.stringRef "TokenDrillLaw" (20 : Nat) ";") (List.mem_append_right _ (List.mem_of_getElem? (i := 501) (by decide +kernel)))) ev_c3
  obtain ⟨g0, iS0, hKn0⟩ := u_known (C := R_TD) (T := F_TD) (N := 2) (n := 2) htb i_TD (htb _ k_15)
  obtain ⟨g1, iS1, hKn1⟩ := u_known (C := R_SB) (T := F_SB) (N := 4) (n := 4) htb i_SB (htb _ k_23)
  obtain ⟨g2, iS2, hKn2⟩ := u_known (C := R_TK) (T := F_TK) (N := 10) (n := 10) htb i_TK (htb _ k_56)
  obtain ⟨g3, iS3, hKn3⟩ := u_known (C := R_STR) (T := F_STR) (N := 4) (n := 4) htb i_STR (htb _ k_295)
  obtain ⟨D, hKc⟩ : ∃ (D : va_G), ∀ (k : Nat) (q : vw_C), classes[k]? = some q → u_Kn s q.1 q.2.1 q.2.2 (D.1 k) (D.2 k) := by
    refine ⟨(fun k => if k = 0 then g0 else if k = 1 then g1 else if k = 2 then g2 else g3, fun k => if k = 0 then iS0 else if k = 1 then iS1 else if k = 2 then iS2 else iS3), ?_⟩
    intro k q hq
    match k, hq with
    | 0, hq => cases hq; exact hKn0
    | 1, hq => cases hq; exact hKn1
    | 2, hq => cases hq; exact hKn2
    | 3, hq => cases hq; exact hKn3
    | k + 4, hq => simp [classes] at hq
  obtain ⟨cB, kB, compB, hcB, hkB, hkindB⟩ := Cond.arrayClass_spec (htb _ k_54)
  obtain ⟨cC, kC, compC, hcC, hkC, hkindC⟩ := Cond.arrayClass_spec (htb _ k_505)
  have hK : va_K D classes [(cB, .byte), (cC, .char)] s := by
    refine ⟨hKc, fun k q hq => ?_⟩
    match k, hq with
    | 0, hq => cases hq; exact ⟨fun n z => ⟨fun k h => (by cases h), kB, hkB, compB, hkindB⟩, hcB⟩
    | 1, hq => cases hq; exact ⟨fun n z => ⟨fun k h => (by cases h), kC, hkC, compC, hkindC⟩, hcC⟩
    | k + 2, hq => simp at hq
  have hE : en D cB cC (AL s) s s.heap := ⟨hK, va_Zof (hts (Cond.laysStatic "java/lang/String" "COMPACT_STRINGS" "Z") (List.mem_append_right _ (List.mem_of_getElem? (i := 32) (by decide +kernel)))) (htb _ k_4) (va_eqi (hs (.eq (.static "java/lang/String" "COMPACT_STRINGS" "Z") (.int 1)) (by decide +kernel))) hnA, va_Zqof (hts (Cond.laysStatic "jdk/internal/util/Preconditions" "SIOOBE_FORMATTER" "Ljava/util/function/BiFunction;") (List.mem_append_right _ (List.mem_of_getElem? (i := 91) (by decide +kernel)))) (htb _ k_8) (hs (.isRef (.static "jdk/internal/util/Preconditions" "SIOOBE_FORMATTER" "Ljava/util/function/BiFunction;")) (by decide +kernel)) hnA, va_Nw.of rfl (hts (Cond.castable "[B" "java/lang/Cloneable") (List.mem_append_right _ (List.mem_of_getElem? (i := 221) (by decide +kernel))))⟩
  have C : LC p s m meth c b L xs D cB cC c0 c1 c2 c3 := ⟨S, hr, hlocks, hX, hbl, hL, hE, ⟨r_c1, r_c0, r_c2, r_c3⟩, z_c0, z_c1, z_c2, z_c3⟩
  have hS : va_S (AL s) s.heap s.heap [] := va_S.rf
  have hP : va_P D classes [] s.heap := vn_P
  have hD : va_D (AL s) [] := vn_D
  have hl := lv_entry ([.ref b]) (n := 16) (Nat.le_of_ble_eq_true rfl)
  rw [lg_entry_eq]
  generalize (lg_sl ([.ref b]) ++ List.replicate (16 - (lg_sl ([.ref b])).length) Slot.unset).toArray = ls at hl ⊢
  have hl : lv_has ls 16 [(0, .ref b)] := hl
  refine va_new (ci := 0) (fs := [.null, .null]) (C := R_TD) (T := F_TD) (N := 2) S.1 S.2.1 S.2.2.2.2 i_TD t_TD t_TD_ok S.2.2.2.1 (S.2.2.2.2 _ k_14) (S.2.2.2.2 _ k_15) (S.2.2.2.2 _ k_1) hK hP hD hS hA rfl (fun j hj => by rcases (show j = 0 ∨ j = 1 by omega) with rfl | rfl <;> rfl) (by dsimp only [room_1]; omega) (by dsimp only [room_1]; omega) d_LAW_law_0 (fun x H hP hD hS => ?_)
  have hP : va_P D classes [(x, .inr (0, [.null, .null]))] H := hP
  have hD : va_D (AL s) [(x, .inr (0, [.null, .null]))] := hD
  refine lv_dup S.1 S.2.1 d_LAW_law_3 rfl ?_
  have hPc := hP.sub (ws' := [(x, .inr (0, [.null, .null]))]) [0] rfl
  have hDc := hD.sub (ws' := [(x, .inr (0, [.null, .null]))]) [0] (by decide) rfl
  have hFc := va_free (wc := [(x, .inr (0, [.null, .null]))]) hD hS hA [0] rfl
  refine va_callv (rn_I S sc_LAW_28 (As := []) (rest := [.ref x]) (c_TD_init l (c0 := d0) (c1 := d1) (t0 := fun _ => 0) (dl := fun _ => 44)) (fun U hU hW => ⟨by rw [hU], hE.to hS.2.1 hU hW hFc, by rw [hU]; exact hPc, hDc.weaken (fun _ _ _ _ => trivial), vk_R.warm hW r_d0, vk_R.warm hW r_d1, z_d0.to hS.2.1 hU hW.alike hFc, z_d1.to hS.2.1 hU hW.alike hFc⟩) (Nat.le_of_ble_eq_true rfl) (Nat.le_of_ble_eq_true rfl) (by dsimp only [room_1]; omega) (by dsimp only [room_1]; omega) rfl hl.1 rfl (Nat.le_of_ble_eq_true rfl) d_LAW_law_4) hS (fun q _ h => hFc q h) hFc (fun _ t_ H_121 locs ht_122 hv_125 _ hB hz_124 hk_123 hS => ?_)
  obtain ⟨h, v, q, mx, hP1, hD1, hm1, hm2⟩ := hB
  rw [ht_122] at hP1
  obtain ⟨hP, hD⟩ := va_join (wr := []) (w1 := [(x, .inr (0, [.ref h, .ref q])), (h, .inr (1, [.ref v, .int 0, .int 0, .int (nI 0)])), (v, .inl (cB, 16, .inl (fun _ => 0))), (q, .inr (2, [.int (nI 0), .int (-1), .int (nI 0), .ref d0, .ref d1, .int (bI false), .int 0, .int (nI mx), .int 0, .null]))]) hP hD [0] [] rfl rfl (by decide) (by decide) hk_123 hFc hP1 hD1
  have hP : va_P D classes [(x, .inr (0, [.ref h, .ref q])), (h, .inr (1, [.ref v, .int 0, .int 0, .int (nI 0)])), (v, .inl (cB, 16, .inl (fun _ => 0))), (q, .inr (2, [.int (nI 0), .int (-1), .int (nI 0), .ref d0, .ref d1, .int (bI false), .int 0, .int (nI mx), .int 0, .null]))] H_121 := hP
  have hD : va_D (AL s) [(x, .inr (0, [.ref h, .ref q])), (h, .inr (1, [.ref v, .int 0, .int 0, .int (nI 0)])), (v, .inl (cB, 16, .inl (fun _ => 0))), (q, .inr (2, [.int (nI 0), .int (-1), .int (nI 0), .ref d0, .ref d1, .int (bI false), .int 0, .int (nI mx), .int 0, .null]))] := hD
  refine lv_astore_n (lv' := [(1, .ref x), (0, .ref b)]) S.1 S.2.1 d_LAW_law_7 rfl hl (by decide) rfl (fun ls hl => ?_)
  refine lv_aload_n S.1 S.2.1 d_LAW_law_8 rfl (lv_at hl 1 rfl) ?_
  refine va_slen S.1 S.2.1 hX hbl hbA hS d_LAW_law_9 ?_
  refine q_top (x' := nI L) rfl ?_
  refine q_newC S hK hP hD hS hA (N := L) (by omega) (by dsimp only [room_1]; omega) (by dsimp only [room_1]; omega) d_LAW_law_10 (fun X2 H hP hD hS => ?_)
  have hP : va_P D classes [(x, .inr (0, [.ref h, .ref q])), (h, .inr (1, [.ref v, .int 0, .int 0, .int (nI 0)])), (v, .inl (cB, 16, .inl (fun _ => 0))), (q, .inr (2, [.int (nI 0), .int (-1), .int (nI 0), .ref d0, .ref d1, .int (bI false), .int 0, .int (nI mx), .int 0, .null])), (X2, .inl (cC, L, .inl (fun _ => 0)))] H := hP
  have hD : va_D (AL s) [(x, .inr (0, [.ref h, .ref q])), (h, .inr (1, [.ref v, .int 0, .int 0, .int (nI 0)])), (v, .inl (cB, 16, .inl (fun _ => 0))), (q, .inr (2, [.int (nI 0), .int (-1), .int (nI 0), .ref d0, .ref d1, .int (bI false), .int 0, .int (nI mx), .int 0, .null])), (X2, .inl (cC, L, .inl (fun _ => 0)))] := hD
  refine lv_astore_n (lv' := [(2, .ref X2), (1, .ref x), (0, .ref b)]) S.1 S.2.1 d_LAW_law_12 rfl hl (by decide) rfl (fun ls hl => ?_)
  refine lv_aload_n S.1 S.2.1 d_LAW_law_13 rfl (lv_at hl 2 rfl) ?_
  refine va_slen S.1 S.2.1 hX hbl hbA hS d_LAW_law_14 ?_
  refine q_top (x' := nI L) rfl ?_
  refine q_newC S hK hP hD hS hA (N := L) (by omega) (by dsimp only [room_1]; omega) (by dsimp only [room_1]; omega) d_LAW_law_15 (fun X3 H hP hD hS => ?_)
  have hP : va_P D classes [(x, .inr (0, [.ref h, .ref q])), (h, .inr (1, [.ref v, .int 0, .int 0, .int (nI 0)])), (v, .inl (cB, 16, .inl (fun _ => 0))), (q, .inr (2, [.int (nI 0), .int (-1), .int (nI 0), .ref d0, .ref d1, .int (bI false), .int 0, .int (nI mx), .int 0, .null])), (X2, .inl (cC, L, .inl (fun _ => 0))), (X3, .inl (cC, L, .inl (fun _ => 0)))] H := hP
  have hD : va_D (AL s) [(x, .inr (0, [.ref h, .ref q])), (h, .inr (1, [.ref v, .int 0, .int 0, .int (nI 0)])), (v, .inl (cB, 16, .inl (fun _ => 0))), (q, .inr (2, [.int (nI 0), .int (-1), .int (nI 0), .ref d0, .ref d1, .int (bI false), .int 0, .int (nI mx), .int 0, .null])), (X2, .inl (cC, L, .inl (fun _ => 0))), (X3, .inl (cC, L, .inl (fun _ => 0)))] := hD
  refine lv_astore_n (lv' := [(3, .ref X3), (2, .ref X2), (1, .ref x), (0, .ref b)]) S.1 S.2.1 d_LAW_law_17 rfl hl (by decide) rfl (fun ls hl => ?_)
  refine lv_iconst (v := 0) S.1 S.2.1 d_LAW_law_18 (by decide) ?_
  refine lv_istore (lv' := [(4, .int 0), (3, .ref X3), (2, .ref X2), (1, .ref x), (0, .ref b)]) S.1 S.2.1 d_LAW_law_19 hl (by decide) rfl (fun ls hl => ?_)
  refine lv_iconst (v := 0) S.1 S.2.1 d_LAW_law_21 (by decide) ?_
  refine lv_istore (lv' := [(5, .int 0), (4, .int 0), (3, .ref X3), (2, .ref X2), (1, .ref x), (0, .ref b)]) S.1 S.2.1 d_LAW_law_22 hl (by decide) rfl (fun ls hl => ?_)
  refine lv_iconst (v := 0) S.1 S.2.1 d_LAW_law_24 (by decide) ?_
  refine lv_istore (lv' := [(6, .int 0), (5, .int 0), (4, .int 0), (3, .ref X3), (2, .ref X2), (1, .ref x), (0, .ref b)]) S.1 S.2.1 d_LAW_law_25 hl (by decide) rfl (fun ls hl => ?_)
  refine lv_iconst (v := 0) S.1 S.2.1 d_LAW_law_27 (by decide) ?_
  refine lv_istore (lv' := [(7, .int 0), (6, .int 0), (5, .int 0), (4, .int 0), (3, .ref X3), (2, .ref X2), (1, .ref x), (0, .ref b)]) S.1 S.2.1 d_LAW_law_28 hl (by decide) rfl (fun ls hl => ?_)
  refine lv_iconst (v := 0) S.1 S.2.1 d_LAW_law_30 (by decide) ?_
  refine lv_istore (lv' := [(8, .int 0), (7, .int 0), (6, .int 0), (5, .int 0), (4, .int 0), (3, .ref X3), (2, .ref X2), (1, .ref x), (0, .ref b)]) S.1 S.2.1 d_LAW_law_31 hl (by decide) rfl (fun ls hl => ?_)
  refine lv_iconst (v := 0) S.1 S.2.1 d_LAW_law_33 (by decide) ?_
  refine lv_istore (lv' := [(9, .int 0), (8, .int 0), (7, .int 0), (6, .int 0), (5, .int 0), (4, .int 0), (3, .ref X3), (2, .ref X2), (1, .ref x), (0, .ref b)]) S.1 S.2.1 d_LAW_law_34 hl (by decide) rfl (fun ls hl => ?_)
  have hFF := va_free (wc := [(x, .inr (0, [.ref h, .ref q])), (h, .inr (1, [.ref v, .int 0, .int 0, .int (nI 0)])), (v, .inl (cB, 16, .inl (fun _ => 0))), (q, .inr (2, [.int (nI 0), .int (-1), .int (nI 0), .ref d0, .ref d1, .int (bI false), .int 0, .int (nI mx), .int 0, .null])), (X2, .inl (cC, L, .inl (fun _ => 0))), (X3, .inl (cC, L, .inl (fun _ => 0)))]) hD hS hA [0, 1, 2, 3, 4, 5] rfl
  have hz_d0 := (z_d0.kept hS.2.1).nar (A' := va_A [(x, .inr (0, [.ref h, .ref q])), (h, .inr (1, [.ref v, .int 0, .int 0, .int (nI 0)])), (v, .inl (cB, 16, .inl (fun _ => 0))), (q, .inr (2, [.int (nI 0), .int (-1), .int (nI 0), .ref d0, .ref d1, .int (bI false), .int 0, .int (nI mx), .int 0, .null])), (X2, .inl (cC, L, .inl (fun _ => 0))), (X3, .inl (cC, L, .inl (fun _ => 0)))] H.size) (fun y _ hy => hFF y hy)
  have hz_d1 := (z_d1.kept hS.2.1).nar (A' := va_A [(x, .inr (0, [.ref h, .ref q])), (h, .inr (1, [.ref v, .int 0, .int 0, .int (nI 0)])), (v, .inl (cB, 16, .inl (fun _ => 0))), (q, .inr (2, [.int (nI 0), .int (-1), .int (nI 0), .ref d0, .ref d1, .int (bI false), .int 0, .int (nI mx), .int 0, .null])), (X2, .inl (cC, L, .inl (fun _ => 0))), (X3, .inl (cC, L, .inl (fun _ => 0)))] H.size) (fun y _ hy => hFF y hy)
  exact lw_loop C (L + 1) 0 (Nat.zero_le _) (by omega) x h v q d0 d1 X2 X3 0 0 0 16 1 mx 0 0 _ _ 0 (-1) 0 false (fun _ => 0) (fun _ => 0) (fun _ => 0) (fun _ => 0) (fun _ => 0) (fun _ => 44) _ _ ls hP hD hS hz_d0 hz_d1 ⟨⟨by omega, by omega, fun _ _ => rfl, fun j hj => absurd hj (by omega)⟩, fun j hj => absurd hj (by omega), Nat.zero_le _, fun j hj => absurd hj (by omega), Nat.le_refl _, hm1, hm2, fun j hj => absurd hj (by omega), rfl, Nat.le_refl _, Nat.le_refl _, by omega, by omega, by omega⟩ (lv_sub hl [9, 8, 7, 6, 5, 4, 3, 2, 1, 0] rfl)
end
section
-- ===== YOUR PART ENDS =====
set_option maxHeartbeats 4000000 in
theorem lw_walk (l : Launch) (b : Addr) (xs : List Int32) : MetFree l x (headSpec (Jvm.Cond.code x code maxLocals ret :: tables_1) room_1) (lw_P b xs) (fun _ _ _ _ _ => True) lw_Q := by
  refine MetFree.of_bodyS (code := code) (maxLocals := maxLocals) (ret := ret) (by decide) ?_ ?_
  · intro args s m h hn
    obtain ⟨meth, c, h1, h2, h3, h4, h5, h6, -, -⟩ := Cond.code_spec hn (atoms_spec (ws := Jvm.Cond.code x code maxLocals ret :: tables_1) h _ List.mem_cons_self)
    exact ⟨meth, c, h1, h2, h3, h4, h5, h6⟩
  · intro p e s m args below meth c s₁ B hml0 hP _
    obtain ⟨rfl, hx, hbd, hgv⟩ := hP
    obtain ⟨scr, harrAt, hlist, hof, hsmall⟩ := hx
    obtain ⟨hcb, hkn, -, -⟩ := State.arrayAt?_spec harrAt
    have hown : s.vm.findClass R_law = some m.cls := findClass_of_methodNamed B.named
    have hts0 : ∀ c ∈ (Jvm.Cond.code x code maxLocals ret :: tables_1), c.before #[Value.ref b] s = true := atoms_spec (ws := Jvm.Cond.code x code maxLocals ret :: tables_1) B.pre
    have hts : ∀ w ∈ lw_tbl, w.before #[Value.ref b] s = true := k2_hts_sels lw_privs (fun w hw => hts0 w (List.mem_cons_of_mem _ hw)) lw_privs_ok
    have hml : c.maxLocals = 16 := B.maxLocals_eq (hts0 _ List.mem_cons_self)
    have X₀ : Stand p l e room_1 s m #[Value.ref b] below meth c s₁ [] 0 0 := Stand.of_body B
    have hh0 : s₁.heap = s.heap := by rw [B.state]; rfl
    have hsz : scr.slots.size = xs.length := by rw [← Array.length_toList, hlist, List.length_map]
    have hval : ∀ j : Nat, j < xs.length → scr.slots[j]? = some (.int (xs.getD j 0)) := fun j hj => by
      rw [← Array.getElem?_toList, hlist]
      simp [hj]
    have hbl : b < s.heap.size := (Array.getElem?_eq_some_iff.mp hcb).1
    have hX : va_X b xs.length (fun j => xs.getD j 0) s s.heap := ⟨scr, hcb, hof, hkn, hsz, hval⟩
    have K : W p l e room_1 s m #[Value.ref b] below meth c s₁.heap [] 0 0 (lw_Z below #[Value.ref b] s) (entryFrame m ([Value.ref b] : List Value).toArray 16) := by
      rw [hh0]
      exact whole_start l hbd ⟨B.exec, B.bytes, B.returns, hml, hown, hts, hX, hbl, B.notSynchronized, hgv⟩
    obtain ⟨t, a1, o, b1, b2, b3⟩ := K s₁ rfl X₀
    exact ⟨t, o, a1, b1, b2, b3⟩
theorem lw_pre_spec {args : Array Value} {s : State} (h : (Jvm.Cond.and given_1 narrow_1).before args s = true) (hr : rest_1_c.before args s = true) : ∃ (b : Addr) (xs : List Int32), lw_P b xs args s := by
  have hs := flat_of_before _ h
  have hq := flat_of_before _ hr
  have hc : (Cond.count 1).before args s = true := hs _ (by decide +kernel)
  have harr : (Cond.arrayOf (.arg 0) .int).before args s = true := hs _ (by decide +kernel)
  have hle : (Cond.le (.length (.arg 0)) (.int 3000)).before args s = true := hs _ (by decide +kernel)
  have hlen : (Cond.isInt (.length (.arg 0))).before args s = true := hq _ (by decide +kernel)
  have hall : (Cond.all (.arg 0) (.isInt (.elem (.arg 0) (.index 0)))).before args s = true := hq _ (by decide +kernel)
  obtain ⟨b, xs, hb, hx⟩ := State.ints_of_pre rfl harr hlen hall
  have hsm : xs.length < 2 ^ 31 := hx.choose_spec.2.2.2
  have hev : (Term.length (.arg 0)).eval args s none [] s = some (.int xs.length.toInt32) := hx.length_eval hb
  have hv := Cond.le_ints hev (show (Term.int 3000).eval args s none [] s = some (.int 3000) from rfl)
  have hd : xs.length.toInt32 ≤ 3000 := by
    simpa [Cond.before, Cond.holds, hv] using hle
  have hN : xs.length ≤ 3000 := (Int32.ofNat_le_ofNat hsm (by decide)).mp (show Int32.ofNat xs.length ≤ Int32.ofNat 3000 from hd)
  exact ⟨b, xs, Cond.one_arg hc (show args[0]? = some (.ref b) from hb), hx, hN, h⟩
theorem lw_comes (l : Launch) : Comes l x (Jvm.Cond.code x code maxLocals ret :: tables_1) room_1 (fun tb e args s => Calls_1 tb e args s ∧ rest_1 tb e args s ∧ Pre_1 tb e args s)
    (fun _ _ args s o t => lw_Q args s o t) := by
  intro p e ha hc hk s m args below hf hfit hheap happ hpre
  obtain ⟨b, xs, hP⟩ := lw_pre_spec hpre.2.2 hpre.2.1
  obtain ⟨k, o, h1, h2, h3, hQ⟩ := lw_walk l b xs p e ha hc hk s m args below hf ((Spec.applies_iff_loose hf).mp happ).1 hP trivial
  exact ⟨k, o, h1, h2, h3, hQ⟩
theorem lw_frame {s t : State} {o : Outcome} {args : Array Value} (h : Framed s o t [] 600000 7302250) :
    Framed s o t (fieldLocs frame_1_writes args s ++ arrayLocs frame_1_arrays args s ++ staticLocs frame_1_statics s) 600000 7302250 := h
theorem lw_limb (L : Cond) (hL : ∀ (args : Array Value) (s t : State), L.after args s (.returned (some (.int 1))) t = true) :
    ArmFor flags0 classFile x code maxLocals ret World_1 tables_1 room_1 Calls_1 rest_1 Pre_1
      (fun tb e a s o t => postC L tb e a s o t ∧ Framed s o t (fieldLocs frame_1_writes a s ++ arrayLocs frame_1_arrays a s ++ staticLocs frame_1_statics s) 600000 7302250) := by
  intro l _ _ _ p e ha hc hk s m args below hf hfit hheap happ hpre
  obtain ⟨k, o, h1, h2, h3, rfl, hF⟩ := lw_comes l p e ha hc hk s m args below hf hfit hheap happ hpre
  exact ⟨k, _, h1, h2, h3, hL args s _, lw_frame hF⟩
theorem i_vc : Claimed_1_1 ∧ Claimed_1_2 := ⟨lw_limb limb_1_1 (fun args s t => by simp [limb_1_1, Cond.after, Cond.holds, Cond.value]), lw_limb limb_1_2 (fun args s t => Cond.after_iff.mpr (by
  first | (rw [show limb_1_2 = Cond.eq .result (.int 1) from rfl, Cond.eq_ints (x := 1) (y := 1) rfl rfl]; simp; done) | (simp [limb_1_2, Cond.value, Term.eval]; done)))⟩
end
