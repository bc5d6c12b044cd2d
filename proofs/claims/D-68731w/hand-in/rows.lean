section
-- ===== PART A: goes FIRST, ahead of the names: the tables' words, and 'selects' of the private methods out of them =====
/-- a private method of a class that the tables say can be made, by its rows of tables_1 -/
def lw_okq (q : MethodName × Nat) : Prop := (q.1.cls ≠ "java/lang/invoke/MethodHandle" ∧ q.1.cls ≠ "java/lang/invoke/VarHandle") ∧ Cond.instantiable q.1.cls q.2 ∈ tables_1 ∧ Cond.privateMethod q.1 ∈ tables_1 ∧ Cond.instanceMethod q.1 ∈ tables_1
theorem lw_p0 : lw_okq (⟨"java/lang/Throwable", "fillInStackTrace", "(I)Ljava/lang/Throwable;"⟩, 6) := ⟨⟨by decide +kernel, by decide +kernel⟩, List.mem_of_getElem? (i := 138) (by decide +kernel), List.mem_of_getElem? (i := 136) (by decide +kernel), List.mem_of_getElem? (i := 137) (by decide +kernel)⟩
theorem lw_p1 : lw_okq (⟨"FixedNumbers$Division", "digit", "(JJJ)J"⟩, 2) := ⟨⟨by decide +kernel, by decide +kernel⟩, List.mem_of_getElem? (i := 22) (by decide +kernel), List.mem_of_getElem? (i := 216) (by decide +kernel), List.mem_of_getElem? (i := 217) (by decide +kernel)⟩
theorem lw_p2 : lw_okq (⟨"FixedNumbersModel", "exact", "(JJJ)J"⟩, 4) := ⟨⟨by decide +kernel, by decide +kernel⟩, List.mem_of_getElem? (i := 271) (by decide +kernel), List.mem_of_getElem? (i := 325) (by decide +kernel), List.mem_of_getElem? (i := 326) (by decide +kernel)⟩
theorem lw_p3 : lw_okq (⟨"FixedNumbersModel", "multiply", "(JJ)V"⟩, 4) := ⟨⟨by decide +kernel, by decide +kernel⟩, List.mem_of_getElem? (i := 271) (by decide +kernel), List.mem_of_getElem? (i := 329) (by decide +kernel), List.mem_of_getElem? (i := 330) (by decide +kernel)⟩
theorem lw_p4 : lw_okq (⟨"FixedNumbersModel", "divide", "(J)V"⟩, 4) := ⟨⟨by decide +kernel, by decide +kernel⟩, List.mem_of_getElem? (i := 271) (by decide +kernel), List.mem_of_getElem? (i := 337) (by decide +kernel), List.mem_of_getElem? (i := 338) (by decide +kernel)⟩
def lw_privs_1 : List (MethodName × Nat) := [(⟨"java/lang/Throwable", "fillInStackTrace", "(I)Ljava/lang/Throwable;"⟩, 6), (⟨"FixedNumbers$Division", "digit", "(JJJ)J"⟩, 2), (⟨"FixedNumbersModel", "exact", "(JJJ)J"⟩, 4), (⟨"FixedNumbersModel", "multiply", "(JJ)V"⟩, 4), (⟨"FixedNumbersModel", "divide", "(J)V"⟩, 4)]
theorem lw_r1 : ∀ q ∈ lw_privs_1, lw_okq q := List.forall_mem_cons.mpr ⟨lw_p0, List.forall_mem_cons.mpr ⟨lw_p1, List.forall_mem_cons.mpr ⟨lw_p2, List.forall_mem_cons.mpr ⟨lw_p3, List.forall_mem_cons.mpr ⟨lw_p4, fun _ h => absurd h List.not_mem_nil⟩⟩⟩⟩⟩
def lw_privs : List (MethodName × Nat) := lw_privs_1
def lw_tbl : List Cond := k2_sels lw_privs ++ tables_1
theorem lw_privs_ok : ∀ q ∈ lw_privs, lw_okq q := lw_r1

/-- the good words among the tables': one list for every method of this claim -/
def lw_gd : List Cond := lw_tbl.filter goodWord
theorem gd {w : Cond} (k : Nat) (h : lw_tbl[k]? = some w) (hg : goodWord w = true) : w ∈ lw_gd := List.mem_filter.mpr ⟨List.mem_of_getElem? h, hg⟩
theorem gd_tbl {w : Cond} (h : w ∈ lw_gd) : w ∈ lw_tbl := (List.mem_filter.mp h).1
theorem gd_good {w : Cond} (h : w ∈ lw_gd) : (w.onTables && w.keeps) = true ∨ ∃ ty, w = .arrayClass ty := good_of_word (List.mem_filter.mp h).2
def y_D_digit : MethodName := ⟨"FixedNumbers$Division", "digit", "(JJJ)J"⟩
abbrev b_D_digit : ByteArray := prog_2_method_2_code
abbrev w_D_digit : List Cond := .code y_D_digit b_D_digit 15 (some .long) :: lw_gd
def y_D_divide : MethodName := ⟨"FixedNumbers$Division", "divide", "(JJJ)V"⟩
abbrev b_D_divide : ByteArray := prog_2_method_3_code
abbrev w_D_divide : List Cond := .code y_D_divide b_D_divide 16 none :: lw_gd
def y_D_init : MethodName := ⟨"FixedNumbers$Division", "<init>", "()V"⟩
abbrev b_D_init : ByteArray := prog_2_method_1_code
abbrev w_D_init : List Cond := .code y_D_init b_D_init 1 none :: lw_gd
def y_J_cmp : MethodName := ⟨"java/lang/Long", "compare", "(JJ)I"⟩
abbrev b_J_cmp : ByteArray := prog_9_method_42_code
abbrev w_J_cmp : List Cond := .code y_J_cmp b_J_cmp 4 (some .int) :: lw_gd
def y_J_cu : MethodName := ⟨"java/lang/Long", "compareUnsigned", "(JJ)I"⟩
abbrev b_J_cu : ByteArray := prog_9_method_43_code
abbrev w_J_cu : List Cond := .code y_J_cu b_J_cu 4 (some .int) :: lw_gd
def y_J_du : MethodName := ⟨"java/lang/Long", "divideUnsigned", "(JJ)J"⟩
abbrev b_J_du : ByteArray := prog_9_method_44_code
abbrev w_J_du : List Cond := .code y_J_du b_J_du 8 (some .long) :: lw_gd
def y_J_fd : MethodName := ⟨"java/lang/Math", "floorDiv", "(JJ)J"⟩
abbrev b_J_fd : ByteArray := prog_10_method_49_code
abbrev w_J_fd : List Cond := .code y_J_fd b_J_fd 6 (some .long) :: lw_gd
def y_J_inz : MethodName := ⟨"java/lang/Integer", "numberOfLeadingZeros", "(I)I"⟩
abbrev b_J_inz : ByteArray := prog_8_method_47_code
abbrev w_J_inz : List Cond := .code y_J_inz b_J_inz 2 (some .int) :: lw_gd
def y_J_lnz : MethodName := ⟨"java/lang/Long", "numberOfLeadingZeros", "(J)I"⟩
abbrev b_J_lnz : ByteArray := prog_9_method_48_code
abbrev w_J_lnz : List Cond := .code y_J_lnz b_J_lnz 3 (some .int) :: lw_gd
def y_J_maxi : MethodName := ⟨"java/lang/Math", "max", "(II)I"⟩
abbrev b_J_maxi : ByteArray := prog_10_method_65_code
abbrev w_J_maxi : List Cond := .code y_J_maxi b_J_maxi 2 (some .int) :: lw_gd
def y_J_maxl : MethodName := ⟨"java/lang/Math", "max", "(JJ)J"⟩
abbrev b_J_maxl : ByteArray := prog_10_method_66_code
abbrev w_J_maxl : List Cond := .code y_J_maxl b_J_maxl 4 (some .long) :: lw_gd
def y_J_mh : MethodName := ⟨"java/lang/Math", "multiplyHigh", "(JJ)J"⟩
abbrev b_J_mh : ByteArray := prog_10_method_45_code
abbrev w_J_mh : List Cond := .code y_J_mh b_J_mh 20 (some .long) :: lw_gd
def y_J_mini : MethodName := ⟨"java/lang/Math", "min", "(II)I"⟩
abbrev b_J_mini : ByteArray := prog_10_method_69_code
abbrev w_J_mini : List Cond := .code y_J_mini b_J_mini 2 (some .int) :: lw_gd
def y_J_minl : MethodName := ⟨"java/lang/Math", "min", "(JJ)J"⟩
abbrev b_J_minl : ByteArray := prog_10_method_70_code
abbrev w_J_minl : List Cond := .code y_J_minl b_J_minl 4 (some .long) :: lw_gd
def y_J_ru : MethodName := ⟨"java/lang/Long", "remainderUnsigned", "(JJ)J"⟩
abbrev b_J_ru : ByteArray := prog_9_method_45_code
abbrev w_J_ru : List Cond := .code y_J_ru b_J_ru 8 (some .long) :: lw_gd
def y_L_between : MethodName := ⟨"FixedNumbersLaw", "between", "(LFixedNumbers;IIJJ[J)I"⟩
abbrev b_L_between : ByteArray := method_4_code
abbrev w_L_between : List Cond := .codeWith y_L_between b_L_between 9 (some .int) [(0, 14, 17, 19)] :: lw_gd
def y_L_fixed : MethodName := ⟨"FixedNumbersLaw", "fixed", "(LFixedNumbers;I[J)I"⟩
abbrev b_L_fixed : ByteArray := method_5_code
abbrev w_L_fixed : List Cond := .codeWith y_L_fixed b_L_fixed 4 (some .int) [(0, 9, 12, 19)] :: lw_gd
def y_L_ratio : MethodName := ⟨"FixedNumbersLaw", "ratio", "(LFixedNumbers;JJJ[J)I"⟩
abbrev b_L_ratio : ByteArray := method_3_code
abbrev w_L_ratio : List Cond := .codeWith y_L_ratio b_L_ratio 9 (some .int) [(0, 12, 15, 13)] :: lw_gd
def y_L_shade : MethodName := ⟨"FixedNumbersLaw", "shade", "(LFixedNumbers;II[J)I"⟩
abbrev b_L_shade : ByteArray := method_6_code
abbrev w_L_shade : List Cond := .codeWith y_L_shade b_L_shade 5 (some .int) [(0, 10, 13, 19)] :: lw_gd
def y_M_below : MethodName := ⟨"FixedNumbersModel", "below", "(JJ)Z"⟩
abbrev b_M_below : ByteArray := prog_4_method_4_code
abbrev w_M_below : List Cond := .code y_M_below b_M_below 4 (some .boolean) :: lw_gd
def y_M_between : MethodName := ⟨"FixedNumbersModel", "between", "(IIJJ)I"⟩
abbrev b_M_between : ByteArray := prog_4_method_13_code
abbrev w_M_between : List Cond := .code y_M_between b_M_between 7 (some .int) :: lw_gd
def y_M_channel : MethodName := ⟨"FixedNumbersModel", "channel", "(I)I"⟩
abbrev b_M_channel : ByteArray := prog_4_method_15_code
abbrev w_M_channel : List Cond := .code y_M_channel b_M_channel 2 (some .int) :: lw_gd
def y_M_divide : MethodName := ⟨"FixedNumbersModel", "divide", "(J)V"⟩
abbrev b_M_divide : ByteArray := prog_4_method_7_code
abbrev w_M_divide : List Cond := .code y_M_divide b_M_divide 13 none :: lw_gd
def y_M_exact : MethodName := ⟨"FixedNumbersModel", "exact", "(JJJ)J"⟩
abbrev b_M_exact : ByteArray := prog_4_method_8_code
abbrev w_M_exact : List Cond := .code y_M_exact b_M_exact 9 (some .long) :: lw_gd
def y_M_fixed : MethodName := ⟨"FixedNumbersModel", "fixed", "(I)I"⟩
abbrev b_M_fixed : ByteArray := prog_4_method_16_code
abbrev w_M_fixed : List Cond := .code y_M_fixed b_M_fixed 2 (some .int) :: lw_gd
def y_M_fromHalf : MethodName := ⟨"FixedNumbersModel", "fromHalf", "(I)I"⟩
abbrev b_M_fromHalf : ByteArray := prog_4_method_19_code
abbrev w_M_fromHalf : List Cond := .code y_M_fromHalf b_M_fromHalf 7 (some .int) :: lw_gd
def y_M_init : MethodName := ⟨"FixedNumbersModel", "<init>", "()V"⟩
abbrev b_M_init : ByteArray := prog_4_method_1_code
abbrev w_M_init : List Cond := .code y_M_init b_M_init 1 none :: lw_gd
def y_M_multiply : MethodName := ⟨"FixedNumbersModel", "multiply", "(JJ)V"⟩
abbrev b_M_multiply : ByteArray := prog_4_method_6_code
abbrev w_M_multiply : List Cond := .code y_M_multiply b_M_multiply 8 none :: lw_gd
def y_M_nearest : MethodName := ⟨"FixedNumbersModel", "nearest", "(II)I"⟩
abbrev b_M_nearest : ByteArray := prog_4_method_14_code
abbrev w_M_nearest : List Cond := .code y_M_nearest b_M_nearest 3 (some .int) :: lw_gd
def y_M_oneByRoot : MethodName := ⟨"FixedNumbersModel", "oneByRoot", "(I)I"⟩
abbrev b_M_oneByRoot : ByteArray := prog_4_method_11_code
abbrev w_M_oneByRoot : List Cond := .code y_M_oneByRoot b_M_oneByRoot 8 (some .int) :: lw_gd
def y_M_product : MethodName := ⟨"FixedNumbersModel", "product", "(II)I"⟩
abbrev b_M_product : ByteArray := prog_4_method_3_code
abbrev w_M_product : List Cond := .code y_M_product b_M_product 7 (some .int) :: lw_gd
def y_M_quotient : MethodName := ⟨"FixedNumbersModel", "quotient", "(II)I"⟩
abbrev b_M_quotient : ByteArray := prog_4_method_9_code
abbrev w_M_quotient : List Cond := .code y_M_quotient b_M_quotient 12 (some .int) :: lw_gd
def y_M_ratio : MethodName := ⟨"FixedNumbersModel", "ratio", "(JJJ)J"⟩
abbrev b_M_ratio : ByteArray := prog_4_method_12_code
abbrev w_M_ratio : List Cond := .code y_M_ratio b_M_ratio 9 (some .long) :: lw_gd
def y_M_root : MethodName := ⟨"FixedNumbersModel", "root", "(I)I"⟩
abbrev b_M_root : ByteArray := prog_4_method_10_code
abbrev w_M_root : List Cond := .code y_M_root b_M_root 8 (some .int) :: lw_gd
def y_M_scaled : MethodName := ⟨"FixedNumbersModel", "scaled", "(I)J"⟩
abbrev b_M_scaled : ByteArray := prog_4_method_18_code
abbrev w_M_scaled : List Cond := .code y_M_scaled b_M_scaled 4 (some .long) :: lw_gd
def y_M_shade : MethodName := ⟨"FixedNumbersModel", "shade", "(II)I"⟩
abbrev b_M_shade : ByteArray := prog_4_method_17_code
abbrev w_M_shade : List Cond := .code y_M_shade b_M_shade 3 (some .int) :: lw_gd
def y_M_size : MethodName := ⟨"FixedNumbersModel", "size", "(J)J"⟩
abbrev b_M_size : ByteArray := prog_4_method_5_code
abbrev w_M_size : List Cond := .code y_M_size b_M_size 2 (some .long) :: lw_gd
def y_M_thrown : MethodName := ⟨"FixedNumbersModel", "thrown", "()I"⟩
abbrev b_M_thrown : ByteArray := prog_4_method_2_code
abbrev w_M_thrown : List Cond := .code y_M_thrown b_M_thrown 1 (some .int) :: lw_gd
def y_M_toHalf : MethodName := ⟨"FixedNumbersModel", "toHalf", "(I)I"⟩
abbrev b_M_toHalf : ByteArray := prog_4_method_20_code
abbrev w_M_toHalf : List Cond := .code y_M_toHalf b_M_toHalf 11 (some .int) :: lw_gd
def y_X_between : MethodName := ⟨"FixedNumbers", "between", "(IIJJ)I"⟩
abbrev b_X_between : ByteArray := prog_1_method_12_code
abbrev w_X_between : List Cond := .code y_X_between b_X_between 7 (some .int) :: lw_gd
def y_X_channel : MethodName := ⟨"FixedNumbers", "channel", "(I)I"⟩
abbrev b_X_channel : ByteArray := prog_1_method_13_code
abbrev w_X_channel : List Cond := .code y_X_channel b_X_channel 2 (some .int) :: lw_gd
def y_X_cut : MethodName := ⟨"FixedNumbers", "cut", "(J)I"⟩
abbrev b_X_cut : ByteArray := prog_1_method_3_code
abbrev w_X_cut : List Cond := .code y_X_cut b_X_cut 2 (some .int) :: lw_gd
def y_X_fixed : MethodName := ⟨"FixedNumbers", "fixed", "(I)I"⟩
abbrev b_X_fixed : ByteArray := prog_1_method_14_code
abbrev w_X_fixed : List Cond := .code y_X_fixed b_X_fixed 2 (some .int) :: lw_gd
def y_X_fromHalf : MethodName := ⟨"FixedNumbers", "fromHalf", "(I)I"⟩
abbrev b_X_fromHalf : ByteArray := prog_1_method_16_code
abbrev w_X_fromHalf : List Cond := .code y_X_fromHalf b_X_fromHalf 8 (some .int) :: lw_gd
def y_X_init : MethodName := ⟨"FixedNumbers", "<init>", "()V"⟩
abbrev b_X_init : ByteArray := prog_1_method_1_code
abbrev w_X_init : List Cond := .code y_X_init b_X_init 1 none :: lw_gd
def y_X_oneByRoot : MethodName := ⟨"FixedNumbers", "oneByRoot", "(I)I"⟩
abbrev b_X_oneByRoot : ByteArray := prog_1_method_8_code
abbrev w_X_oneByRoot : List Cond := .code y_X_oneByRoot b_X_oneByRoot 2 (some .int) :: lw_gd
def y_X_product : MethodName := ⟨"FixedNumbers", "product", "(II)I"⟩
abbrev b_X_product : ByteArray := prog_1_method_4_code
abbrev w_X_product : List Cond := .code y_X_product b_X_product 3 (some .int) :: lw_gd
def y_X_quotient : MethodName := ⟨"FixedNumbers", "quotient", "(II)I"⟩
abbrev b_X_quotient : ByteArray := prog_1_method_5_code
abbrev w_X_quotient : List Cond := .code y_X_quotient b_X_quotient 3 (some .int) :: lw_gd
def y_X_ratio : MethodName := ⟨"FixedNumbers", "ratio", "(JJJ)J"⟩
abbrev b_X_ratio : ByteArray := prog_1_method_11_code
abbrev w_X_ratio : List Cond := .code y_X_ratio b_X_ratio 17 (some .long) :: lw_gd
def y_X_right : MethodName := ⟨"FixedNumbers", "right", "(Z)V"⟩
abbrev b_X_right : ByteArray := prog_1_method_2_code
abbrev w_X_right : List Cond := .code y_X_right b_X_right 1 none :: lw_gd
def y_X_root : MethodName := ⟨"FixedNumbers", "root", "(I)I"⟩
abbrev b_X_root : ByteArray := prog_1_method_7_code
abbrev w_X_root : List Cond := .code y_X_root b_X_root 2 (some .int) :: lw_gd
def y_X_rootOf : MethodName := ⟨"FixedNumbers", "rootOf", "(J)J"⟩
abbrev b_X_rootOf : ByteArray := prog_1_method_6_code
abbrev w_X_rootOf : List Cond := .code y_X_rootOf b_X_rootOf 6 (some .long) :: lw_gd
def y_X_shade : MethodName := ⟨"FixedNumbers", "shade", "(II)I"⟩
abbrev b_X_shade : ByteArray := prog_1_method_15_code
abbrev w_X_shade : List Cond := .code y_X_shade b_X_shade 4 (some .int) :: lw_gd
def y_X_size : MethodName := ⟨"FixedNumbers", "size", "(J)J"⟩
abbrev b_X_size : ByteArray := prog_1_method_10_code
abbrev w_X_size : List Cond := .code y_X_size b_X_size 2 (some .long) :: lw_gd
def y_X_toHalf : MethodName := ⟨"FixedNumbers", "toHalf", "(I)I"⟩
abbrev b_X_toHalf : ByteArray := prog_1_method_17_code
abbrev w_X_toHalf : List Cond := .code y_X_toHalf b_X_toHalf 14 (some .int) :: lw_gd
def y_X_upper : MethodName := ⟨"FixedNumbers", "upper", "(JJ)J"⟩
abbrev b_X_upper : ByteArray := prog_1_method_9_code
abbrev w_X_upper : List Cond := .code y_X_upper b_X_upper 4 (some .long) :: lw_gd
theorem k_0 : (Cond.initialized "FixedNumbersLaw") ∈ lw_gd := gd 5 (by decide +kernel) rfl
theorem k_1 : (Cond.initialized "FixedNumbers") ∈ lw_gd := gd 6 (by decide +kernel) rfl
theorem k_2 : (Cond.initialized "FixedNumbers$Division") ∈ lw_gd := gd 7 (by decide +kernel) rfl
theorem k_3 : (Cond.initialized "FixedNumbersModel") ∈ lw_gd := gd 8 (by decide +kernel) rfl
theorem k_4 : (Cond.initialized "java/lang/Math") ∈ lw_gd := gd 9 (by decide +kernel) rfl
theorem k_5 : (Cond.initialized "java/lang/Long") ∈ lw_gd := gd 10 (by decide +kernel) rfl
theorem k_6 : (Cond.initialized "java/lang/Integer") ∈ lw_gd := gd 11 (by decide +kernel) rfl
theorem k_7 : (Cond.initialized "java/lang/Throwable") ∈ lw_gd := gd 12 (by decide +kernel) rfl
theorem k_8 : (Cond.initialized "java/lang/Exception") ∈ lw_gd := gd 13 (by decide +kernel) rfl
theorem k_9 : (Cond.initialized "java/lang/RuntimeException") ∈ lw_gd := gd 14 (by decide +kernel) rfl
theorem k_10 : (Cond.initialized "java/lang/ArithmeticException") ∈ lw_gd := gd 15 (by decide +kernel) rfl
theorem k_11 : (Cond.initialized "java/lang/String") ∈ lw_gd := gd 16 (by decide +kernel) rfl
theorem k_12 : (Cond.initialized "java/lang/IllegalArgumentException") ∈ lw_gd := gd 17 (by decide +kernel) rfl
theorem k_13 : (Cond.classLink "FixedNumbersLaw" 8 "FixedNumbers") ∈ lw_gd := gd 18 (by decide +kernel) rfl
theorem k_14 : (Cond.instantiable "FixedNumbers" 1) ∈ lw_gd := gd 19 (by decide +kernel) rfl
theorem k_15 : (Cond.methodLink "FixedNumbersLaw" 29 y_X_init) ∈ lw_gd := gd 20 (by decide +kernel) rfl
theorem k_16 : (Cond.instanceMethod y_X_init) ∈ lw_gd := gd 21 (by decide +kernel) rfl
theorem k_17 : (Cond.code y_X_init b_X_init 1 none) ∈ lw_gd := gd 22 (by decide +kernel) rfl
theorem k_18 : (Cond.methodLink "FixedNumbers" 1 (⟨"java/lang/Object", "<init>", "()V"⟩ : MethodName)) ∈ lw_gd := gd 23 (by decide +kernel) rfl
theorem k_19 : (Cond.instanceMethod (⟨"java/lang/Object", "<init>", "()V"⟩ : MethodName)) ∈ lw_gd := gd 24 (by decide +kernel) rfl
theorem k_20 : (Cond.code (⟨"java/lang/Object", "<init>", "()V"⟩ : MethodName) object_method_1_code 1 none) ∈ lw_gd := gd 25 (by decide +kernel) rfl
theorem k_21 : (Cond.classLink "FixedNumbers" 7 "FixedNumbers$Division") ∈ lw_gd := gd 26 (by decide +kernel) rfl
theorem k_22 : (Cond.instantiable "FixedNumbers$Division" 2) ∈ lw_gd := gd 27 (by decide +kernel) rfl
theorem k_24 : (Cond.instanceMethod y_D_init) ∈ lw_gd := gd 29 (by decide +kernel) rfl
theorem k_25 : (Cond.code y_D_init b_D_init 1 none) ∈ lw_gd := gd 30 (by decide +kernel) rfl
theorem k_26 : (Cond.methodLink "FixedNumbers$Division" 3 (⟨"java/lang/Object", "<init>", "()V"⟩ : MethodName)) ∈ lw_gd := gd 31 (by decide +kernel) rfl
theorem k_27 : (Cond.fieldLink "FixedNumbers$Division" 38 "FixedNumbers$Division" "quotient" "J") ∈ lw_gd := gd 32 (by decide +kernel) rfl
theorem k_29 : (Cond.fieldLink "FixedNumbers$Division" 24 "FixedNumbers$Division" "left" "J") ∈ lw_gd := gd 34 (by decide +kernel) rfl
theorem k_31 : (Cond.lays "FixedNumbers$Division" "FixedNumbers$Division" "quotient" "J") ∈ lw_gd := gd 36 (by decide +kernel) rfl
theorem k_32 : (Cond.soleField "FixedNumbers$Division" "quotient") ∈ lw_gd := gd 37 (by decide +kernel) rfl
theorem k_33 : (Cond.lays "FixedNumbers$Division" "FixedNumbers$Division" "left" "J") ∈ lw_gd := gd 38 (by decide +kernel) rfl
theorem k_34 : (Cond.soleField "FixedNumbers$Division" "left") ∈ lw_gd := gd 39 (by decide +kernel) rfl
theorem k_35 : (Cond.superclass "FixedNumbers$Division" "java/lang/Object") ∈ lw_gd := gd 40 (by decide +kernel) rfl
theorem k_36 : (Cond.fieldLink "FixedNumbers" 10 "FixedNumbers" "division" "LFixedNumbers$Division;") ∈ lw_gd := gd 41 (by decide +kernel) rfl
theorem k_37 : (Cond.laysFinal "FixedNumbers" "FixedNumbers" "division" "LFixedNumbers$Division;") ∈ lw_gd := gd 42 (by decide +kernel) rfl
theorem k_38 : (Cond.soleField "FixedNumbers" "division") ∈ lw_gd := gd 43 (by decide +kernel) rfl
theorem k_39 : (Cond.superclass "FixedNumbers" "java/lang/Object") ∈ lw_gd := gd 44 (by decide +kernel) rfl
theorem k_40 : (Cond.methodLink "FixedNumbersLaw" 33 y_X_product) ∈ lw_gd := gd 45 (by decide +kernel) rfl
theorem k_41 : (Cond.instanceMethod y_X_product) ∈ lw_gd := gd 46 (by decide +kernel) rfl
theorem k_42 : (Cond.selects "FixedNumbers" y_X_product y_X_product) ∈ lw_gd := gd 47 (by decide +kernel) rfl
theorem k_43 : (Cond.code y_X_product b_X_product 3 (some FieldType.int)) ∈ lw_gd := gd 48 (by decide +kernel) rfl
theorem k_44 : (Cond.methodLink "FixedNumbersLaw" 37 y_X_quotient) ∈ lw_gd := gd 49 (by decide +kernel) rfl
theorem k_45 : (Cond.instanceMethod y_X_quotient) ∈ lw_gd := gd 50 (by decide +kernel) rfl
theorem k_46 : (Cond.selects "FixedNumbers" y_X_quotient y_X_quotient) ∈ lw_gd := gd 51 (by decide +kernel) rfl
theorem k_47 : (Cond.code y_X_quotient b_X_quotient 3 (some FieldType.int)) ∈ lw_gd := gd 52 (by decide +kernel) rfl
theorem k_48 : (Cond.constant "FixedNumbers" 34 (2147483647 : Int32)) ∈ lw_gd := gd 53 (by decide +kernel) rfl
theorem k_49 : (Cond.constant "FixedNumbers" 35 (-2147483648 : Int32)) ∈ lw_gd := gd 54 (by decide +kernel) rfl
theorem k_50 : (Cond.methodLink "FixedNumbers" 36 y_J_fd) ∈ lw_gd := gd 55 (by decide +kernel) rfl
theorem k_51 : (Cond.static y_J_fd) ∈ lw_gd := gd 56 (by decide +kernel) rfl
theorem k_52 : (Cond.code y_J_fd b_J_fd 6 (some FieldType.long)) ∈ lw_gd := gd 57 (by decide +kernel) rfl
theorem k_53 : (Cond.methodLink "FixedNumbers" 39 y_X_cut) ∈ lw_gd := gd 58 (by decide +kernel) rfl
theorem k_54 : (Cond.static y_X_cut) ∈ lw_gd := gd 59 (by decide +kernel) rfl
theorem k_55 : (Cond.code y_X_cut b_X_cut 2 (some FieldType.int)) ∈ lw_gd := gd 60 (by decide +kernel) rfl
theorem k_56 : (Cond.constantLong "FixedNumbers" 21 (-2147483648 : Int64)) ∈ lw_gd := gd 61 (by decide +kernel) rfl
theorem k_57 : (Cond.constantLong "FixedNumbers" 23 (2147483647 : Int64)) ∈ lw_gd := gd 62 (by decide +kernel) rfl
theorem k_58 : (Cond.methodLink "FixedNumbers" 25 y_J_minl) ∈ lw_gd := gd 63 (by decide +kernel) rfl
theorem k_59 : (Cond.static y_J_minl) ∈ lw_gd := gd 64 (by decide +kernel) rfl
theorem k_60 : (Cond.code y_J_minl b_J_minl 4 (some FieldType.long)) ∈ lw_gd := gd 65 (by decide +kernel) rfl
theorem k_61 : (Cond.methodLink "FixedNumbers" 31 y_J_maxl) ∈ lw_gd := gd 66 (by decide +kernel) rfl
theorem k_62 : (Cond.static y_J_maxl) ∈ lw_gd := gd 67 (by decide +kernel) rfl
theorem k_63 : (Cond.code y_J_maxl b_J_maxl 4 (some FieldType.long)) ∈ lw_gd := gd 68 (by decide +kernel) rfl
theorem k_64 : (Cond.methodLink "FixedNumbersLaw" 41 y_X_root) ∈ lw_gd := gd 69 (by decide +kernel) rfl
theorem k_65 : (Cond.instanceMethod y_X_root) ∈ lw_gd := gd 70 (by decide +kernel) rfl
theorem k_66 : (Cond.selects "FixedNumbers" y_X_root y_X_root) ∈ lw_gd := gd 71 (by decide +kernel) rfl
theorem k_67 : (Cond.code y_X_root b_X_root 2 (some FieldType.int)) ∈ lw_gd := gd 72 (by decide +kernel) rfl
theorem k_68 : (Cond.methodLink "FixedNumbers" 50 y_X_rootOf) ∈ lw_gd := gd 73 (by decide +kernel) rfl
theorem k_69 : (Cond.static y_X_rootOf) ∈ lw_gd := gd 74 (by decide +kernel) rfl
theorem k_70 : (Cond.code y_X_rootOf b_X_rootOf 6 (some FieldType.long)) ∈ lw_gd := gd 75 (by decide +kernel) rfl
theorem k_71 : (Cond.constantLong "FixedNumbers" 43 (2 : Int64)) ∈ lw_gd := gd 76 (by decide +kernel) rfl
theorem k_72 : (Cond.methodLink "FixedNumbers" 45 y_J_lnz) ∈ lw_gd := gd 77 (by decide +kernel) rfl
theorem k_73 : (Cond.static y_J_lnz) ∈ lw_gd := gd 78 (by decide +kernel) rfl
theorem k_74 : (Cond.code y_J_lnz b_J_lnz 3 (some FieldType.int)) ∈ lw_gd := gd 79 (by decide +kernel) rfl
theorem k_75 : (Cond.methodLink "java/lang/Long" 308 y_J_inz) ∈ lw_gd := gd 80 (by decide +kernel) rfl
theorem k_76 : (Cond.static y_J_inz) ∈ lw_gd := gd 81 (by decide +kernel) rfl
theorem k_77 : (Cond.code y_J_inz b_J_inz 2 (some FieldType.int)) ∈ lw_gd := gd 82 (by decide +kernel) rfl
theorem k_78 : (Cond.constant "java/lang/Integer" 264 (65536 : Int32)) ∈ lw_gd := gd 83 (by decide +kernel) rfl
theorem k_79 : (Cond.methodLink "FixedNumbersLaw" 45 y_X_oneByRoot) ∈ lw_gd := gd 84 (by decide +kernel) rfl
theorem k_80 : (Cond.instanceMethod y_X_oneByRoot) ∈ lw_gd := gd 85 (by decide +kernel) rfl
theorem k_81 : (Cond.selects "FixedNumbers" y_X_oneByRoot y_X_oneByRoot) ∈ lw_gd := gd 86 (by decide +kernel) rfl
theorem k_82 : (Cond.code y_X_oneByRoot b_X_oneByRoot 2 (some FieldType.int)) ∈ lw_gd := gd 87 (by decide +kernel) rfl
theorem k_83 : (Cond.constantLong "FixedNumbers" 54 (281474976710656 : Int64)) ∈ lw_gd := gd 88 (by decide +kernel) rfl
theorem k_84 : (Cond.methodLink "FixedNumbersLaw" 65 y_X_channel) ∈ lw_gd := gd 89 (by decide +kernel) rfl
theorem k_85 : (Cond.instanceMethod y_X_channel) ∈ lw_gd := gd 90 (by decide +kernel) rfl
theorem k_86 : (Cond.selects "FixedNumbers" y_X_channel y_X_channel) ∈ lw_gd := gd 91 (by decide +kernel) rfl
theorem k_87 : (Cond.code y_X_channel b_X_channel 2 (some FieldType.int)) ∈ lw_gd := gd 92 (by decide +kernel) rfl
theorem k_88 : (Cond.constant "FixedNumbers" 93 (65536 : Int32)) ∈ lw_gd := gd 93 (by decide +kernel) rfl
theorem k_89 : (Cond.methodLink "FixedNumbers" 94 y_J_mini) ∈ lw_gd := gd 94 (by decide +kernel) rfl
theorem k_90 : (Cond.static y_J_mini) ∈ lw_gd := gd 95 (by decide +kernel) rfl
theorem k_91 : (Cond.code y_J_mini b_J_mini 2 (some FieldType.int)) ∈ lw_gd := gd 96 (by decide +kernel) rfl
theorem k_92 : (Cond.methodLink "FixedNumbers" 97 y_J_maxi) ∈ lw_gd := gd 97 (by decide +kernel) rfl
theorem k_93 : (Cond.static y_J_maxi) ∈ lw_gd := gd 98 (by decide +kernel) rfl
theorem k_94 : (Cond.code y_J_maxi b_J_maxi 2 (some FieldType.int)) ∈ lw_gd := gd 99 (by decide +kernel) rfl
theorem k_95 : (Cond.constant "FixedNumbers" 99 (32768 : Int32)) ∈ lw_gd := gd 100 (by decide +kernel) rfl
theorem k_96 : (Cond.methodLink "FixedNumbersLaw" 77 y_X_fromHalf) ∈ lw_gd := gd 101 (by decide +kernel) rfl
theorem k_97 : (Cond.instanceMethod y_X_fromHalf) ∈ lw_gd := gd 102 (by decide +kernel) rfl
theorem k_98 : (Cond.selects "FixedNumbers" y_X_fromHalf y_X_fromHalf) ∈ lw_gd := gd 103 (by decide +kernel) rfl
theorem k_99 : (Cond.code y_X_fromHalf b_X_fromHalf 8 (some FieldType.int)) ∈ lw_gd := gd 104 (by decide +kernel) rfl
theorem k_100 : (Cond.methodLink "FixedNumbersLaw" 81 y_X_toHalf) ∈ lw_gd := gd 105 (by decide +kernel) rfl
theorem k_101 : (Cond.instanceMethod y_X_toHalf) ∈ lw_gd := gd 106 (by decide +kernel) rfl
theorem k_102 : (Cond.selects "FixedNumbers" y_X_toHalf y_X_toHalf) ∈ lw_gd := gd 107 (by decide +kernel) rfl
theorem k_103 : (Cond.code y_X_toHalf b_X_toHalf 14 (some FieldType.int)) ∈ lw_gd := gd 108 (by decide +kernel) rfl
theorem k_104 : (Cond.methodLink "FixedNumbers" 59 y_X_size) ∈ lw_gd := gd 109 (by decide +kernel) rfl
theorem k_105 : (Cond.static y_X_size) ∈ lw_gd := gd 110 (by decide +kernel) rfl
theorem k_106 : (Cond.code y_X_size b_X_size 2 (some FieldType.long)) ∈ lw_gd := gd 111 (by decide +kernel) rfl
theorem k_107 : (Cond.constantLong "FixedNumbers" 100 (4 : Int64)) ∈ lw_gd := gd 112 (by decide +kernel) rfl
theorem k_108 : (Cond.methodLink "FixedNumbersLaw" 51 y_L_ratio) ∈ lw_gd := gd 113 (by decide +kernel) rfl
theorem k_109 : (Cond.static y_L_ratio) ∈ lw_gd := gd 114 (by decide +kernel) rfl
theorem k_110 : (Cond.codeWith y_L_ratio b_L_ratio 9 (some FieldType.int) [(0, 12, 15, 13)]) ∈ lw_gd := gd 115 (by decide +kernel) rfl
theorem k_111 : (Cond.classLink "FixedNumbersLaw" 13 "java/lang/ArithmeticException") ∈ lw_gd := gd 116 (by decide +kernel) rfl
theorem k_112 : (Cond.instantiable "java/lang/ArithmeticException" 6) ∈ lw_gd := gd 117 (by decide +kernel) rfl
theorem k_113 : (Cond.instanceMethod (⟨"java/lang/ArithmeticException", "<init>", "(Ljava/lang/String;)V"⟩ : MethodName)) ∈ lw_gd := gd 118 (by decide +kernel) rfl
theorem k_114 : (Cond.code (⟨"java/lang/ArithmeticException", "<init>", "(Ljava/lang/String;)V"⟩ : MethodName) prog_5_method_2_code 2 none) ∈ lw_gd := gd 119 (by decide +kernel) rfl
theorem k_115 : (Cond.methodLink "java/lang/ArithmeticException" 7 (⟨"java/lang/RuntimeException", "<init>", "(Ljava/lang/String;)V"⟩ : MethodName)) ∈ lw_gd := gd 120 (by decide +kernel) rfl
theorem k_116 : (Cond.instanceMethod (⟨"java/lang/RuntimeException", "<init>", "(Ljava/lang/String;)V"⟩ : MethodName)) ∈ lw_gd := gd 121 (by decide +kernel) rfl
theorem k_117 : (Cond.code (⟨"java/lang/RuntimeException", "<init>", "(Ljava/lang/String;)V"⟩ : MethodName) prog_11_method_2_code 2 none) ∈ lw_gd := gd 122 (by decide +kernel) rfl
theorem k_118 : (Cond.methodLink "java/lang/RuntimeException" 7 (⟨"java/lang/Exception", "<init>", "(Ljava/lang/String;)V"⟩ : MethodName)) ∈ lw_gd := gd 123 (by decide +kernel) rfl
theorem k_119 : (Cond.instanceMethod (⟨"java/lang/Exception", "<init>", "(Ljava/lang/String;)V"⟩ : MethodName)) ∈ lw_gd := gd 124 (by decide +kernel) rfl
theorem k_120 : (Cond.code (⟨"java/lang/Exception", "<init>", "(Ljava/lang/String;)V"⟩ : MethodName) prog_6_method_2_code 2 none) ∈ lw_gd := gd 125 (by decide +kernel) rfl
theorem k_121 : (Cond.methodLink "java/lang/Exception" 7 (⟨"java/lang/Throwable", "<init>", "(Ljava/lang/String;)V"⟩ : MethodName)) ∈ lw_gd := gd 126 (by decide +kernel) rfl
theorem k_122 : (Cond.instanceMethod (⟨"java/lang/Throwable", "<init>", "(Ljava/lang/String;)V"⟩ : MethodName)) ∈ lw_gd := gd 127 (by decide +kernel) rfl
theorem k_123 : (Cond.code (⟨"java/lang/Throwable", "<init>", "(Ljava/lang/String;)V"⟩ : MethodName) prog_13_method_2_code 2 none) ∈ lw_gd := gd 128 (by decide +kernel) rfl
theorem k_124 : (Cond.methodLink "java/lang/Throwable" 1 (⟨"java/lang/Object", "<init>", "()V"⟩ : MethodName)) ∈ lw_gd := gd 129 (by decide +kernel) rfl
theorem k_125 : (Cond.fieldLink "java/lang/Throwable" 13 "java/lang/Throwable" "UNASSIGNED_STACK" "[Ljava/lang/StackTraceElement;") ∈ lw_gd := gd 130 (by decide +kernel) rfl
theorem k_127 : (Cond.fieldLink "java/lang/Throwable" 20 "java/lang/Throwable" "SUPPRESSED_SENTINEL" "Ljava/util/List;") ∈ lw_gd := gd 132 (by decide +kernel) rfl
theorem k_129 : (Cond.methodLink "java/lang/Throwable" 27 (⟨"java/lang/Throwable", "fillInStackTrace", "()Ljava/lang/Throwable;"⟩ : MethodName)) ∈ lw_gd := gd 134 (by decide +kernel) rfl
theorem k_130 : (Cond.instanceMethod (⟨"java/lang/Throwable", "fillInStackTrace", "()Ljava/lang/Throwable;"⟩ : MethodName)) ∈ lw_gd := gd 135 (by decide +kernel) rfl
theorem k_131 : (Cond.sameMethod "java/lang/Throwable" "java/lang/Throwable" "fillInStackTrace" "()Ljava/lang/Throwable;") ∈ lw_gd := gd 136 (by decide +kernel) rfl
theorem k_132 : (Cond.selects "java/lang/ArithmeticException" (⟨"java/lang/Throwable", "fillInStackTrace", "()Ljava/lang/Throwable;"⟩ : MethodName) (⟨"java/lang/Throwable", "fillInStackTrace", "()Ljava/lang/Throwable;"⟩ : MethodName)) ∈ lw_gd := gd 137 (by decide +kernel) rfl
theorem k_133 : (Cond.selects "java/lang/IllegalArgumentException" (⟨"java/lang/Throwable", "fillInStackTrace", "()Ljava/lang/Throwable;"⟩ : MethodName) (⟨"java/lang/Throwable", "fillInStackTrace", "()Ljava/lang/Throwable;"⟩ : MethodName)) ∈ lw_gd := gd 138 (by decide +kernel) rfl
theorem k_134 : (Cond.codeSync (⟨"java/lang/Throwable", "fillInStackTrace", "()Ljava/lang/Throwable;"⟩ : MethodName) prog_13_method_18_code 1 (some (FieldType.object "java/lang/Throwable"))) ∈ lw_gd := gd 139 (by decide +kernel) rfl
theorem k_135 : (Cond.methodLink "java/lang/Throwable" 202 (⟨"java/lang/Throwable", "fillInStackTrace", "(I)Ljava/lang/Throwable;"⟩ : MethodName)) ∈ lw_gd := gd 140 (by decide +kernel) rfl
theorem k_137 : (Cond.instanceMethod (⟨"java/lang/Throwable", "fillInStackTrace", "(I)Ljava/lang/Throwable;"⟩ : MethodName)) ∈ lw_gd := gd 142 (by decide +kernel) rfl
theorem k_138 : (Cond.instantiable "java/lang/Throwable" 6) ∈ lw_gd := gd 143 (by decide +kernel) rfl
theorem k_139 : (Cond.native (⟨"java/lang/Throwable", "fillInStackTrace", "(I)Ljava/lang/Throwable;"⟩ : MethodName)) ∈ lw_gd := gd 144 (by decide +kernel) rfl
theorem k_140 : (Cond.fieldLink "java/lang/Throwable" 198 "java/lang/Throwable" "backtrace" "Ljava/lang/Object;") ∈ lw_gd := gd 145 (by decide +kernel) rfl
theorem k_141 : (Cond.fieldLink "java/lang/Throwable" 31 "java/lang/Throwable" "detailMessage" "Ljava/lang/String;") ∈ lw_gd := gd 146 (by decide +kernel) rfl
theorem k_142 : (Cond.fieldLink "java/lang/Throwable" 7 "java/lang/Throwable" "cause" "Ljava/lang/Throwable;") ∈ lw_gd := gd 147 (by decide +kernel) rfl
theorem k_143 : (Cond.fieldLink "java/lang/Throwable" 17 "java/lang/Throwable" "stackTrace" "[Ljava/lang/StackTraceElement;") ∈ lw_gd := gd 148 (by decide +kernel) rfl
theorem k_144 : (Cond.fieldLink "java/lang/Throwable" 24 "java/lang/Throwable" "suppressedExceptions" "Ljava/util/List;") ∈ lw_gd := gd 149 (by decide +kernel) rfl
theorem k_145 : (Cond.lays "java/lang/ArithmeticException" "java/lang/Throwable" "backtrace" "Ljava/lang/Object;") ∈ lw_gd := gd 150 (by decide +kernel) rfl
theorem k_146 : (Cond.soleField "java/lang/Throwable" "backtrace") ∈ lw_gd := gd 151 (by decide +kernel) rfl
theorem k_147 : (Cond.lays "java/lang/ArithmeticException" "java/lang/Throwable" "detailMessage" "Ljava/lang/String;") ∈ lw_gd := gd 152 (by decide +kernel) rfl
theorem k_148 : (Cond.soleField "java/lang/Throwable" "detailMessage") ∈ lw_gd := gd 153 (by decide +kernel) rfl
theorem k_149 : (Cond.lays "java/lang/ArithmeticException" "java/lang/Throwable" "cause" "Ljava/lang/Throwable;") ∈ lw_gd := gd 154 (by decide +kernel) rfl
theorem k_150 : (Cond.soleField "java/lang/Throwable" "cause") ∈ lw_gd := gd 155 (by decide +kernel) rfl
theorem k_151 : (Cond.lays "java/lang/ArithmeticException" "java/lang/Throwable" "stackTrace" "[Ljava/lang/StackTraceElement;") ∈ lw_gd := gd 156 (by decide +kernel) rfl
theorem k_152 : (Cond.soleField "java/lang/Throwable" "stackTrace") ∈ lw_gd := gd 157 (by decide +kernel) rfl
theorem k_153 : (Cond.lays "java/lang/ArithmeticException" "java/lang/Throwable" "depth" "I") ∈ lw_gd := gd 158 (by decide +kernel) rfl
theorem k_154 : (Cond.soleField "java/lang/Throwable" "depth") ∈ lw_gd := gd 159 (by decide +kernel) rfl
theorem k_155 : (Cond.lays "java/lang/ArithmeticException" "java/lang/Throwable" "suppressedExceptions" "Ljava/util/List;") ∈ lw_gd := gd 160 (by decide +kernel) rfl
theorem k_156 : (Cond.soleField "java/lang/Throwable" "suppressedExceptions") ∈ lw_gd := gd 161 (by decide +kernel) rfl
theorem k_157 : (Cond.superclass "java/lang/ArithmeticException" "java/lang/RuntimeException") ∈ lw_gd := gd 162 (by decide +kernel) rfl
theorem k_165 : (Cond.selects "java/lang/ArithmeticException" (⟨"java/lang/Throwable", "fillInStackTrace", "(I)Ljava/lang/Throwable;"⟩ : MethodName) (⟨"java/lang/Throwable", "fillInStackTrace", "(I)Ljava/lang/Throwable;"⟩ : MethodName)) ∈ lw_gd := gd 170 (by decide +kernel) rfl
theorem k_166 : (Cond.lays "java/lang/Throwable" "java/lang/Throwable" "cause" "Ljava/lang/Throwable;") ∈ lw_gd := gd 171 (by decide +kernel) rfl
theorem k_167 : (Cond.lays "java/lang/Throwable" "java/lang/Throwable" "stackTrace" "[Ljava/lang/StackTraceElement;") ∈ lw_gd := gd 172 (by decide +kernel) rfl
theorem k_168 : (Cond.lays "java/lang/Throwable" "java/lang/Throwable" "suppressedExceptions" "Ljava/util/List;") ∈ lw_gd := gd 173 (by decide +kernel) rfl
theorem k_169 : (Cond.lays "java/lang/Throwable" "java/lang/Throwable" "detailMessage" "Ljava/lang/String;") ∈ lw_gd := gd 174 (by decide +kernel) rfl
theorem k_170 : (Cond.lays "java/lang/Throwable" "java/lang/Throwable" "backtrace" "Ljava/lang/Object;") ∈ lw_gd := gd 175 (by decide +kernel) rfl
theorem k_171 : (Cond.fieldLink "java/lang/Throwable" 198 "java/lang/Throwable" "backtrace" "Ljava/lang/Object;") ∈ lw_gd := gd 176 (by decide +kernel) rfl
theorem k_172 : (Cond.superclass "java/lang/Throwable" "java/lang/Object") ∈ lw_gd := gd 177 (by decide +kernel) rfl
theorem k_173 : (Cond.instanceMethod (⟨"java/lang/Throwable", "<init>", "()V"⟩ : MethodName)) ∈ lw_gd := gd 178 (by decide +kernel) rfl
theorem k_174 : (Cond.code (⟨"java/lang/Throwable", "<init>", "()V"⟩ : MethodName) prog_13_method_1_code 1 none) ∈ lw_gd := gd 179 (by decide +kernel) rfl
theorem k_175 : (Cond.instantiable "java/lang/String" 4) ∈ lw_gd := gd 180 (by decide +kernel) rfl
theorem k_176 : (Cond.arrayClass FieldType.byte) ∈ lw_gd := gd 181 (by decide +kernel) rfl
theorem k_177 : (Cond.laysFinal "java/lang/String" "java/lang/String" "value" "[B") ∈ lw_gd := gd 182 (by decide +kernel) rfl
theorem k_178 : (Cond.soleField "java/lang/String" "value") ∈ lw_gd := gd 183 (by decide +kernel) rfl
theorem k_179 : (Cond.laysFinal "java/lang/String" "java/lang/String" "coder" "B") ∈ lw_gd := gd 184 (by decide +kernel) rfl
theorem k_180 : (Cond.soleField "java/lang/String" "coder") ∈ lw_gd := gd 185 (by decide +kernel) rfl
theorem k_181 : (Cond.methodLink "FixedNumbersLaw" 7 y_X_ratio) ∈ lw_gd := gd 186 (by decide +kernel) rfl
theorem k_182 : (Cond.instanceMethod y_X_ratio) ∈ lw_gd := gd 187 (by decide +kernel) rfl
theorem k_183 : (Cond.selects "FixedNumbers" y_X_ratio y_X_ratio) ∈ lw_gd := gd 188 (by decide +kernel) rfl
theorem k_184 : (Cond.code y_X_ratio b_X_ratio 17 (some FieldType.long)) ∈ lw_gd := gd 189 (by decide +kernel) rfl
theorem k_185 : (Cond.methodLink "FixedNumbers" 62 y_X_upper) ∈ lw_gd := gd 190 (by decide +kernel) rfl
theorem k_186 : (Cond.static y_X_upper) ∈ lw_gd := gd 191 (by decide +kernel) rfl
theorem k_187 : (Cond.code y_X_upper b_X_upper 4 (some FieldType.long)) ∈ lw_gd := gd 192 (by decide +kernel) rfl
theorem k_188 : (Cond.methodLink "FixedNumbers" 56 y_J_mh) ∈ lw_gd := gd 193 (by decide +kernel) rfl
theorem k_189 : (Cond.static y_J_mh) ∈ lw_gd := gd 194 (by decide +kernel) rfl
theorem k_190 : (Cond.code y_J_mh b_J_mh 20 (some FieldType.long)) ∈ lw_gd := gd 195 (by decide +kernel) rfl
theorem k_191 : (Cond.constantLong "java/lang/Math" 138 (4294967295 : Int64)) ∈ lw_gd := gd 196 (by decide +kernel) rfl
theorem k_192 : (Cond.methodLink "FixedNumbers" 65 y_J_cu) ∈ lw_gd := gd 197 (by decide +kernel) rfl
theorem k_193 : (Cond.static y_J_cu) ∈ lw_gd := gd 198 (by decide +kernel) rfl
theorem k_194 : (Cond.code y_J_cu b_J_cu 4 (some FieldType.int)) ∈ lw_gd := gd 199 (by decide +kernel) rfl
theorem k_195 : (Cond.constantLong "java/lang/Long" 168 (-9223372036854775808 : Int64)) ∈ lw_gd := gd 200 (by decide +kernel) rfl
theorem k_196 : (Cond.methodLink "java/lang/Long" 302 y_J_cmp) ∈ lw_gd := gd 201 (by decide +kernel) rfl
theorem k_197 : (Cond.static y_J_cmp) ∈ lw_gd := gd 202 (by decide +kernel) rfl
theorem k_198 : (Cond.code y_J_cmp b_J_cmp 4 (some FieldType.int)) ∈ lw_gd := gd 203 (by decide +kernel) rfl
theorem k_199 : (Cond.classLink "FixedNumbers" 69 "java/lang/ArithmeticException") ∈ lw_gd := gd 204 (by decide +kernel) rfl
theorem k_200 : (Cond.methodLink "FixedNumbers" 71 (⟨"java/lang/ArithmeticException", "<init>", "()V"⟩ : MethodName)) ∈ lw_gd := gd 205 (by decide +kernel) rfl
theorem k_201 : (Cond.instanceMethod (⟨"java/lang/ArithmeticException", "<init>", "()V"⟩ : MethodName)) ∈ lw_gd := gd 206 (by decide +kernel) rfl
theorem k_202 : (Cond.code (⟨"java/lang/ArithmeticException", "<init>", "()V"⟩ : MethodName) prog_5_method_1_code 1 none) ∈ lw_gd := gd 207 (by decide +kernel) rfl
theorem k_203 : (Cond.methodLink "java/lang/ArithmeticException" 1 (⟨"java/lang/RuntimeException", "<init>", "()V"⟩ : MethodName)) ∈ lw_gd := gd 208 (by decide +kernel) rfl
theorem k_204 : (Cond.instanceMethod (⟨"java/lang/RuntimeException", "<init>", "()V"⟩ : MethodName)) ∈ lw_gd := gd 209 (by decide +kernel) rfl
theorem k_205 : (Cond.code (⟨"java/lang/RuntimeException", "<init>", "()V"⟩ : MethodName) prog_11_method_1_code 1 none) ∈ lw_gd := gd 210 (by decide +kernel) rfl
theorem k_206 : (Cond.methodLink "java/lang/RuntimeException" 1 (⟨"java/lang/Exception", "<init>", "()V"⟩ : MethodName)) ∈ lw_gd := gd 211 (by decide +kernel) rfl
theorem k_207 : (Cond.instanceMethod (⟨"java/lang/Exception", "<init>", "()V"⟩ : MethodName)) ∈ lw_gd := gd 212 (by decide +kernel) rfl
theorem k_208 : (Cond.code (⟨"java/lang/Exception", "<init>", "()V"⟩ : MethodName) prog_6_method_1_code 1 none) ∈ lw_gd := gd 213 (by decide +kernel) rfl
theorem k_209 : (Cond.methodLink "java/lang/Exception" 1 (⟨"java/lang/Throwable", "<init>", "()V"⟩ : MethodName)) ∈ lw_gd := gd 214 (by decide +kernel) rfl
theorem k_210 : (Cond.methodLink "FixedNumbers" 72 y_D_divide) ∈ lw_gd := gd 215 (by decide +kernel) rfl
theorem k_211 : (Cond.instanceMethod y_D_divide) ∈ lw_gd := gd 216 (by decide +kernel) rfl
theorem k_212 : (Cond.selects "FixedNumbers$Division" y_D_divide y_D_divide) ∈ lw_gd := gd 217 (by decide +kernel) rfl
theorem k_213 : (Cond.code y_D_divide b_D_divide 16 none) ∈ lw_gd := gd 218 (by decide +kernel) rfl
theorem k_214 : (Cond.methodLink "FixedNumbers$Division" 30 y_J_lnz) ∈ lw_gd := gd 219 (by decide +kernel) rfl
theorem k_215 : (Cond.methodLink "FixedNumbers$Division" 34 y_D_digit) ∈ lw_gd := gd 220 (by decide +kernel) rfl
theorem k_217 : (Cond.instanceMethod y_D_digit) ∈ lw_gd := gd 222 (by decide +kernel) rfl
theorem k_218 : (Cond.code y_D_digit b_D_digit 15 (some FieldType.long)) ∈ lw_gd := gd 223 (by decide +kernel) rfl
theorem k_219 : (Cond.constantLong "FixedNumbers$Division" 9 (4294967295 : Int64)) ∈ lw_gd := gd 224 (by decide +kernel) rfl
theorem k_220 : (Cond.methodLink "FixedNumbers$Division" 11 y_J_du) ∈ lw_gd := gd 225 (by decide +kernel) rfl
theorem k_221 : (Cond.static y_J_du) ∈ lw_gd := gd 226 (by decide +kernel) rfl
theorem k_222 : (Cond.code y_J_du b_J_du 8 (some FieldType.long)) ∈ lw_gd := gd 227 (by decide +kernel) rfl
theorem k_223 : (Cond.constantLong "java/lang/Long" 306 (-1 : Int64)) ∈ lw_gd := gd 228 (by decide +kernel) rfl
theorem k_224 : (Cond.methodLink "FixedNumbers$Division" 17 y_J_ru) ∈ lw_gd := gd 229 (by decide +kernel) rfl
theorem k_225 : (Cond.static y_J_ru) ∈ lw_gd := gd 230 (by decide +kernel) rfl
theorem k_226 : (Cond.code y_J_ru b_J_ru 8 (some FieldType.long)) ∈ lw_gd := gd 231 (by decide +kernel) rfl
theorem k_227 : (Cond.methodLink "FixedNumbers$Division" 20 y_J_cu) ∈ lw_gd := gd 232 (by decide +kernel) rfl
theorem k_228 : (Cond.constantLong "FixedNumbers" 83 (-9223372036854775808 : Int64)) ∈ lw_gd := gd 233 (by decide +kernel) rfl
theorem k_229 : (Cond.methodLink "FixedNumbersLaw" 61 y_L_between) ∈ lw_gd := gd 234 (by decide +kernel) rfl
theorem k_230 : (Cond.static y_L_between) ∈ lw_gd := gd 235 (by decide +kernel) rfl
theorem k_231 : (Cond.codeWith y_L_between b_L_between 9 (some FieldType.int) [(0, 14, 17, 19)]) ∈ lw_gd := gd 236 (by decide +kernel) rfl
theorem k_232 : (Cond.classLink "FixedNumbersLaw" 19 "java/lang/IllegalArgumentException") ∈ lw_gd := gd 237 (by decide +kernel) rfl
theorem k_233 : (Cond.methodLink "FixedNumbersLaw" 15 y_X_between) ∈ lw_gd := gd 238 (by decide +kernel) rfl
theorem k_234 : (Cond.instanceMethod y_X_between) ∈ lw_gd := gd 239 (by decide +kernel) rfl
theorem k_235 : (Cond.selects "FixedNumbers" y_X_between y_X_between) ∈ lw_gd := gd 240 (by decide +kernel) rfl
theorem k_236 : (Cond.code y_X_between b_X_between 7 (some FieldType.int)) ∈ lw_gd := gd 241 (by decide +kernel) rfl
theorem k_237 : (Cond.methodLink "FixedNumbers" 85 y_X_right) ∈ lw_gd := gd 242 (by decide +kernel) rfl
theorem k_238 : (Cond.static y_X_right) ∈ lw_gd := gd 243 (by decide +kernel) rfl
theorem k_239 : (Cond.code y_X_right b_X_right 1 none) ∈ lw_gd := gd 244 (by decide +kernel) rfl
theorem k_240 : (Cond.classLink "FixedNumbers" 16 "java/lang/IllegalArgumentException") ∈ lw_gd := gd 245 (by decide +kernel) rfl
theorem k_241 : (Cond.instantiable "java/lang/IllegalArgumentException" 6) ∈ lw_gd := gd 246 (by decide +kernel) rfl
theorem k_243 : (Cond.selects "java/lang/IllegalArgumentException" (⟨"java/lang/Throwable", "fillInStackTrace", "(I)Ljava/lang/Throwable;"⟩ : MethodName) (⟨"java/lang/Throwable", "fillInStackTrace", "(I)Ljava/lang/Throwable;"⟩ : MethodName)) ∈ lw_gd := gd 248 (by decide +kernel) rfl
theorem k_244 : (Cond.lays "java/lang/IllegalArgumentException" "java/lang/Throwable" "cause" "Ljava/lang/Throwable;") ∈ lw_gd := gd 249 (by decide +kernel) rfl
theorem k_245 : (Cond.lays "java/lang/IllegalArgumentException" "java/lang/Throwable" "stackTrace" "[Ljava/lang/StackTraceElement;") ∈ lw_gd := gd 250 (by decide +kernel) rfl
theorem k_246 : (Cond.lays "java/lang/IllegalArgumentException" "java/lang/Throwable" "suppressedExceptions" "Ljava/util/List;") ∈ lw_gd := gd 251 (by decide +kernel) rfl
theorem k_247 : (Cond.lays "java/lang/IllegalArgumentException" "java/lang/Throwable" "detailMessage" "Ljava/lang/String;") ∈ lw_gd := gd 252 (by decide +kernel) rfl
theorem k_248 : (Cond.lays "java/lang/IllegalArgumentException" "java/lang/Throwable" "backtrace" "Ljava/lang/Object;") ∈ lw_gd := gd 253 (by decide +kernel) rfl
theorem k_249 : (Cond.methodLink "FixedNumbers" 18 (⟨"java/lang/IllegalArgumentException", "<init>", "()V"⟩ : MethodName)) ∈ lw_gd := gd 254 (by decide +kernel) rfl
theorem k_250 : (Cond.instanceMethod (⟨"java/lang/IllegalArgumentException", "<init>", "()V"⟩ : MethodName)) ∈ lw_gd := gd 255 (by decide +kernel) rfl
theorem k_251 : (Cond.code (⟨"java/lang/IllegalArgumentException", "<init>", "()V"⟩ : MethodName) prog_7_method_1_code 1 none) ∈ lw_gd := gd 256 (by decide +kernel) rfl
theorem k_252 : (Cond.methodLink "java/lang/IllegalArgumentException" 1 (⟨"java/lang/RuntimeException", "<init>", "()V"⟩ : MethodName)) ∈ lw_gd := gd 257 (by decide +kernel) rfl
theorem k_253 : (Cond.lays "java/lang/IllegalArgumentException" "java/lang/Throwable" "depth" "I") ∈ lw_gd := gd 258 (by decide +kernel) rfl
theorem k_254 : (Cond.superclass "java/lang/IllegalArgumentException" "java/lang/RuntimeException") ∈ lw_gd := gd 259 (by decide +kernel) rfl
theorem k_255 : (Cond.methodLink "FixedNumbers" 89 y_X_ratio) ∈ lw_gd := gd 260 (by decide +kernel) rfl
theorem k_256 : (Cond.methodLink "FixedNumbersLaw" 69 y_L_fixed) ∈ lw_gd := gd 261 (by decide +kernel) rfl
theorem k_257 : (Cond.static y_L_fixed) ∈ lw_gd := gd 262 (by decide +kernel) rfl
theorem k_258 : (Cond.codeWith y_L_fixed b_L_fixed 4 (some FieldType.int) [(0, 9, 12, 19)]) ∈ lw_gd := gd 263 (by decide +kernel) rfl
theorem k_259 : (Cond.methodLink "FixedNumbersLaw" 21 y_X_fixed) ∈ lw_gd := gd 264 (by decide +kernel) rfl
theorem k_260 : (Cond.instanceMethod y_X_fixed) ∈ lw_gd := gd 265 (by decide +kernel) rfl
theorem k_261 : (Cond.selects "FixedNumbers" y_X_fixed y_X_fixed) ∈ lw_gd := gd 266 (by decide +kernel) rfl
theorem k_262 : (Cond.code y_X_fixed b_X_fixed 2 (some FieldType.int)) ∈ lw_gd := gd 267 (by decide +kernel) rfl
theorem k_263 : (Cond.methodLink "FixedNumbersLaw" 73 y_L_shade) ∈ lw_gd := gd 268 (by decide +kernel) rfl
theorem k_264 : (Cond.static y_L_shade) ∈ lw_gd := gd 269 (by decide +kernel) rfl
theorem k_265 : (Cond.codeWith y_L_shade b_L_shade 5 (some FieldType.int) [(0, 10, 13, 19)]) ∈ lw_gd := gd 270 (by decide +kernel) rfl
theorem k_266 : (Cond.methodLink "FixedNumbersLaw" 25 y_X_shade) ∈ lw_gd := gd 271 (by decide +kernel) rfl
theorem k_267 : (Cond.instanceMethod y_X_shade) ∈ lw_gd := gd 272 (by decide +kernel) rfl
theorem k_268 : (Cond.selects "FixedNumbers" y_X_shade y_X_shade) ∈ lw_gd := gd 273 (by decide +kernel) rfl
theorem k_269 : (Cond.code y_X_shade b_X_shade 4 (some FieldType.int)) ∈ lw_gd := gd 274 (by decide +kernel) rfl
theorem k_270 : (Cond.classLink "FixedNumbersLaw" 30 "FixedNumbersModel") ∈ lw_gd := gd 275 (by decide +kernel) rfl
theorem k_271 : (Cond.instantiable "FixedNumbersModel" 4) ∈ lw_gd := gd 276 (by decide +kernel) rfl
theorem k_272 : (Cond.methodLink "FixedNumbersLaw" 32 y_M_init) ∈ lw_gd := gd 277 (by decide +kernel) rfl
theorem k_273 : (Cond.instanceMethod y_M_init) ∈ lw_gd := gd 278 (by decide +kernel) rfl
theorem k_274 : (Cond.code y_M_init b_M_init 1 none) ∈ lw_gd := gd 279 (by decide +kernel) rfl
theorem k_275 : (Cond.methodLink "FixedNumbersModel" 1 (⟨"java/lang/Object", "<init>", "()V"⟩ : MethodName)) ∈ lw_gd := gd 280 (by decide +kernel) rfl
theorem k_276 : (Cond.fieldLink "FixedNumbersModel" 7 "FixedNumbersModel" "thrown" "I") ∈ lw_gd := gd 281 (by decide +kernel) rfl
theorem k_277 : (Cond.fieldLink "FixedNumbersModel" 16 "FixedNumbersModel" "upper" "J") ∈ lw_gd := gd 282 (by decide +kernel) rfl
theorem k_278 : (Cond.fieldLink "FixedNumbersModel" 20 "FixedNumbersModel" "lower" "J") ∈ lw_gd := gd 283 (by decide +kernel) rfl
theorem k_279 : (Cond.fieldLink "FixedNumbersModel" 27 "FixedNumbersModel" "left" "J") ∈ lw_gd := gd 284 (by decide +kernel) rfl
theorem k_280 : (Cond.lays "FixedNumbersModel" "FixedNumbersModel" "thrown" "I") ∈ lw_gd := gd 285 (by decide +kernel) rfl
theorem k_281 : (Cond.soleField "FixedNumbersModel" "thrown") ∈ lw_gd := gd 286 (by decide +kernel) rfl
theorem k_282 : (Cond.lays "FixedNumbersModel" "FixedNumbersModel" "upper" "J") ∈ lw_gd := gd 287 (by decide +kernel) rfl
theorem k_283 : (Cond.soleField "FixedNumbersModel" "upper") ∈ lw_gd := gd 288 (by decide +kernel) rfl
theorem k_284 : (Cond.lays "FixedNumbersModel" "FixedNumbersModel" "lower" "J") ∈ lw_gd := gd 289 (by decide +kernel) rfl
theorem k_285 : (Cond.soleField "FixedNumbersModel" "lower") ∈ lw_gd := gd 290 (by decide +kernel) rfl
theorem k_286 : (Cond.lays "FixedNumbersModel" "FixedNumbersModel" "left" "J") ∈ lw_gd := gd 291 (by decide +kernel) rfl
theorem k_287 : (Cond.soleField "FixedNumbersModel" "left") ∈ lw_gd := gd 292 (by decide +kernel) rfl
theorem k_288 : (Cond.superclass "FixedNumbersModel" "java/lang/Object") ∈ lw_gd := gd 293 (by decide +kernel) rfl
theorem k_289 : (Cond.methodLink "FixedNumbersLaw" 57 y_M_thrown) ∈ lw_gd := gd 294 (by decide +kernel) rfl
theorem k_290 : (Cond.instanceMethod y_M_thrown) ∈ lw_gd := gd 295 (by decide +kernel) rfl
theorem k_291 : (Cond.selects "FixedNumbersModel" y_M_thrown y_M_thrown) ∈ lw_gd := gd 296 (by decide +kernel) rfl
theorem k_292 : (Cond.code y_M_thrown b_M_thrown 1 (some FieldType.int)) ∈ lw_gd := gd 297 (by decide +kernel) rfl
theorem k_293 : (Cond.methodLink "FixedNumbersLaw" 36 y_M_product) ∈ lw_gd := gd 298 (by decide +kernel) rfl
theorem k_294 : (Cond.instanceMethod y_M_product) ∈ lw_gd := gd 299 (by decide +kernel) rfl
theorem k_295 : (Cond.selects "FixedNumbersModel" y_M_product y_M_product) ∈ lw_gd := gd 300 (by decide +kernel) rfl
theorem k_296 : (Cond.code y_M_product b_M_product 7 (some FieldType.int)) ∈ lw_gd := gd 301 (by decide +kernel) rfl
theorem k_297 : (Cond.constant "FixedNumbersModel" 13 (65535 : Int32)) ∈ lw_gd := gd 302 (by decide +kernel) rfl
theorem k_298 : (Cond.methodLink "FixedNumbersLaw" 40 y_M_quotient) ∈ lw_gd := gd 303 (by decide +kernel) rfl
theorem k_299 : (Cond.instanceMethod y_M_quotient) ∈ lw_gd := gd 304 (by decide +kernel) rfl
theorem k_300 : (Cond.selects "FixedNumbersModel" y_M_quotient y_M_quotient) ∈ lw_gd := gd 305 (by decide +kernel) rfl
theorem k_301 : (Cond.code y_M_quotient b_M_quotient 12 (some FieldType.int)) ∈ lw_gd := gd 306 (by decide +kernel) rfl
theorem k_302 : (Cond.constant "FixedNumbersModel" 42 (2147483647 : Int32)) ∈ lw_gd := gd 307 (by decide +kernel) rfl
theorem k_303 : (Cond.constant "FixedNumbersModel" 43 (-2147483648 : Int32)) ∈ lw_gd := gd 308 (by decide +kernel) rfl
theorem k_304 : (Cond.methodLink "FixedNumbersModel" 30 y_M_size) ∈ lw_gd := gd 309 (by decide +kernel) rfl
theorem k_305 : (Cond.static y_M_size) ∈ lw_gd := gd 310 (by decide +kernel) rfl
theorem k_306 : (Cond.code y_M_size b_M_size 2 (some FieldType.long)) ∈ lw_gd := gd 311 (by decide +kernel) rfl
theorem k_307 : (Cond.constantLong "FixedNumbersModel" 44 (2147483647 : Int64)) ∈ lw_gd := gd 312 (by decide +kernel) rfl
theorem k_308 : (Cond.constantLong "FixedNumbersModel" 46 (-2147483648 : Int64)) ∈ lw_gd := gd 313 (by decide +kernel) rfl
theorem k_309 : (Cond.methodLink "FixedNumbersLaw" 44 y_M_root) ∈ lw_gd := gd 314 (by decide +kernel) rfl
theorem k_310 : (Cond.instanceMethod y_M_root) ∈ lw_gd := gd 315 (by decide +kernel) rfl
theorem k_311 : (Cond.selects "FixedNumbersModel" y_M_root y_M_root) ∈ lw_gd := gd 316 (by decide +kernel) rfl
theorem k_312 : (Cond.code y_M_root b_M_root 8 (some FieldType.int)) ∈ lw_gd := gd 317 (by decide +kernel) rfl
theorem k_313 : (Cond.constantLong "FixedNumbersModel" 48 (65536 : Int64)) ∈ lw_gd := gd 318 (by decide +kernel) rfl
theorem k_314 : (Cond.constantLong "FixedNumbersModel" 50 (16777216 : Int64)) ∈ lw_gd := gd 319 (by decide +kernel) rfl
theorem k_315 : (Cond.methodLink "FixedNumbersLaw" 48 y_M_oneByRoot) ∈ lw_gd := gd 320 (by decide +kernel) rfl
theorem k_316 : (Cond.instanceMethod y_M_oneByRoot) ∈ lw_gd := gd 321 (by decide +kernel) rfl
theorem k_317 : (Cond.selects "FixedNumbersModel" y_M_oneByRoot y_M_oneByRoot) ∈ lw_gd := gd 322 (by decide +kernel) rfl
theorem k_318 : (Cond.code y_M_oneByRoot b_M_oneByRoot 8 (some FieldType.int)) ∈ lw_gd := gd 323 (by decide +kernel) rfl
theorem k_319 : (Cond.constantLong "FixedNumbersModel" 52 (281474976710656 : Int64)) ∈ lw_gd := gd 324 (by decide +kernel) rfl
theorem k_320 : (Cond.methodLink "FixedNumbersLaw" 56 y_M_ratio) ∈ lw_gd := gd 325 (by decide +kernel) rfl
theorem k_321 : (Cond.instanceMethod y_M_ratio) ∈ lw_gd := gd 326 (by decide +kernel) rfl
theorem k_322 : (Cond.selects "FixedNumbersModel" y_M_ratio y_M_ratio) ∈ lw_gd := gd 327 (by decide +kernel) rfl
theorem k_323 : (Cond.code y_M_ratio b_M_ratio 9 (some FieldType.long)) ∈ lw_gd := gd 328 (by decide +kernel) rfl
theorem k_324 : (Cond.methodLink "FixedNumbersModel" 54 y_M_exact) ∈ lw_gd := gd 329 (by decide +kernel) rfl
theorem k_326 : (Cond.instanceMethod y_M_exact) ∈ lw_gd := gd 331 (by decide +kernel) rfl
theorem k_327 : (Cond.code y_M_exact b_M_exact 9 (some FieldType.long)) ∈ lw_gd := gd 332 (by decide +kernel) rfl
theorem k_328 : (Cond.methodLink "FixedNumbersModel" 34 y_M_multiply) ∈ lw_gd := gd 333 (by decide +kernel) rfl
theorem k_330 : (Cond.instanceMethod y_M_multiply) ∈ lw_gd := gd 335 (by decide +kernel) rfl
theorem k_331 : (Cond.code y_M_multiply b_M_multiply 8 none) ∈ lw_gd := gd 336 (by decide +kernel) rfl
theorem k_332 : (Cond.methodLink "FixedNumbersModel" 23 y_M_below) ∈ lw_gd := gd 337 (by decide +kernel) rfl
theorem k_333 : (Cond.static y_M_below) ∈ lw_gd := gd 338 (by decide +kernel) rfl
theorem k_334 : (Cond.code y_M_below b_M_below 4 (some FieldType.boolean)) ∈ lw_gd := gd 339 (by decide +kernel) rfl
theorem k_335 : (Cond.constantLong "FixedNumbersModel" 14 (-9223372036854775808 : Int64)) ∈ lw_gd := gd 340 (by decide +kernel) rfl
theorem k_336 : (Cond.methodLink "FixedNumbersModel" 38 y_M_divide) ∈ lw_gd := gd 341 (by decide +kernel) rfl
theorem k_338 : (Cond.instanceMethod y_M_divide) ∈ lw_gd := gd 343 (by decide +kernel) rfl
theorem k_339 : (Cond.code y_M_divide b_M_divide 13 none) ∈ lw_gd := gd 344 (by decide +kernel) rfl
theorem k_340 : (Cond.methodLink "FixedNumbersLaw" 64 y_M_between) ∈ lw_gd := gd 345 (by decide +kernel) rfl
theorem k_341 : (Cond.instanceMethod y_M_between) ∈ lw_gd := gd 346 (by decide +kernel) rfl
theorem k_342 : (Cond.selects "FixedNumbersModel" y_M_between y_M_between) ∈ lw_gd := gd 347 (by decide +kernel) rfl
theorem k_343 : (Cond.code y_M_between b_M_between 7 (some FieldType.int)) ∈ lw_gd := gd 348 (by decide +kernel) rfl
theorem k_344 : (Cond.methodLink "FixedNumbersLaw" 68 y_M_channel) ∈ lw_gd := gd 349 (by decide +kernel) rfl
theorem k_345 : (Cond.instanceMethod y_M_channel) ∈ lw_gd := gd 350 (by decide +kernel) rfl
theorem k_346 : (Cond.selects "FixedNumbersModel" y_M_channel y_M_channel) ∈ lw_gd := gd 351 (by decide +kernel) rfl
theorem k_347 : (Cond.code y_M_channel b_M_channel 2 (some FieldType.int)) ∈ lw_gd := gd 352 (by decide +kernel) rfl
theorem k_348 : (Cond.constant "FixedNumbersModel" 58 (65536 : Int32)) ∈ lw_gd := gd 353 (by decide +kernel) rfl
theorem k_349 : (Cond.methodLink "FixedNumbersModel" 59 y_M_nearest) ∈ lw_gd := gd 354 (by decide +kernel) rfl
theorem k_350 : (Cond.static y_M_nearest) ∈ lw_gd := gd 355 (by decide +kernel) rfl
theorem k_351 : (Cond.code y_M_nearest b_M_nearest 3 (some FieldType.int)) ∈ lw_gd := gd 356 (by decide +kernel) rfl
theorem k_352 : (Cond.methodLink "FixedNumbersLaw" 72 y_M_fixed) ∈ lw_gd := gd 357 (by decide +kernel) rfl
theorem k_353 : (Cond.instanceMethod y_M_fixed) ∈ lw_gd := gd 358 (by decide +kernel) rfl
theorem k_354 : (Cond.selects "FixedNumbersModel" y_M_fixed y_M_fixed) ∈ lw_gd := gd 359 (by decide +kernel) rfl
theorem k_355 : (Cond.code y_M_fixed b_M_fixed 2 (some FieldType.int)) ∈ lw_gd := gd 360 (by decide +kernel) rfl
theorem k_356 : (Cond.methodLink "FixedNumbersLaw" 76 y_M_shade) ∈ lw_gd := gd 361 (by decide +kernel) rfl
theorem k_357 : (Cond.instanceMethod y_M_shade) ∈ lw_gd := gd 362 (by decide +kernel) rfl
theorem k_358 : (Cond.selects "FixedNumbersModel" y_M_shade y_M_shade) ∈ lw_gd := gd 363 (by decide +kernel) rfl
theorem k_359 : (Cond.code y_M_shade b_M_shade 3 (some FieldType.int)) ∈ lw_gd := gd 364 (by decide +kernel) rfl
theorem k_360 : (Cond.methodLink "FixedNumbersLaw" 80 y_M_fromHalf) ∈ lw_gd := gd 365 (by decide +kernel) rfl
theorem k_361 : (Cond.instanceMethod y_M_fromHalf) ∈ lw_gd := gd 366 (by decide +kernel) rfl
theorem k_362 : (Cond.selects "FixedNumbersModel" y_M_fromHalf y_M_fromHalf) ∈ lw_gd := gd 367 (by decide +kernel) rfl
theorem k_363 : (Cond.code y_M_fromHalf b_M_fromHalf 7 (some FieldType.int)) ∈ lw_gd := gd 368 (by decide +kernel) rfl
theorem k_364 : (Cond.methodLink "FixedNumbersModel" 65 y_M_scaled) ∈ lw_gd := gd 369 (by decide +kernel) rfl
theorem k_365 : (Cond.static y_M_scaled) ∈ lw_gd := gd 370 (by decide +kernel) rfl
theorem k_366 : (Cond.code y_M_scaled b_M_scaled 4 (some FieldType.long)) ∈ lw_gd := gd 371 (by decide +kernel) rfl
theorem k_367 : (Cond.constantLong "FixedNumbersModel" 63 (1024 : Int64)) ∈ lw_gd := gd 372 (by decide +kernel) rfl
theorem k_368 : (Cond.methodLink "FixedNumbersLaw" 84 y_M_toHalf) ∈ lw_gd := gd 373 (by decide +kernel) rfl
theorem k_369 : (Cond.instanceMethod y_M_toHalf) ∈ lw_gd := gd 374 (by decide +kernel) rfl
theorem k_370 : (Cond.selects "FixedNumbersModel" y_M_toHalf y_M_toHalf) ∈ lw_gd := gd 375 (by decide +kernel) rfl
theorem k_371 : (Cond.code y_M_toHalf b_M_toHalf 11 (some FieldType.int)) ∈ lw_gd := gd 376 (by decide +kernel) rfl
theorem k_372 : (Cond.constant "FixedNumbersModel" 69 (32768 : Int32)) ∈ lw_gd := gd 377 (by decide +kernel) rfl
theorem k_373 : (Cond.constantLong "FixedNumbersLaw" 49 (4294967295 : Int64)) ∈ lw_gd := gd 378 (by decide +kernel) rfl
theorem k_374 : (Cond.arrayClass FieldType.long) ∈ lw_gd := gd 379 (by decide +kernel) rfl
theorem k_375 : (Cond.sameMethod "java/lang/Throwable" "java/lang/Throwable" "fillInStackTrace" "(I)Ljava/lang/Throwable;") ∈ lw_gd := gd 380 (by decide +kernel) rfl
theorem k_m4 : (Cond.selects "FixedNumbers$Division" y_D_digit y_D_digit) ∈ lw_gd := gd 1 (by decide +kernel) rfl
theorem k_m3 : (Cond.selects "FixedNumbersModel" y_M_exact y_M_exact) ∈ lw_gd := gd 2 (by decide +kernel) rfl
theorem k_m2 : (Cond.selects "FixedNumbersModel" y_M_multiply y_M_multiply) ∈ lw_gd := gd 3 (by decide +kernel) rfl
theorem k_m1 : (Cond.selects "FixedNumbersModel" y_M_divide y_M_divide) ∈ lw_gd := gd 4 (by decide +kernel) rfl
end
section
theorem d_D_digit_0 : decode b_D_digit 0 = .ok (.lload 5, 2) := by decide +kernel
theorem d_D_digit_2 : decode b_D_digit 2 = .ok (.bipush 32, 2) := by decide +kernel
theorem d_D_digit_4 : decode b_D_digit 4 = .ok (.lushr, 1) := by decide +kernel
theorem d_D_digit_5 : decode b_D_digit 5 = .ok (.lstore 7, 2) := by decide +kernel
theorem d_D_digit_7 : decode b_D_digit 7 = .ok (.lload 5, 2) := by decide +kernel
theorem d_D_digit_9 : decode b_D_digit 9 = .ok (.ldc2_w 9, 3) := by decide +kernel
theorem d_D_digit_12 : decode b_D_digit 12 = .ok (.land, 1) := by decide +kernel
theorem d_D_digit_13 : decode b_D_digit 13 = .ok (.lstore 9, 2) := by decide +kernel
theorem d_D_digit_15 : decode b_D_digit 15 = .ok (.lload_n 1, 1) := by decide +kernel
theorem d_D_digit_16 : decode b_D_digit 16 = .ok (.lload 7, 2) := by decide +kernel
theorem d_D_digit_18 : decode b_D_digit 18 = .ok (.invokestatic 11, 3) := by decide +kernel
theorem d_D_digit_21 : decode b_D_digit 21 = .ok (.lstore 11, 2) := by decide +kernel
theorem d_D_digit_23 : decode b_D_digit 23 = .ok (.lload_n 1, 1) := by decide +kernel
theorem d_D_digit_24 : decode b_D_digit 24 = .ok (.lload 7, 2) := by decide +kernel
theorem d_D_digit_26 : decode b_D_digit 26 = .ok (.invokestatic 17, 3) := by decide +kernel
theorem d_D_digit_29 : decode b_D_digit 29 = .ok (.lstore 13, 2) := by decide +kernel
theorem d_D_digit_31 : decode b_D_digit 31 = .ok (.lload 11, 2) := by decide +kernel
theorem d_D_digit_33 : decode b_D_digit 33 = .ok (.ldc2_w 9, 3) := by decide +kernel
theorem d_D_digit_36 : decode b_D_digit 36 = .ok (.lcmp, 1) := by decide +kernel
theorem d_D_digit_37 : decode b_D_digit 37 = .ok (.ifCond .gt 30, 3) := by decide +kernel
theorem d_D_digit_40 : decode b_D_digit 40 = .ok (.lload 13, 2) := by decide +kernel
theorem d_D_digit_42 : decode b_D_digit 42 = .ok (.ldc2_w 9, 3) := by decide +kernel
theorem d_D_digit_45 : decode b_D_digit 45 = .ok (.lcmp, 1) := by decide +kernel
theorem d_D_digit_46 : decode b_D_digit 46 = .ok (.ifCond .gt 46, 3) := by decide +kernel
theorem d_D_digit_49 : decode b_D_digit 49 = .ok (.lload 11, 2) := by decide +kernel
theorem d_D_digit_51 : decode b_D_digit 51 = .ok (.lload 9, 2) := by decide +kernel
theorem d_D_digit_53 : decode b_D_digit 53 = .ok (.lmul, 1) := by decide +kernel
theorem d_D_digit_54 : decode b_D_digit 54 = .ok (.lload 13, 2) := by decide +kernel
theorem d_D_digit_56 : decode b_D_digit 56 = .ok (.bipush 32, 2) := by decide +kernel
theorem d_D_digit_58 : decode b_D_digit 58 = .ok (.lshl, 1) := by decide +kernel
theorem d_D_digit_59 : decode b_D_digit 59 = .ok (.lload_n 3, 1) := by decide +kernel
theorem d_D_digit_60 : decode b_D_digit 60 = .ok (.lor, 1) := by decide +kernel
theorem d_D_digit_61 : decode b_D_digit 61 = .ok (.invokestatic 20, 3) := by decide +kernel
theorem d_D_digit_64 : decode b_D_digit 64 = .ok (.ifCond .le 28, 3) := by decide +kernel
theorem d_D_digit_67 : decode b_D_digit 67 = .ok (.lload 11, 2) := by decide +kernel
theorem d_D_digit_69 : decode b_D_digit 69 = .ok (.lconst 1, 1) := by decide +kernel
theorem d_D_digit_70 : decode b_D_digit 70 = .ok (.lsub, 1) := by decide +kernel
theorem d_D_digit_71 : decode b_D_digit 71 = .ok (.lstore 11, 2) := by decide +kernel
theorem d_D_digit_73 : decode b_D_digit 73 = .ok (.lload 13, 2) := by decide +kernel
theorem d_D_digit_75 : decode b_D_digit 75 = .ok (.lload 7, 2) := by decide +kernel
theorem d_D_digit_77 : decode b_D_digit 77 = .ok (.ladd, 1) := by decide +kernel
theorem d_D_digit_78 : decode b_D_digit 78 = .ok (.lstore 13, 2) := by decide +kernel
theorem d_D_digit_80 : decode b_D_digit 80 = .ok (.lload 13, 2) := by decide +kernel
theorem d_D_digit_82 : decode b_D_digit 82 = .ok (.ldc2_w 9, 3) := by decide +kernel
theorem d_D_digit_85 : decode b_D_digit 85 = .ok (.lcmp, 1) := by decide +kernel
theorem d_D_digit_86 : decode b_D_digit 86 = .ok (.ifCond .le (-55), 3) := by decide +kernel
theorem d_D_digit_89 : decode b_D_digit 89 = .ok (.goto 3, 3) := by decide +kernel
theorem d_D_digit_92 : decode b_D_digit 92 = .ok (.aload_n 0, 1) := by decide +kernel
theorem d_D_digit_93 : decode b_D_digit 93 = .ok (.lload_n 1, 1) := by decide +kernel
theorem d_D_digit_94 : decode b_D_digit 94 = .ok (.bipush 32, 2) := by decide +kernel
theorem d_D_digit_96 : decode b_D_digit 96 = .ok (.lshl, 1) := by decide +kernel
theorem d_D_digit_97 : decode b_D_digit 97 = .ok (.lload_n 3, 1) := by decide +kernel
theorem d_D_digit_98 : decode b_D_digit 98 = .ok (.lor, 1) := by decide +kernel
theorem d_D_digit_99 : decode b_D_digit 99 = .ok (.lload 11, 2) := by decide +kernel
theorem d_D_digit_101 : decode b_D_digit 101 = .ok (.lload 5, 2) := by decide +kernel
theorem d_D_digit_103 : decode b_D_digit 103 = .ok (.lmul, 1) := by decide +kernel
theorem d_D_digit_104 : decode b_D_digit 104 = .ok (.lsub, 1) := by decide +kernel
theorem d_D_digit_105 : decode b_D_digit 105 = .ok (.putfield 24, 3) := by decide +kernel
theorem d_D_digit_108 : decode b_D_digit 108 = .ok (.lload 11, 2) := by decide +kernel
theorem d_D_digit_110 : decode b_D_digit 110 = .ok (.lreturn, 1) := by decide +kernel
theorem d_D_divide_0 : decode b_D_divide 0 = .ok (.lload 5, 2) := by decide +kernel
theorem d_D_divide_2 : decode b_D_divide 2 = .ok (.invokestatic 30, 3) := by decide +kernel
theorem d_D_divide_5 : decode b_D_divide 5 = .ok (.istore 7, 2) := by decide +kernel
theorem d_D_divide_7 : decode b_D_divide 7 = .ok (.lload 5, 2) := by decide +kernel
theorem d_D_divide_9 : decode b_D_divide 9 = .ok (.iload 7, 2) := by decide +kernel
theorem d_D_divide_11 : decode b_D_divide 11 = .ok (.lshl, 1) := by decide +kernel
theorem d_D_divide_12 : decode b_D_divide 12 = .ok (.lstore 8, 2) := by decide +kernel
theorem d_D_divide_14 : decode b_D_divide 14 = .ok (.iload 7, 2) := by decide +kernel
theorem d_D_divide_16 : decode b_D_divide 16 = .ok (.ifCond .ne 7, 3) := by decide +kernel
theorem d_D_divide_19 : decode b_D_divide 19 = .ok (.lload_n 1, 1) := by decide +kernel
theorem d_D_divide_20 : decode b_D_divide 20 = .ok (.goto 15, 3) := by decide +kernel
theorem d_D_divide_23 : decode b_D_divide 23 = .ok (.lload_n 1, 1) := by decide +kernel
theorem d_D_divide_24 : decode b_D_divide 24 = .ok (.iload 7, 2) := by decide +kernel
theorem d_D_divide_26 : decode b_D_divide 26 = .ok (.lshl, 1) := by decide +kernel
theorem d_D_divide_27 : decode b_D_divide 27 = .ok (.lload_n 3, 1) := by decide +kernel
theorem d_D_divide_28 : decode b_D_divide 28 = .ok (.bipush 64, 2) := by decide +kernel
theorem d_D_divide_30 : decode b_D_divide 30 = .ok (.iload 7, 2) := by decide +kernel
theorem d_D_divide_32 : decode b_D_divide 32 = .ok (.isub, 1) := by decide +kernel
theorem d_D_divide_33 : decode b_D_divide 33 = .ok (.lushr, 1) := by decide +kernel
theorem d_D_divide_34 : decode b_D_divide 34 = .ok (.lor, 1) := by decide +kernel
theorem d_D_divide_35 : decode b_D_divide 35 = .ok (.lstore 10, 2) := by decide +kernel
theorem d_D_divide_37 : decode b_D_divide 37 = .ok (.lload_n 3, 1) := by decide +kernel
theorem d_D_divide_38 : decode b_D_divide 38 = .ok (.iload 7, 2) := by decide +kernel
theorem d_D_divide_40 : decode b_D_divide 40 = .ok (.lshl, 1) := by decide +kernel
theorem d_D_divide_41 : decode b_D_divide 41 = .ok (.lstore 12, 2) := by decide +kernel
theorem d_D_divide_43 : decode b_D_divide 43 = .ok (.aload_n 0, 1) := by decide +kernel
theorem d_D_divide_44 : decode b_D_divide 44 = .ok (.lload 10, 2) := by decide +kernel
theorem d_D_divide_46 : decode b_D_divide 46 = .ok (.lload 12, 2) := by decide +kernel
theorem d_D_divide_48 : decode b_D_divide 48 = .ok (.bipush 32, 2) := by decide +kernel
theorem d_D_divide_50 : decode b_D_divide 50 = .ok (.lushr, 1) := by decide +kernel
theorem d_D_divide_51 : decode b_D_divide 51 = .ok (.lload 8, 2) := by decide +kernel
theorem d_D_divide_53 : decode b_D_divide 53 = .ok (.invokevirtual 34, 3) := by decide +kernel
theorem d_D_divide_56 : decode b_D_divide 56 = .ok (.lstore 14, 2) := by decide +kernel
theorem d_D_divide_58 : decode b_D_divide 58 = .ok (.aload_n 0, 1) := by decide +kernel
theorem d_D_divide_59 : decode b_D_divide 59 = .ok (.lload 14, 2) := by decide +kernel
theorem d_D_divide_61 : decode b_D_divide 61 = .ok (.bipush 32, 2) := by decide +kernel
theorem d_D_divide_63 : decode b_D_divide 63 = .ok (.lshl, 1) := by decide +kernel
theorem d_D_divide_64 : decode b_D_divide 64 = .ok (.aload_n 0, 1) := by decide +kernel
theorem d_D_divide_65 : decode b_D_divide 65 = .ok (.aload_n 0, 1) := by decide +kernel
theorem d_D_divide_66 : decode b_D_divide 66 = .ok (.getfield 24, 3) := by decide +kernel
theorem d_D_divide_69 : decode b_D_divide 69 = .ok (.lload 12, 2) := by decide +kernel
theorem d_D_divide_71 : decode b_D_divide 71 = .ok (.ldc2_w 9, 3) := by decide +kernel
theorem d_D_divide_74 : decode b_D_divide 74 = .ok (.land, 1) := by decide +kernel
theorem d_D_divide_75 : decode b_D_divide 75 = .ok (.lload 8, 2) := by decide +kernel
theorem d_D_divide_77 : decode b_D_divide 77 = .ok (.invokevirtual 34, 3) := by decide +kernel
theorem d_D_divide_80 : decode b_D_divide 80 = .ok (.lor, 1) := by decide +kernel
theorem d_D_divide_81 : decode b_D_divide 81 = .ok (.putfield 38, 3) := by decide +kernel
theorem d_D_divide_84 : decode b_D_divide 84 = .ok (.aload_n 0, 1) := by decide +kernel
theorem d_D_divide_85 : decode b_D_divide 85 = .ok (.aload_n 0, 1) := by decide +kernel
theorem d_D_divide_86 : decode b_D_divide 86 = .ok (.getfield 24, 3) := by decide +kernel
theorem d_D_divide_89 : decode b_D_divide 89 = .ok (.iload 7, 2) := by decide +kernel
theorem d_D_divide_91 : decode b_D_divide 91 = .ok (.lushr, 1) := by decide +kernel
theorem d_D_divide_92 : decode b_D_divide 92 = .ok (.putfield 24, 3) := by decide +kernel
theorem d_D_divide_95 : decode b_D_divide 95 = .ok (.return_, 1) := by decide +kernel
theorem d_D_init_0 : decode b_D_init 0 = .ok (.aload_n 0, 1) := by decide +kernel
theorem d_D_init_1 : decode b_D_init 1 = .ok (.invokespecial 3, 3) := by decide +kernel
theorem d_D_init_4 : decode b_D_init 4 = .ok (.return_, 1) := by decide +kernel
theorem d_J_cmp_0 : decode b_J_cmp 0 = .ok (.lload_n 0, 1) := by decide +kernel
theorem d_J_cmp_1 : decode b_J_cmp 1 = .ok (.lload_n 2, 1) := by decide +kernel
theorem d_J_cmp_2 : decode b_J_cmp 2 = .ok (.lcmp, 1) := by decide +kernel
theorem d_J_cmp_3 : decode b_J_cmp 3 = .ok (.ifCond .ge 7, 3) := by decide +kernel
theorem d_J_cmp_6 : decode b_J_cmp 6 = .ok (.iconst (-1), 1) := by decide +kernel
theorem d_J_cmp_7 : decode b_J_cmp 7 = .ok (.goto 14, 3) := by decide +kernel
theorem d_J_cmp_10 : decode b_J_cmp 10 = .ok (.lload_n 0, 1) := by decide +kernel
theorem d_J_cmp_11 : decode b_J_cmp 11 = .ok (.lload_n 2, 1) := by decide +kernel
theorem d_J_cmp_12 : decode b_J_cmp 12 = .ok (.lcmp, 1) := by decide +kernel
theorem d_J_cmp_13 : decode b_J_cmp 13 = .ok (.ifCond .ne 7, 3) := by decide +kernel
theorem d_J_cmp_16 : decode b_J_cmp 16 = .ok (.iconst 0, 1) := by decide +kernel
theorem d_J_cmp_17 : decode b_J_cmp 17 = .ok (.goto 4, 3) := by decide +kernel
theorem d_J_cmp_20 : decode b_J_cmp 20 = .ok (.iconst 1, 1) := by decide +kernel
theorem d_J_cmp_21 : decode b_J_cmp 21 = .ok (.ireturn, 1) := by decide +kernel
theorem d_J_cu_0 : decode b_J_cu 0 = .ok (.lload_n 0, 1) := by decide +kernel
theorem d_J_cu_1 : decode b_J_cu 1 = .ok (.ldc2_w 168, 3) := by decide +kernel
theorem d_J_cu_4 : decode b_J_cu 4 = .ok (.ladd, 1) := by decide +kernel
theorem d_J_cu_5 : decode b_J_cu 5 = .ok (.lload_n 2, 1) := by decide +kernel
theorem d_J_cu_6 : decode b_J_cu 6 = .ok (.ldc2_w 168, 3) := by decide +kernel
theorem d_J_cu_9 : decode b_J_cu 9 = .ok (.ladd, 1) := by decide +kernel
theorem d_J_cu_10 : decode b_J_cu 10 = .ok (.invokestatic 302, 3) := by decide +kernel
theorem d_J_cu_13 : decode b_J_cu 13 = .ok (.ireturn, 1) := by decide +kernel
theorem d_J_du_0 : decode b_J_du 0 = .ok (.lload_n 2, 1) := by decide +kernel
theorem d_J_du_1 : decode b_J_du 1 = .ok (.lconst 0, 1) := by decide +kernel
theorem d_J_du_2 : decode b_J_du 2 = .ok (.lcmp, 1) := by decide +kernel
theorem d_J_du_3 : decode b_J_du 3 = .ok (.ifCond .lt 38, 3) := by decide +kernel
theorem d_J_du_6 : decode b_J_du 6 = .ok (.lload_n 0, 1) := by decide +kernel
theorem d_J_du_7 : decode b_J_du 7 = .ok (.iconst 1, 1) := by decide +kernel
theorem d_J_du_8 : decode b_J_du 8 = .ok (.lushr, 1) := by decide +kernel
theorem d_J_du_9 : decode b_J_du 9 = .ok (.lload_n 2, 1) := by decide +kernel
theorem d_J_du_10 : decode b_J_du 10 = .ok (.ldiv, 1) := by decide +kernel
theorem d_J_du_11 : decode b_J_du 11 = .ok (.iconst 1, 1) := by decide +kernel
theorem d_J_du_12 : decode b_J_du 12 = .ok (.lshl, 1) := by decide +kernel
theorem d_J_du_13 : decode b_J_du 13 = .ok (.lstore 4, 2) := by decide +kernel
theorem d_J_du_15 : decode b_J_du 15 = .ok (.lload_n 0, 1) := by decide +kernel
theorem d_J_du_16 : decode b_J_du 16 = .ok (.lload 4, 2) := by decide +kernel
theorem d_J_du_18 : decode b_J_du 18 = .ok (.lload_n 2, 1) := by decide +kernel
theorem d_J_du_19 : decode b_J_du 19 = .ok (.lmul, 1) := by decide +kernel
theorem d_J_du_20 : decode b_J_du 20 = .ok (.lsub, 1) := by decide +kernel
theorem d_J_du_21 : decode b_J_du 21 = .ok (.lstore 6, 2) := by decide +kernel
theorem d_J_du_23 : decode b_J_du 23 = .ok (.lload 4, 2) := by decide +kernel
theorem d_J_du_25 : decode b_J_du 25 = .ok (.lload 6, 2) := by decide +kernel
theorem d_J_du_27 : decode b_J_du 27 = .ok (.lload 6, 2) := by decide +kernel
theorem d_J_du_29 : decode b_J_du 29 = .ok (.lload_n 2, 1) := by decide +kernel
theorem d_J_du_30 : decode b_J_du 30 = .ok (.lsub, 1) := by decide +kernel
theorem d_J_du_31 : decode b_J_du 31 = .ok (.ldc2_w 306, 3) := by decide +kernel
theorem d_J_du_34 : decode b_J_du 34 = .ok (.lxor, 1) := by decide +kernel
theorem d_J_du_35 : decode b_J_du 35 = .ok (.lor, 1) := by decide +kernel
theorem d_J_du_36 : decode b_J_du 36 = .ok (.bipush 63, 2) := by decide +kernel
theorem d_J_du_38 : decode b_J_du 38 = .ok (.lushr, 1) := by decide +kernel
theorem d_J_du_39 : decode b_J_du 39 = .ok (.ladd, 1) := by decide +kernel
theorem d_J_du_40 : decode b_J_du 40 = .ok (.lreturn, 1) := by decide +kernel
theorem d_J_du_41 : decode b_J_du 41 = .ok (.lload_n 0, 1) := by decide +kernel
theorem d_J_du_42 : decode b_J_du 42 = .ok (.lload_n 0, 1) := by decide +kernel
theorem d_J_du_43 : decode b_J_du 43 = .ok (.lload_n 2, 1) := by decide +kernel
theorem d_J_du_44 : decode b_J_du 44 = .ok (.lsub, 1) := by decide +kernel
theorem d_J_du_45 : decode b_J_du 45 = .ok (.ldc2_w 306, 3) := by decide +kernel
theorem d_J_du_48 : decode b_J_du 48 = .ok (.lxor, 1) := by decide +kernel
theorem d_J_du_49 : decode b_J_du 49 = .ok (.land, 1) := by decide +kernel
theorem d_J_du_50 : decode b_J_du 50 = .ok (.bipush 63, 2) := by decide +kernel
theorem d_J_du_52 : decode b_J_du 52 = .ok (.lushr, 1) := by decide +kernel
theorem d_J_du_53 : decode b_J_du 53 = .ok (.lreturn, 1) := by decide +kernel
theorem d_J_fd_0 : decode b_J_fd 0 = .ok (.lload_n 0, 1) := by decide +kernel
theorem d_J_fd_1 : decode b_J_fd 1 = .ok (.lload_n 2, 1) := by decide +kernel
theorem d_J_fd_2 : decode b_J_fd 2 = .ok (.ldiv, 1) := by decide +kernel
theorem d_J_fd_3 : decode b_J_fd 3 = .ok (.lstore 4, 2) := by decide +kernel
theorem d_J_fd_5 : decode b_J_fd 5 = .ok (.lload_n 0, 1) := by decide +kernel
theorem d_J_fd_6 : decode b_J_fd 6 = .ok (.lload_n 2, 1) := by decide +kernel
theorem d_J_fd_7 : decode b_J_fd 7 = .ok (.lxor, 1) := by decide +kernel
theorem d_J_fd_8 : decode b_J_fd 8 = .ok (.lconst 0, 1) := by decide +kernel
theorem d_J_fd_9 : decode b_J_fd 9 = .ok (.lcmp, 1) := by decide +kernel
theorem d_J_fd_10 : decode b_J_fd 10 = .ok (.ifCond .ge 17, 3) := by decide +kernel
theorem d_J_fd_13 : decode b_J_fd 13 = .ok (.lload 4, 2) := by decide +kernel
theorem d_J_fd_15 : decode b_J_fd 15 = .ok (.lload_n 2, 1) := by decide +kernel
theorem d_J_fd_16 : decode b_J_fd 16 = .ok (.lmul, 1) := by decide +kernel
theorem d_J_fd_17 : decode b_J_fd 17 = .ok (.lload_n 0, 1) := by decide +kernel
theorem d_J_fd_18 : decode b_J_fd 18 = .ok (.lcmp, 1) := by decide +kernel
theorem d_J_fd_19 : decode b_J_fd 19 = .ok (.ifCond .eq 8, 3) := by decide +kernel
theorem d_J_fd_22 : decode b_J_fd 22 = .ok (.lload 4, 2) := by decide +kernel
theorem d_J_fd_24 : decode b_J_fd 24 = .ok (.lconst 1, 1) := by decide +kernel
theorem d_J_fd_25 : decode b_J_fd 25 = .ok (.lsub, 1) := by decide +kernel
theorem d_J_fd_26 : decode b_J_fd 26 = .ok (.lreturn, 1) := by decide +kernel
theorem d_J_fd_27 : decode b_J_fd 27 = .ok (.lload 4, 2) := by decide +kernel
theorem d_J_fd_29 : decode b_J_fd 29 = .ok (.lreturn, 1) := by decide +kernel
theorem d_J_inz_0 : decode b_J_inz 0 = .ok (.iload_n 0, 1) := by decide +kernel
theorem d_J_inz_1 : decode b_J_inz 1 = .ok (.ifCond .gt 14, 3) := by decide +kernel
theorem d_J_inz_4 : decode b_J_inz 4 = .ok (.iload_n 0, 1) := by decide +kernel
theorem d_J_inz_5 : decode b_J_inz 5 = .ok (.ifCond .ne 8, 3) := by decide +kernel
theorem d_J_inz_8 : decode b_J_inz 8 = .ok (.bipush 32, 2) := by decide +kernel
theorem d_J_inz_10 : decode b_J_inz 10 = .ok (.goto 4, 3) := by decide +kernel
theorem d_J_inz_13 : decode b_J_inz 13 = .ok (.iconst 0, 1) := by decide +kernel
theorem d_J_inz_14 : decode b_J_inz 14 = .ok (.ireturn, 1) := by decide +kernel
theorem d_J_inz_15 : decode b_J_inz 15 = .ok (.bipush 31, 2) := by decide +kernel
theorem d_J_inz_17 : decode b_J_inz 17 = .ok (.istore_n 1, 1) := by decide +kernel
theorem d_J_inz_18 : decode b_J_inz 18 = .ok (.iload_n 0, 1) := by decide +kernel
theorem d_J_inz_19 : decode b_J_inz 19 = .ok (.ldc_w 264, 3) := by decide +kernel
theorem d_J_inz_22 : decode b_J_inz 22 = .ok (.if_icmp .lt 11, 3) := by decide +kernel
theorem d_J_inz_25 : decode b_J_inz 25 = .ok (.iinc 1 (-16), 3) := by decide +kernel
theorem d_J_inz_28 : decode b_J_inz 28 = .ok (.iload_n 0, 1) := by decide +kernel
theorem d_J_inz_29 : decode b_J_inz 29 = .ok (.bipush 16, 2) := by decide +kernel
theorem d_J_inz_31 : decode b_J_inz 31 = .ok (.iushr, 1) := by decide +kernel
theorem d_J_inz_32 : decode b_J_inz 32 = .ok (.istore_n 0, 1) := by decide +kernel
theorem d_J_inz_33 : decode b_J_inz 33 = .ok (.iload_n 0, 1) := by decide +kernel
theorem d_J_inz_34 : decode b_J_inz 34 = .ok (.sipush 256, 3) := by decide +kernel
theorem d_J_inz_37 : decode b_J_inz 37 = .ok (.if_icmp .lt 11, 3) := by decide +kernel
theorem d_J_inz_40 : decode b_J_inz 40 = .ok (.iinc 1 (-8), 3) := by decide +kernel
theorem d_J_inz_43 : decode b_J_inz 43 = .ok (.iload_n 0, 1) := by decide +kernel
theorem d_J_inz_44 : decode b_J_inz 44 = .ok (.bipush 8, 2) := by decide +kernel
theorem d_J_inz_46 : decode b_J_inz 46 = .ok (.iushr, 1) := by decide +kernel
theorem d_J_inz_47 : decode b_J_inz 47 = .ok (.istore_n 0, 1) := by decide +kernel
theorem d_J_inz_48 : decode b_J_inz 48 = .ok (.iload_n 0, 1) := by decide +kernel
theorem d_J_inz_49 : decode b_J_inz 49 = .ok (.bipush 16, 2) := by decide +kernel
theorem d_J_inz_51 : decode b_J_inz 51 = .ok (.if_icmp .lt 10, 3) := by decide +kernel
theorem d_J_inz_54 : decode b_J_inz 54 = .ok (.iinc 1 (-4), 3) := by decide +kernel
theorem d_J_inz_57 : decode b_J_inz 57 = .ok (.iload_n 0, 1) := by decide +kernel
theorem d_J_inz_58 : decode b_J_inz 58 = .ok (.iconst 4, 1) := by decide +kernel
theorem d_J_inz_59 : decode b_J_inz 59 = .ok (.iushr, 1) := by decide +kernel
theorem d_J_inz_60 : decode b_J_inz 60 = .ok (.istore_n 0, 1) := by decide +kernel
theorem d_J_inz_61 : decode b_J_inz 61 = .ok (.iload_n 0, 1) := by decide +kernel
theorem d_J_inz_62 : decode b_J_inz 62 = .ok (.iconst 4, 1) := by decide +kernel
theorem d_J_inz_63 : decode b_J_inz 63 = .ok (.if_icmp .lt 10, 3) := by decide +kernel
theorem d_J_inz_66 : decode b_J_inz 66 = .ok (.iinc 1 (-2), 3) := by decide +kernel
theorem d_J_inz_69 : decode b_J_inz 69 = .ok (.iload_n 0, 1) := by decide +kernel
theorem d_J_inz_70 : decode b_J_inz 70 = .ok (.iconst 2, 1) := by decide +kernel
theorem d_J_inz_71 : decode b_J_inz 71 = .ok (.iushr, 1) := by decide +kernel
theorem d_J_inz_72 : decode b_J_inz 72 = .ok (.istore_n 0, 1) := by decide +kernel
theorem d_J_inz_73 : decode b_J_inz 73 = .ok (.iload_n 1, 1) := by decide +kernel
theorem d_J_inz_74 : decode b_J_inz 74 = .ok (.iload_n 0, 1) := by decide +kernel
theorem d_J_inz_75 : decode b_J_inz 75 = .ok (.iconst 1, 1) := by decide +kernel
theorem d_J_inz_76 : decode b_J_inz 76 = .ok (.iushr, 1) := by decide +kernel
theorem d_J_inz_77 : decode b_J_inz 77 = .ok (.isub, 1) := by decide +kernel
theorem d_J_inz_78 : decode b_J_inz 78 = .ok (.ireturn, 1) := by decide +kernel
theorem d_J_lnz_0 : decode b_J_lnz 0 = .ok (.lload_n 0, 1) := by decide +kernel
theorem d_J_lnz_1 : decode b_J_lnz 1 = .ok (.bipush 32, 2) := by decide +kernel
theorem d_J_lnz_3 : decode b_J_lnz 3 = .ok (.lushr, 1) := by decide +kernel
theorem d_J_lnz_4 : decode b_J_lnz 4 = .ok (.l2i, 1) := by decide +kernel
theorem d_J_lnz_5 : decode b_J_lnz 5 = .ok (.istore_n 2, 1) := by decide +kernel
theorem d_J_lnz_6 : decode b_J_lnz 6 = .ok (.iload_n 2, 1) := by decide +kernel
theorem d_J_lnz_7 : decode b_J_lnz 7 = .ok (.ifCond .ne 14, 3) := by decide +kernel
theorem d_J_lnz_10 : decode b_J_lnz 10 = .ok (.bipush 32, 2) := by decide +kernel
theorem d_J_lnz_12 : decode b_J_lnz 12 = .ok (.lload_n 0, 1) := by decide +kernel
theorem d_J_lnz_13 : decode b_J_lnz 13 = .ok (.l2i, 1) := by decide +kernel
theorem d_J_lnz_14 : decode b_J_lnz 14 = .ok (.invokestatic 308, 3) := by decide +kernel
theorem d_J_lnz_17 : decode b_J_lnz 17 = .ok (.iadd, 1) := by decide +kernel
theorem d_J_lnz_18 : decode b_J_lnz 18 = .ok (.goto 7, 3) := by decide +kernel
theorem d_J_lnz_21 : decode b_J_lnz 21 = .ok (.iload_n 2, 1) := by decide +kernel
theorem d_J_lnz_22 : decode b_J_lnz 22 = .ok (.invokestatic 308, 3) := by decide +kernel
theorem d_J_lnz_25 : decode b_J_lnz 25 = .ok (.ireturn, 1) := by decide +kernel
theorem d_J_maxi_0 : decode b_J_maxi 0 = .ok (.iload_n 0, 1) := by decide +kernel
theorem d_J_maxi_1 : decode b_J_maxi 1 = .ok (.iload_n 1, 1) := by decide +kernel
theorem d_J_maxi_2 : decode b_J_maxi 2 = .ok (.if_icmp .lt 7, 3) := by decide +kernel
theorem d_J_maxi_5 : decode b_J_maxi 5 = .ok (.iload_n 0, 1) := by decide +kernel
theorem d_J_maxi_6 : decode b_J_maxi 6 = .ok (.goto 4, 3) := by decide +kernel
theorem d_J_maxi_9 : decode b_J_maxi 9 = .ok (.iload_n 1, 1) := by decide +kernel
theorem d_J_maxi_10 : decode b_J_maxi 10 = .ok (.ireturn, 1) := by decide +kernel
theorem d_J_maxl_0 : decode b_J_maxl 0 = .ok (.lload_n 0, 1) := by decide +kernel
theorem d_J_maxl_1 : decode b_J_maxl 1 = .ok (.lload_n 2, 1) := by decide +kernel
theorem d_J_maxl_2 : decode b_J_maxl 2 = .ok (.lcmp, 1) := by decide +kernel
theorem d_J_maxl_3 : decode b_J_maxl 3 = .ok (.ifCond .lt 7, 3) := by decide +kernel
theorem d_J_maxl_6 : decode b_J_maxl 6 = .ok (.lload_n 0, 1) := by decide +kernel
theorem d_J_maxl_7 : decode b_J_maxl 7 = .ok (.goto 4, 3) := by decide +kernel
theorem d_J_maxl_10 : decode b_J_maxl 10 = .ok (.lload_n 2, 1) := by decide +kernel
theorem d_J_maxl_11 : decode b_J_maxl 11 = .ok (.lreturn, 1) := by decide +kernel
theorem d_J_mh_0 : decode b_J_mh 0 = .ok (.lload_n 0, 1) := by decide +kernel
theorem d_J_mh_1 : decode b_J_mh 1 = .ok (.bipush 32, 2) := by decide +kernel
theorem d_J_mh_3 : decode b_J_mh 3 = .ok (.lshr, 1) := by decide +kernel
theorem d_J_mh_4 : decode b_J_mh 4 = .ok (.lstore 4, 2) := by decide +kernel
theorem d_J_mh_6 : decode b_J_mh 6 = .ok (.lload_n 0, 1) := by decide +kernel
theorem d_J_mh_7 : decode b_J_mh 7 = .ok (.ldc2_w 138, 3) := by decide +kernel
theorem d_J_mh_10 : decode b_J_mh 10 = .ok (.land, 1) := by decide +kernel
theorem d_J_mh_11 : decode b_J_mh 11 = .ok (.lstore 6, 2) := by decide +kernel
theorem d_J_mh_13 : decode b_J_mh 13 = .ok (.lload_n 2, 1) := by decide +kernel
theorem d_J_mh_14 : decode b_J_mh 14 = .ok (.bipush 32, 2) := by decide +kernel
theorem d_J_mh_16 : decode b_J_mh 16 = .ok (.lshr, 1) := by decide +kernel
theorem d_J_mh_17 : decode b_J_mh 17 = .ok (.lstore 8, 2) := by decide +kernel
theorem d_J_mh_19 : decode b_J_mh 19 = .ok (.lload_n 2, 1) := by decide +kernel
theorem d_J_mh_20 : decode b_J_mh 20 = .ok (.ldc2_w 138, 3) := by decide +kernel
theorem d_J_mh_23 : decode b_J_mh 23 = .ok (.land, 1) := by decide +kernel
theorem d_J_mh_24 : decode b_J_mh 24 = .ok (.lstore 10, 2) := by decide +kernel
theorem d_J_mh_26 : decode b_J_mh 26 = .ok (.lload 6, 2) := by decide +kernel
theorem d_J_mh_28 : decode b_J_mh 28 = .ok (.lload 10, 2) := by decide +kernel
theorem d_J_mh_30 : decode b_J_mh 30 = .ok (.lmul, 1) := by decide +kernel
theorem d_J_mh_31 : decode b_J_mh 31 = .ok (.lstore 12, 2) := by decide +kernel
theorem d_J_mh_33 : decode b_J_mh 33 = .ok (.lload 4, 2) := by decide +kernel
theorem d_J_mh_35 : decode b_J_mh 35 = .ok (.lload 10, 2) := by decide +kernel
theorem d_J_mh_37 : decode b_J_mh 37 = .ok (.lmul, 1) := by decide +kernel
theorem d_J_mh_38 : decode b_J_mh 38 = .ok (.lload 12, 2) := by decide +kernel
theorem d_J_mh_40 : decode b_J_mh 40 = .ok (.bipush 32, 2) := by decide +kernel
theorem d_J_mh_42 : decode b_J_mh 42 = .ok (.lushr, 1) := by decide +kernel
theorem d_J_mh_43 : decode b_J_mh 43 = .ok (.ladd, 1) := by decide +kernel
theorem d_J_mh_44 : decode b_J_mh 44 = .ok (.lstore 14, 2) := by decide +kernel
theorem d_J_mh_46 : decode b_J_mh 46 = .ok (.lload 14, 2) := by decide +kernel
theorem d_J_mh_48 : decode b_J_mh 48 = .ok (.ldc2_w 138, 3) := by decide +kernel
theorem d_J_mh_51 : decode b_J_mh 51 = .ok (.land, 1) := by decide +kernel
theorem d_J_mh_52 : decode b_J_mh 52 = .ok (.lstore 16, 2) := by decide +kernel
theorem d_J_mh_54 : decode b_J_mh 54 = .ok (.lload 14, 2) := by decide +kernel
theorem d_J_mh_56 : decode b_J_mh 56 = .ok (.bipush 32, 2) := by decide +kernel
theorem d_J_mh_58 : decode b_J_mh 58 = .ok (.lshr, 1) := by decide +kernel
theorem d_J_mh_59 : decode b_J_mh 59 = .ok (.lstore 18, 2) := by decide +kernel
theorem d_J_mh_61 : decode b_J_mh 61 = .ok (.lload 16, 2) := by decide +kernel
theorem d_J_mh_63 : decode b_J_mh 63 = .ok (.lload 6, 2) := by decide +kernel
theorem d_J_mh_65 : decode b_J_mh 65 = .ok (.lload 8, 2) := by decide +kernel
theorem d_J_mh_67 : decode b_J_mh 67 = .ok (.lmul, 1) := by decide +kernel
theorem d_J_mh_68 : decode b_J_mh 68 = .ok (.ladd, 1) := by decide +kernel
theorem d_J_mh_69 : decode b_J_mh 69 = .ok (.lstore 16, 2) := by decide +kernel
theorem d_J_mh_71 : decode b_J_mh 71 = .ok (.lload 4, 2) := by decide +kernel
theorem d_J_mh_73 : decode b_J_mh 73 = .ok (.lload 8, 2) := by decide +kernel
theorem d_J_mh_75 : decode b_J_mh 75 = .ok (.lmul, 1) := by decide +kernel
theorem d_J_mh_76 : decode b_J_mh 76 = .ok (.lload 18, 2) := by decide +kernel
theorem d_J_mh_78 : decode b_J_mh 78 = .ok (.ladd, 1) := by decide +kernel
theorem d_J_mh_79 : decode b_J_mh 79 = .ok (.lload 16, 2) := by decide +kernel
theorem d_J_mh_81 : decode b_J_mh 81 = .ok (.bipush 32, 2) := by decide +kernel
theorem d_J_mh_83 : decode b_J_mh 83 = .ok (.lshr, 1) := by decide +kernel
theorem d_J_mh_84 : decode b_J_mh 84 = .ok (.ladd, 1) := by decide +kernel
theorem d_J_mh_85 : decode b_J_mh 85 = .ok (.lreturn, 1) := by decide +kernel
theorem d_J_mini_0 : decode b_J_mini 0 = .ok (.iload_n 0, 1) := by decide +kernel
theorem d_J_mini_1 : decode b_J_mini 1 = .ok (.iload_n 1, 1) := by decide +kernel
theorem d_J_mini_2 : decode b_J_mini 2 = .ok (.if_icmp .gt 7, 3) := by decide +kernel
theorem d_J_mini_5 : decode b_J_mini 5 = .ok (.iload_n 0, 1) := by decide +kernel
theorem d_J_mini_6 : decode b_J_mini 6 = .ok (.goto 4, 3) := by decide +kernel
theorem d_J_mini_9 : decode b_J_mini 9 = .ok (.iload_n 1, 1) := by decide +kernel
theorem d_J_mini_10 : decode b_J_mini 10 = .ok (.ireturn, 1) := by decide +kernel
theorem d_J_minl_0 : decode b_J_minl 0 = .ok (.lload_n 0, 1) := by decide +kernel
theorem d_J_minl_1 : decode b_J_minl 1 = .ok (.lload_n 2, 1) := by decide +kernel
theorem d_J_minl_2 : decode b_J_minl 2 = .ok (.lcmp, 1) := by decide +kernel
theorem d_J_minl_3 : decode b_J_minl 3 = .ok (.ifCond .gt 7, 3) := by decide +kernel
theorem d_J_minl_6 : decode b_J_minl 6 = .ok (.lload_n 0, 1) := by decide +kernel
theorem d_J_minl_7 : decode b_J_minl 7 = .ok (.goto 4, 3) := by decide +kernel
theorem d_J_minl_10 : decode b_J_minl 10 = .ok (.lload_n 2, 1) := by decide +kernel
theorem d_J_minl_11 : decode b_J_minl 11 = .ok (.lreturn, 1) := by decide +kernel
theorem d_J_ru_0 : decode b_J_ru 0 = .ok (.lload_n 2, 1) := by decide +kernel
theorem d_J_ru_1 : decode b_J_ru 1 = .ok (.lconst 0, 1) := by decide +kernel
theorem d_J_ru_2 : decode b_J_ru 2 = .ok (.lcmp, 1) := by decide +kernel
theorem d_J_ru_3 : decode b_J_ru 3 = .ok (.ifCond .lt 37, 3) := by decide +kernel
theorem d_J_ru_6 : decode b_J_ru 6 = .ok (.lload_n 0, 1) := by decide +kernel
theorem d_J_ru_7 : decode b_J_ru 7 = .ok (.iconst 1, 1) := by decide +kernel
theorem d_J_ru_8 : decode b_J_ru 8 = .ok (.lushr, 1) := by decide +kernel
theorem d_J_ru_9 : decode b_J_ru 9 = .ok (.lload_n 2, 1) := by decide +kernel
theorem d_J_ru_10 : decode b_J_ru 10 = .ok (.ldiv, 1) := by decide +kernel
theorem d_J_ru_11 : decode b_J_ru 11 = .ok (.iconst 1, 1) := by decide +kernel
theorem d_J_ru_12 : decode b_J_ru 12 = .ok (.lshl, 1) := by decide +kernel
theorem d_J_ru_13 : decode b_J_ru 13 = .ok (.lstore 4, 2) := by decide +kernel
theorem d_J_ru_15 : decode b_J_ru 15 = .ok (.lload_n 0, 1) := by decide +kernel
theorem d_J_ru_16 : decode b_J_ru 16 = .ok (.lload 4, 2) := by decide +kernel
theorem d_J_ru_18 : decode b_J_ru 18 = .ok (.lload_n 2, 1) := by decide +kernel
theorem d_J_ru_19 : decode b_J_ru 19 = .ok (.lmul, 1) := by decide +kernel
theorem d_J_ru_20 : decode b_J_ru 20 = .ok (.lsub, 1) := by decide +kernel
theorem d_J_ru_21 : decode b_J_ru 21 = .ok (.lstore 6, 2) := by decide +kernel
theorem d_J_ru_23 : decode b_J_ru 23 = .ok (.lload 6, 2) := by decide +kernel
theorem d_J_ru_25 : decode b_J_ru 25 = .ok (.lload 6, 2) := by decide +kernel
theorem d_J_ru_27 : decode b_J_ru 27 = .ok (.lload_n 2, 1) := by decide +kernel
theorem d_J_ru_28 : decode b_J_ru 28 = .ok (.lsub, 1) := by decide +kernel
theorem d_J_ru_29 : decode b_J_ru 29 = .ok (.ldc2_w 306, 3) := by decide +kernel
theorem d_J_ru_32 : decode b_J_ru 32 = .ok (.lxor, 1) := by decide +kernel
theorem d_J_ru_33 : decode b_J_ru 33 = .ok (.bipush 63, 2) := by decide +kernel
theorem d_J_ru_35 : decode b_J_ru 35 = .ok (.lshr, 1) := by decide +kernel
theorem d_J_ru_36 : decode b_J_ru 36 = .ok (.lload_n 2, 1) := by decide +kernel
theorem d_J_ru_37 : decode b_J_ru 37 = .ok (.land, 1) := by decide +kernel
theorem d_J_ru_38 : decode b_J_ru 38 = .ok (.lsub, 1) := by decide +kernel
theorem d_J_ru_39 : decode b_J_ru 39 = .ok (.lreturn, 1) := by decide +kernel
theorem d_J_ru_40 : decode b_J_ru 40 = .ok (.lload_n 0, 1) := by decide +kernel
theorem d_J_ru_41 : decode b_J_ru 41 = .ok (.lload_n 0, 1) := by decide +kernel
theorem d_J_ru_42 : decode b_J_ru 42 = .ok (.lload_n 0, 1) := by decide +kernel
theorem d_J_ru_43 : decode b_J_ru 43 = .ok (.lload_n 2, 1) := by decide +kernel
theorem d_J_ru_44 : decode b_J_ru 44 = .ok (.lsub, 1) := by decide +kernel
theorem d_J_ru_45 : decode b_J_ru 45 = .ok (.ldc2_w 306, 3) := by decide +kernel
theorem d_J_ru_48 : decode b_J_ru 48 = .ok (.lxor, 1) := by decide +kernel
theorem d_J_ru_49 : decode b_J_ru 49 = .ok (.land, 1) := by decide +kernel
theorem d_J_ru_50 : decode b_J_ru 50 = .ok (.bipush 63, 2) := by decide +kernel
theorem d_J_ru_52 : decode b_J_ru 52 = .ok (.lshr, 1) := by decide +kernel
theorem d_J_ru_53 : decode b_J_ru 53 = .ok (.lload_n 2, 1) := by decide +kernel
theorem d_J_ru_54 : decode b_J_ru 54 = .ok (.land, 1) := by decide +kernel
theorem d_J_ru_55 : decode b_J_ru 55 = .ok (.lsub, 1) := by decide +kernel
theorem d_J_ru_56 : decode b_J_ru 56 = .ok (.lreturn, 1) := by decide +kernel
end
section
theorem d_X_between_0 : decode b_X_between 0 = .ok (.lload 5, 2) := by decide +kernel
theorem d_X_between_2 : decode b_X_between 2 = .ok (.lconst 0, 1) := by decide +kernel
theorem d_X_between_3 : decode b_X_between 3 = .ok (.lcmp, 1) := by decide +kernel
theorem d_X_between_4 : decode b_X_between 4 = .ok (.ifCond .le 20, 3) := by decide +kernel
theorem d_X_between_7 : decode b_X_between 7 = .ok (.lload_n 3, 1) := by decide +kernel
theorem d_X_between_8 : decode b_X_between 8 = .ok (.lconst 0, 1) := by decide +kernel
theorem d_X_between_9 : decode b_X_between 9 = .ok (.lcmp, 1) := by decide +kernel
theorem d_X_between_10 : decode b_X_between 10 = .ok (.ifCond .lt 14, 3) := by decide +kernel
theorem d_X_between_13 : decode b_X_between 13 = .ok (.lload_n 3, 1) := by decide +kernel
theorem d_X_between_14 : decode b_X_between 14 = .ok (.lload 5, 2) := by decide +kernel
theorem d_X_between_16 : decode b_X_between 16 = .ok (.lcmp, 1) := by decide +kernel
theorem d_X_between_17 : decode b_X_between 17 = .ok (.ifCond .gt 7, 3) := by decide +kernel
theorem d_X_between_20 : decode b_X_between 20 = .ok (.iconst 1, 1) := by decide +kernel
theorem d_X_between_21 : decode b_X_between 21 = .ok (.goto 4, 3) := by decide +kernel
theorem d_X_between_24 : decode b_X_between 24 = .ok (.iconst 0, 1) := by decide +kernel
theorem d_X_between_25 : decode b_X_between 25 = .ok (.invokestatic 85, 3) := by decide +kernel
theorem d_X_between_28 : decode b_X_between 28 = .ok (.iload_n 1, 1) := by decide +kernel
theorem d_X_between_29 : decode b_X_between 29 = .ok (.i2l, 1) := by decide +kernel
theorem d_X_between_30 : decode b_X_between 30 = .ok (.aload_n 0, 1) := by decide +kernel
theorem d_X_between_31 : decode b_X_between 31 = .ok (.iload_n 2, 1) := by decide +kernel
theorem d_X_between_32 : decode b_X_between 32 = .ok (.i2l, 1) := by decide +kernel
theorem d_X_between_33 : decode b_X_between 33 = .ok (.iload_n 1, 1) := by decide +kernel
theorem d_X_between_34 : decode b_X_between 34 = .ok (.i2l, 1) := by decide +kernel
theorem d_X_between_35 : decode b_X_between 35 = .ok (.lsub, 1) := by decide +kernel
theorem d_X_between_36 : decode b_X_between 36 = .ok (.lload_n 3, 1) := by decide +kernel
theorem d_X_between_37 : decode b_X_between 37 = .ok (.lload 5, 2) := by decide +kernel
theorem d_X_between_39 : decode b_X_between 39 = .ok (.invokevirtual 89, 3) := by decide +kernel
theorem d_X_between_42 : decode b_X_between 42 = .ok (.ladd, 1) := by decide +kernel
theorem d_X_between_43 : decode b_X_between 43 = .ok (.l2i, 1) := by decide +kernel
theorem d_X_between_44 : decode b_X_between 44 = .ok (.ireturn, 1) := by decide +kernel
theorem d_X_channel_0 : decode b_X_channel 0 = .ok (.iconst 0, 1) := by decide +kernel
theorem d_X_channel_1 : decode b_X_channel 1 = .ok (.ldc 93, 2) := by decide +kernel
theorem d_X_channel_3 : decode b_X_channel 3 = .ok (.iload_n 1, 1) := by decide +kernel
theorem d_X_channel_4 : decode b_X_channel 4 = .ok (.invokestatic 94, 3) := by decide +kernel
theorem d_X_channel_7 : decode b_X_channel 7 = .ok (.invokestatic 97, 3) := by decide +kernel
theorem d_X_channel_10 : decode b_X_channel 10 = .ok (.sipush 255, 3) := by decide +kernel
theorem d_X_channel_13 : decode b_X_channel 13 = .ok (.imul, 1) := by decide +kernel
theorem d_X_channel_14 : decode b_X_channel 14 = .ok (.ldc 99, 2) := by decide +kernel
theorem d_X_channel_16 : decode b_X_channel 16 = .ok (.iadd, 1) := by decide +kernel
theorem d_X_channel_17 : decode b_X_channel 17 = .ok (.bipush 16, 2) := by decide +kernel
theorem d_X_channel_19 : decode b_X_channel 19 = .ok (.ishr, 1) := by decide +kernel
theorem d_X_channel_20 : decode b_X_channel 20 = .ok (.ireturn, 1) := by decide +kernel
theorem d_X_cut_0 : decode b_X_cut 0 = .ok (.ldc2_w 21, 3) := by decide +kernel
theorem d_X_cut_3 : decode b_X_cut 3 = .ok (.ldc2_w 23, 3) := by decide +kernel
theorem d_X_cut_6 : decode b_X_cut 6 = .ok (.lload_n 0, 1) := by decide +kernel
theorem d_X_cut_7 : decode b_X_cut 7 = .ok (.invokestatic 25, 3) := by decide +kernel
theorem d_X_cut_10 : decode b_X_cut 10 = .ok (.invokestatic 31, 3) := by decide +kernel
theorem d_X_cut_13 : decode b_X_cut 13 = .ok (.l2i, 1) := by decide +kernel
theorem d_X_cut_14 : decode b_X_cut 14 = .ok (.ireturn, 1) := by decide +kernel
theorem d_X_fixed_0 : decode b_X_fixed 0 = .ok (.iload_n 1, 1) := by decide +kernel
theorem d_X_fixed_1 : decode b_X_fixed 1 = .ok (.ifCond .lt 14, 3) := by decide +kernel
theorem d_X_fixed_4 : decode b_X_fixed 4 = .ok (.iload_n 1, 1) := by decide +kernel
theorem d_X_fixed_5 : decode b_X_fixed 5 = .ok (.sipush 255, 3) := by decide +kernel
theorem d_X_fixed_8 : decode b_X_fixed 8 = .ok (.if_icmp .gt 7, 3) := by decide +kernel
theorem d_X_fixed_11 : decode b_X_fixed 11 = .ok (.iconst 1, 1) := by decide +kernel
theorem d_X_fixed_12 : decode b_X_fixed 12 = .ok (.goto 4, 3) := by decide +kernel
theorem d_X_fixed_15 : decode b_X_fixed 15 = .ok (.iconst 0, 1) := by decide +kernel
theorem d_X_fixed_16 : decode b_X_fixed 16 = .ok (.invokestatic 85, 3) := by decide +kernel
theorem d_X_fixed_19 : decode b_X_fixed 19 = .ok (.iload_n 1, 1) := by decide +kernel
theorem d_X_fixed_20 : decode b_X_fixed 20 = .ok (.sipush 257, 3) := by decide +kernel
theorem d_X_fixed_23 : decode b_X_fixed 23 = .ok (.imul, 1) := by decide +kernel
theorem d_X_fixed_24 : decode b_X_fixed 24 = .ok (.iload_n 1, 1) := by decide +kernel
theorem d_X_fixed_25 : decode b_X_fixed 25 = .ok (.bipush 127, 2) := by decide +kernel
theorem d_X_fixed_27 : decode b_X_fixed 27 = .ok (.if_icmp .le 7, 3) := by decide +kernel
theorem d_X_fixed_30 : decode b_X_fixed 30 = .ok (.iconst 1, 1) := by decide +kernel
theorem d_X_fixed_31 : decode b_X_fixed 31 = .ok (.goto 4, 3) := by decide +kernel
theorem d_X_fixed_34 : decode b_X_fixed 34 = .ok (.iconst 0, 1) := by decide +kernel
theorem d_X_fixed_35 : decode b_X_fixed 35 = .ok (.iadd, 1) := by decide +kernel
theorem d_X_fixed_36 : decode b_X_fixed 36 = .ok (.ireturn, 1) := by decide +kernel
theorem d_X_fromHalf_0 : decode b_X_fromHalf 0 = .ok (.iload_n 1, 1) := by decide +kernel
theorem d_X_fromHalf_1 : decode b_X_fromHalf 1 = .ok (.bipush 10, 2) := by decide +kernel
theorem d_X_fromHalf_3 : decode b_X_fromHalf 3 = .ok (.ishr, 1) := by decide +kernel
theorem d_X_fromHalf_4 : decode b_X_fromHalf 4 = .ok (.bipush 31, 2) := by decide +kernel
theorem d_X_fromHalf_6 : decode b_X_fromHalf 6 = .ok (.iand, 1) := by decide +kernel
theorem d_X_fromHalf_7 : decode b_X_fromHalf 7 = .ok (.istore_n 2, 1) := by decide +kernel
theorem d_X_fromHalf_8 : decode b_X_fromHalf 8 = .ok (.iload_n 1, 1) := by decide +kernel
theorem d_X_fromHalf_9 : decode b_X_fromHalf 9 = .ok (.sipush 1023, 3) := by decide +kernel
theorem d_X_fromHalf_12 : decode b_X_fromHalf 12 = .ok (.iand, 1) := by decide +kernel
theorem d_X_fromHalf_13 : decode b_X_fromHalf 13 = .ok (.istore_n 3, 1) := by decide +kernel
theorem d_X_fromHalf_14 : decode b_X_fromHalf 14 = .ok (.iload_n 1, 1) := by decide +kernel
theorem d_X_fromHalf_15 : decode b_X_fromHalf 15 = .ok (.ldc 99, 2) := by decide +kernel
theorem d_X_fromHalf_17 : decode b_X_fromHalf 17 = .ok (.iand, 1) := by decide +kernel
theorem d_X_fromHalf_18 : decode b_X_fromHalf 18 = .ok (.ifCond .eq 7, 3) := by decide +kernel
theorem d_X_fromHalf_21 : decode b_X_fromHalf 21 = .ok (.iconst 1, 1) := by decide +kernel
theorem d_X_fromHalf_22 : decode b_X_fromHalf 22 = .ok (.goto 4, 3) := by decide +kernel
theorem d_X_fromHalf_25 : decode b_X_fromHalf 25 = .ok (.iconst 0, 1) := by decide +kernel
theorem d_X_fromHalf_26 : decode b_X_fromHalf 26 = .ok (.istore 4, 2) := by decide +kernel
theorem d_X_fromHalf_28 : decode b_X_fromHalf 28 = .ok (.iload_n 2, 1) := by decide +kernel
theorem d_X_fromHalf_29 : decode b_X_fromHalf 29 = .ok (.bipush 31, 2) := by decide +kernel
theorem d_X_fromHalf_31 : decode b_X_fromHalf 31 = .ok (.if_icmp .ne 24, 3) := by decide +kernel
theorem d_X_fromHalf_34 : decode b_X_fromHalf 34 = .ok (.iload_n 3, 1) := by decide +kernel
theorem d_X_fromHalf_35 : decode b_X_fromHalf 35 = .ok (.ifCond .le 7, 3) := by decide +kernel
theorem d_X_fromHalf_38 : decode b_X_fromHalf 38 = .ok (.iconst 0, 1) := by decide +kernel
theorem d_X_fromHalf_39 : decode b_X_fromHalf 39 = .ok (.goto 15, 3) := by decide +kernel
theorem d_X_fromHalf_42 : decode b_X_fromHalf 42 = .ok (.iload 4, 2) := by decide +kernel
theorem d_X_fromHalf_44 : decode b_X_fromHalf 44 = .ok (.ifCond .eq 8, 3) := by decide +kernel
theorem d_X_fromHalf_47 : decode b_X_fromHalf 47 = .ok (.ldc 35, 2) := by decide +kernel
theorem d_X_fromHalf_49 : decode b_X_fromHalf 49 = .ok (.goto 5, 3) := by decide +kernel
theorem d_X_fromHalf_52 : decode b_X_fromHalf 52 = .ok (.ldc 34, 2) := by decide +kernel
theorem d_X_fromHalf_54 : decode b_X_fromHalf 54 = .ok (.ireturn, 1) := by decide +kernel
theorem d_X_fromHalf_55 : decode b_X_fromHalf 55 = .ok (.iload_n 2, 1) := by decide +kernel
theorem d_X_fromHalf_56 : decode b_X_fromHalf 56 = .ok (.ifCond .ne 8, 3) := by decide +kernel
theorem d_X_fromHalf_59 : decode b_X_fromHalf 59 = .ok (.iload_n 3, 1) := by decide +kernel
theorem d_X_fromHalf_60 : decode b_X_fromHalf 60 = .ok (.i2l, 1) := by decide +kernel
theorem d_X_fromHalf_61 : decode b_X_fromHalf 61 = .ok (.goto 9, 3) := by decide +kernel
theorem d_X_fromHalf_64 : decode b_X_fromHalf 64 = .ok (.sipush 1024, 3) := by decide +kernel
theorem d_X_fromHalf_67 : decode b_X_fromHalf 67 = .ok (.iload_n 3, 1) := by decide +kernel
theorem d_X_fromHalf_68 : decode b_X_fromHalf 68 = .ok (.iadd, 1) := by decide +kernel
theorem d_X_fromHalf_69 : decode b_X_fromHalf 69 = .ok (.i2l, 1) := by decide +kernel
theorem d_X_fromHalf_70 : decode b_X_fromHalf 70 = .ok (.lstore 5, 2) := by decide +kernel
theorem d_X_fromHalf_72 : decode b_X_fromHalf 72 = .ok (.iload 4, 2) := by decide +kernel
theorem d_X_fromHalf_74 : decode b_X_fromHalf 74 = .ok (.ifCond .eq 8, 3) := by decide +kernel
theorem d_X_fromHalf_77 : decode b_X_fromHalf 77 = .ok (.lload 5, 2) := by decide +kernel
theorem d_X_fromHalf_79 : decode b_X_fromHalf 79 = .ok (.lneg, 1) := by decide +kernel
theorem d_X_fromHalf_80 : decode b_X_fromHalf 80 = .ok (.lstore 5, 2) := by decide +kernel
theorem d_X_fromHalf_82 : decode b_X_fromHalf 82 = .ok (.iload_n 2, 1) := by decide +kernel
theorem d_X_fromHalf_83 : decode b_X_fromHalf 83 = .ok (.ifCond .ne 8, 3) := by decide +kernel
theorem d_X_fromHalf_86 : decode b_X_fromHalf 86 = .ok (.bipush (-8), 2) := by decide +kernel
theorem d_X_fromHalf_88 : decode b_X_fromHalf 88 = .ok (.goto 7, 3) := by decide +kernel
theorem d_X_fromHalf_91 : decode b_X_fromHalf 91 = .ok (.iload_n 2, 1) := by decide +kernel
theorem d_X_fromHalf_92 : decode b_X_fromHalf 92 = .ok (.bipush 9, 2) := by decide +kernel
theorem d_X_fromHalf_94 : decode b_X_fromHalf 94 = .ok (.isub, 1) := by decide +kernel
theorem d_X_fromHalf_95 : decode b_X_fromHalf 95 = .ok (.istore 7, 2) := by decide +kernel
theorem d_X_fromHalf_97 : decode b_X_fromHalf 97 = .ok (.iload 7, 2) := by decide +kernel
theorem d_X_fromHalf_99 : decode b_X_fromHalf 99 = .ok (.ifCond .ge 12, 3) := by decide +kernel
theorem d_X_fromHalf_102 : decode b_X_fromHalf 102 = .ok (.lload 5, 2) := by decide +kernel
theorem d_X_fromHalf_104 : decode b_X_fromHalf 104 = .ok (.iload 7, 2) := by decide +kernel
theorem d_X_fromHalf_106 : decode b_X_fromHalf 106 = .ok (.ineg, 1) := by decide +kernel
theorem d_X_fromHalf_107 : decode b_X_fromHalf 107 = .ok (.lshr, 1) := by decide +kernel
theorem d_X_fromHalf_108 : decode b_X_fromHalf 108 = .ok (.goto 8, 3) := by decide +kernel
theorem d_X_fromHalf_111 : decode b_X_fromHalf 111 = .ok (.lload 5, 2) := by decide +kernel
theorem d_X_fromHalf_113 : decode b_X_fromHalf 113 = .ok (.iload 7, 2) := by decide +kernel
theorem d_X_fromHalf_115 : decode b_X_fromHalf 115 = .ok (.lshl, 1) := by decide +kernel
theorem d_X_fromHalf_116 : decode b_X_fromHalf 116 = .ok (.invokestatic 39, 3) := by decide +kernel
theorem d_X_fromHalf_119 : decode b_X_fromHalf 119 = .ok (.ireturn, 1) := by decide +kernel
theorem d_X_init_0 : decode b_X_init 0 = .ok (.aload_n 0, 1) := by decide +kernel
theorem d_X_init_1 : decode b_X_init 1 = .ok (.invokespecial 1, 3) := by decide +kernel
theorem d_X_init_4 : decode b_X_init 4 = .ok (.aload_n 0, 1) := by decide +kernel
theorem d_X_init_5 : decode b_X_init 5 = .ok (.new 7, 3) := by decide +kernel
theorem d_X_init_8 : decode b_X_init 8 = .ok (.dup, 1) := by decide +kernel
theorem d_X_init_9 : decode b_X_init 9 = .ok (.invokespecial 9, 3) := by decide +kernel
theorem d_X_init_12 : decode b_X_init 12 = .ok (.putfield 10, 3) := by decide +kernel
theorem d_X_init_15 : decode b_X_init 15 = .ok (.return_, 1) := by decide +kernel
theorem d_X_oneByRoot_0 : decode b_X_oneByRoot 0 = .ok (.iload_n 1, 1) := by decide +kernel
theorem d_X_oneByRoot_1 : decode b_X_oneByRoot 1 = .ok (.ifCond .gt 8, 3) := by decide +kernel
theorem d_X_oneByRoot_4 : decode b_X_oneByRoot 4 = .ok (.ldc 34, 2) := by decide +kernel
theorem d_X_oneByRoot_6 : decode b_X_oneByRoot 6 = .ok (.goto 13, 3) := by decide +kernel
theorem d_X_oneByRoot_9 : decode b_X_oneByRoot 9 = .ok (.ldc2_w 54, 3) := by decide +kernel
theorem d_X_oneByRoot_12 : decode b_X_oneByRoot 12 = .ok (.iload_n 1, 1) := by decide +kernel
theorem d_X_oneByRoot_13 : decode b_X_oneByRoot 13 = .ok (.i2l, 1) := by decide +kernel
theorem d_X_oneByRoot_14 : decode b_X_oneByRoot 14 = .ok (.ldiv, 1) := by decide +kernel
theorem d_X_oneByRoot_15 : decode b_X_oneByRoot 15 = .ok (.invokestatic 50, 3) := by decide +kernel
theorem d_X_oneByRoot_18 : decode b_X_oneByRoot 18 = .ok (.l2i, 1) := by decide +kernel
theorem d_X_oneByRoot_19 : decode b_X_oneByRoot 19 = .ok (.ireturn, 1) := by decide +kernel
theorem d_X_product_0 : decode b_X_product 0 = .ok (.iload_n 1, 1) := by decide +kernel
theorem d_X_product_1 : decode b_X_product 1 = .ok (.i2l, 1) := by decide +kernel
theorem d_X_product_2 : decode b_X_product 2 = .ok (.iload_n 2, 1) := by decide +kernel
theorem d_X_product_3 : decode b_X_product 3 = .ok (.i2l, 1) := by decide +kernel
theorem d_X_product_4 : decode b_X_product 4 = .ok (.lmul, 1) := by decide +kernel
theorem d_X_product_5 : decode b_X_product 5 = .ok (.bipush 16, 2) := by decide +kernel
theorem d_X_product_7 : decode b_X_product 7 = .ok (.lshr, 1) := by decide +kernel
theorem d_X_product_8 : decode b_X_product 8 = .ok (.l2i, 1) := by decide +kernel
theorem d_X_product_9 : decode b_X_product 9 = .ok (.ireturn, 1) := by decide +kernel
theorem d_X_quotient_0 : decode b_X_quotient 0 = .ok (.iload_n 2, 1) := by decide +kernel
theorem d_X_quotient_1 : decode b_X_quotient 1 = .ok (.ifCond .ne 23, 3) := by decide +kernel
theorem d_X_quotient_4 : decode b_X_quotient 4 = .ok (.iload_n 1, 1) := by decide +kernel
theorem d_X_quotient_5 : decode b_X_quotient 5 = .ok (.ifCond .le 8, 3) := by decide +kernel
theorem d_X_quotient_8 : decode b_X_quotient 8 = .ok (.ldc 34, 2) := by decide +kernel
theorem d_X_quotient_10 : decode b_X_quotient 10 = .ok (.goto 13, 3) := by decide +kernel
theorem d_X_quotient_13 : decode b_X_quotient 13 = .ok (.iload_n 1, 1) := by decide +kernel
theorem d_X_quotient_14 : decode b_X_quotient 14 = .ok (.ifCond .ge 8, 3) := by decide +kernel
theorem d_X_quotient_17 : decode b_X_quotient 17 = .ok (.ldc 35, 2) := by decide +kernel
theorem d_X_quotient_19 : decode b_X_quotient 19 = .ok (.goto 4, 3) := by decide +kernel
theorem d_X_quotient_22 : decode b_X_quotient 22 = .ok (.iconst 0, 1) := by decide +kernel
theorem d_X_quotient_23 : decode b_X_quotient 23 = .ok (.ireturn, 1) := by decide +kernel
theorem d_X_quotient_24 : decode b_X_quotient 24 = .ok (.iload_n 1, 1) := by decide +kernel
theorem d_X_quotient_25 : decode b_X_quotient 25 = .ok (.i2l, 1) := by decide +kernel
theorem d_X_quotient_26 : decode b_X_quotient 26 = .ok (.bipush 16, 2) := by decide +kernel
theorem d_X_quotient_28 : decode b_X_quotient 28 = .ok (.lshl, 1) := by decide +kernel
theorem d_X_quotient_29 : decode b_X_quotient 29 = .ok (.iload_n 2, 1) := by decide +kernel
theorem d_X_quotient_30 : decode b_X_quotient 30 = .ok (.i2l, 1) := by decide +kernel
theorem d_X_quotient_31 : decode b_X_quotient 31 = .ok (.invokestatic 36, 3) := by decide +kernel
theorem d_X_quotient_34 : decode b_X_quotient 34 = .ok (.invokestatic 39, 3) := by decide +kernel
theorem d_X_quotient_37 : decode b_X_quotient 37 = .ok (.ireturn, 1) := by decide +kernel
theorem d_X_ratio_0 : decode b_X_ratio 0 = .ok (.lload_n 1, 1) := by decide +kernel
theorem d_X_ratio_1 : decode b_X_ratio 1 = .ok (.lconst 0, 1) := by decide +kernel
theorem d_X_ratio_2 : decode b_X_ratio 2 = .ok (.lcmp, 1) := by decide +kernel
theorem d_X_ratio_3 : decode b_X_ratio 3 = .ok (.ifCond .ge 7, 3) := by decide +kernel
theorem d_X_ratio_6 : decode b_X_ratio 6 = .ok (.iconst 1, 1) := by decide +kernel
theorem d_X_ratio_7 : decode b_X_ratio 7 = .ok (.goto 4, 3) := by decide +kernel
theorem d_X_ratio_10 : decode b_X_ratio 10 = .ok (.iconst 0, 1) := by decide +kernel
theorem d_X_ratio_11 : decode b_X_ratio 11 = .ok (.lload_n 3, 1) := by decide +kernel
theorem d_X_ratio_12 : decode b_X_ratio 12 = .ok (.lconst 0, 1) := by decide +kernel
theorem d_X_ratio_13 : decode b_X_ratio 13 = .ok (.lcmp, 1) := by decide +kernel
theorem d_X_ratio_14 : decode b_X_ratio 14 = .ok (.ifCond .ge 7, 3) := by decide +kernel
theorem d_X_ratio_17 : decode b_X_ratio 17 = .ok (.iconst 1, 1) := by decide +kernel
theorem d_X_ratio_18 : decode b_X_ratio 18 = .ok (.goto 4, 3) := by decide +kernel
theorem d_X_ratio_21 : decode b_X_ratio 21 = .ok (.iconst 0, 1) := by decide +kernel
theorem d_X_ratio_22 : decode b_X_ratio 22 = .ok (.if_icmp .eq 7, 3) := by decide +kernel
theorem d_X_ratio_25 : decode b_X_ratio 25 = .ok (.iconst 1, 1) := by decide +kernel
theorem d_X_ratio_26 : decode b_X_ratio 26 = .ok (.goto 4, 3) := by decide +kernel
theorem d_X_ratio_29 : decode b_X_ratio 29 = .ok (.iconst 0, 1) := by decide +kernel
theorem d_X_ratio_30 : decode b_X_ratio 30 = .ok (.lload 5, 2) := by decide +kernel
theorem d_X_ratio_32 : decode b_X_ratio 32 = .ok (.lconst 0, 1) := by decide +kernel
theorem d_X_ratio_33 : decode b_X_ratio 33 = .ok (.lcmp, 1) := by decide +kernel
theorem d_X_ratio_34 : decode b_X_ratio 34 = .ok (.ifCond .ge 7, 3) := by decide +kernel
theorem d_X_ratio_37 : decode b_X_ratio 37 = .ok (.iconst 1, 1) := by decide +kernel
theorem d_X_ratio_38 : decode b_X_ratio 38 = .ok (.goto 4, 3) := by decide +kernel
theorem d_X_ratio_41 : decode b_X_ratio 41 = .ok (.iconst 0, 1) := by decide +kernel
theorem d_X_ratio_42 : decode b_X_ratio 42 = .ok (.if_icmp .eq 7, 3) := by decide +kernel
theorem d_X_ratio_45 : decode b_X_ratio 45 = .ok (.iconst 1, 1) := by decide +kernel
theorem d_X_ratio_46 : decode b_X_ratio 46 = .ok (.goto 4, 3) := by decide +kernel
theorem d_X_ratio_49 : decode b_X_ratio 49 = .ok (.iconst 0, 1) := by decide +kernel
theorem d_X_ratio_50 : decode b_X_ratio 50 = .ok (.istore 7, 2) := by decide +kernel
theorem d_X_ratio_52 : decode b_X_ratio 52 = .ok (.lload_n 1, 1) := by decide +kernel
theorem d_X_ratio_53 : decode b_X_ratio 53 = .ok (.invokestatic 59, 3) := by decide +kernel
theorem d_X_ratio_56 : decode b_X_ratio 56 = .ok (.lstore 8, 2) := by decide +kernel
theorem d_X_ratio_58 : decode b_X_ratio 58 = .ok (.lload_n 3, 1) := by decide +kernel
theorem d_X_ratio_59 : decode b_X_ratio 59 = .ok (.invokestatic 59, 3) := by decide +kernel
theorem d_X_ratio_62 : decode b_X_ratio 62 = .ok (.lstore 10, 2) := by decide +kernel
theorem d_X_ratio_64 : decode b_X_ratio 64 = .ok (.lload 5, 2) := by decide +kernel
theorem d_X_ratio_66 : decode b_X_ratio 66 = .ok (.invokestatic 59, 3) := by decide +kernel
theorem d_X_ratio_69 : decode b_X_ratio 69 = .ok (.lstore 12, 2) := by decide +kernel
theorem d_X_ratio_71 : decode b_X_ratio 71 = .ok (.lload 5, 2) := by decide +kernel
theorem d_X_ratio_73 : decode b_X_ratio 73 = .ok (.lconst 0, 1) := by decide +kernel
theorem d_X_ratio_74 : decode b_X_ratio 74 = .ok (.lcmp, 1) := by decide +kernel
theorem d_X_ratio_75 : decode b_X_ratio 75 = .ok (.ifCond .eq 18, 3) := by decide +kernel
theorem d_X_ratio_78 : decode b_X_ratio 78 = .ok (.lload 8, 2) := by decide +kernel
theorem d_X_ratio_80 : decode b_X_ratio 80 = .ok (.lload 10, 2) := by decide +kernel
theorem d_X_ratio_82 : decode b_X_ratio 82 = .ok (.invokestatic 62, 3) := by decide +kernel
theorem d_X_ratio_85 : decode b_X_ratio 85 = .ok (.lload 12, 2) := by decide +kernel
theorem d_X_ratio_87 : decode b_X_ratio 87 = .ok (.invokestatic 65, 3) := by decide +kernel
theorem d_X_ratio_90 : decode b_X_ratio 90 = .ok (.ifCond .lt 11, 3) := by decide +kernel
theorem d_X_ratio_93 : decode b_X_ratio 93 = .ok (.new 69, 3) := by decide +kernel
theorem d_X_ratio_96 : decode b_X_ratio 96 = .ok (.dup, 1) := by decide +kernel
theorem d_X_ratio_97 : decode b_X_ratio 97 = .ok (.invokespecial 71, 3) := by decide +kernel
theorem d_X_ratio_100 : decode b_X_ratio 100 = .ok (.athrow, 1) := by decide +kernel
theorem d_X_ratio_101 : decode b_X_ratio 101 = .ok (.aload_n 0, 1) := by decide +kernel
theorem d_X_ratio_102 : decode b_X_ratio 102 = .ok (.getfield 10, 3) := by decide +kernel
theorem d_X_ratio_105 : decode b_X_ratio 105 = .ok (.lload 8, 2) := by decide +kernel
theorem d_X_ratio_107 : decode b_X_ratio 107 = .ok (.lload 10, 2) := by decide +kernel
theorem d_X_ratio_109 : decode b_X_ratio 109 = .ok (.invokestatic 62, 3) := by decide +kernel
theorem d_X_ratio_112 : decode b_X_ratio 112 = .ok (.lload 8, 2) := by decide +kernel
theorem d_X_ratio_114 : decode b_X_ratio 114 = .ok (.lload 10, 2) := by decide +kernel
theorem d_X_ratio_116 : decode b_X_ratio 116 = .ok (.lmul, 1) := by decide +kernel
theorem d_X_ratio_117 : decode b_X_ratio 117 = .ok (.lload 12, 2) := by decide +kernel
theorem d_X_ratio_119 : decode b_X_ratio 119 = .ok (.invokevirtual 72, 3) := by decide +kernel
theorem d_X_ratio_122 : decode b_X_ratio 122 = .ok (.aload_n 0, 1) := by decide +kernel
theorem d_X_ratio_123 : decode b_X_ratio 123 = .ok (.getfield 10, 3) := by decide +kernel
theorem d_X_ratio_126 : decode b_X_ratio 126 = .ok (.getfield 76, 3) := by decide +kernel
theorem d_X_ratio_129 : decode b_X_ratio 129 = .ok (.lstore 14, 2) := by decide +kernel
theorem d_X_ratio_131 : decode b_X_ratio 131 = .ok (.iload 7, 2) := by decide +kernel
theorem d_X_ratio_133 : decode b_X_ratio 133 = .ok (.ifCond .ne 21, 3) := by decide +kernel
theorem d_X_ratio_136 : decode b_X_ratio 136 = .ok (.lload 14, 2) := by decide +kernel
theorem d_X_ratio_138 : decode b_X_ratio 138 = .ok (.lconst 0, 1) := by decide +kernel
theorem d_X_ratio_139 : decode b_X_ratio 139 = .ok (.lcmp, 1) := by decide +kernel
theorem d_X_ratio_140 : decode b_X_ratio 140 = .ok (.ifCond .ge 11, 3) := by decide +kernel
theorem d_X_ratio_143 : decode b_X_ratio 143 = .ok (.new 69, 3) := by decide +kernel
theorem d_X_ratio_146 : decode b_X_ratio 146 = .ok (.dup, 1) := by decide +kernel
theorem d_X_ratio_147 : decode b_X_ratio 147 = .ok (.invokespecial 71, 3) := by decide +kernel
theorem d_X_ratio_150 : decode b_X_ratio 150 = .ok (.athrow, 1) := by decide +kernel
theorem d_X_ratio_151 : decode b_X_ratio 151 = .ok (.lload 14, 2) := by decide +kernel
theorem d_X_ratio_153 : decode b_X_ratio 153 = .ok (.lreturn, 1) := by decide +kernel
theorem d_X_ratio_154 : decode b_X_ratio 154 = .ok (.aload_n 0, 1) := by decide +kernel
theorem d_X_ratio_155 : decode b_X_ratio 155 = .ok (.getfield 10, 3) := by decide +kernel
theorem d_X_ratio_158 : decode b_X_ratio 158 = .ok (.getfield 80, 3) := by decide +kernel
theorem d_X_ratio_161 : decode b_X_ratio 161 = .ok (.lconst 0, 1) := by decide +kernel
theorem d_X_ratio_162 : decode b_X_ratio 162 = .ok (.lcmp, 1) := by decide +kernel
theorem d_X_ratio_163 : decode b_X_ratio 163 = .ok (.ifCond .eq 7, 3) := by decide +kernel
theorem d_X_ratio_166 : decode b_X_ratio 166 = .ok (.iconst 1, 1) := by decide +kernel
theorem d_X_ratio_167 : decode b_X_ratio 167 = .ok (.goto 4, 3) := by decide +kernel
theorem d_X_ratio_170 : decode b_X_ratio 170 = .ok (.iconst 0, 1) := by decide +kernel
theorem d_X_ratio_171 : decode b_X_ratio 171 = .ok (.istore 16, 2) := by decide +kernel
theorem d_X_ratio_173 : decode b_X_ratio 173 = .ok (.lload 14, 2) := by decide +kernel
theorem d_X_ratio_175 : decode b_X_ratio 175 = .ok (.ldc2_w 83, 3) := by decide +kernel
theorem d_X_ratio_178 : decode b_X_ratio 178 = .ok (.invokestatic 65, 3) := by decide +kernel
theorem d_X_ratio_181 : decode b_X_ratio 181 = .ok (.ifCond .gt 17, 3) := by decide +kernel
theorem d_X_ratio_184 : decode b_X_ratio 184 = .ok (.iload 16, 2) := by decide +kernel
theorem d_X_ratio_186 : decode b_X_ratio 186 = .ok (.ifCond .eq 20, 3) := by decide +kernel
theorem d_X_ratio_189 : decode b_X_ratio 189 = .ok (.lload 14, 2) := by decide +kernel
theorem d_X_ratio_191 : decode b_X_ratio 191 = .ok (.ldc2_w 83, 3) := by decide +kernel
theorem d_X_ratio_194 : decode b_X_ratio 194 = .ok (.lcmp, 1) := by decide +kernel
theorem d_X_ratio_195 : decode b_X_ratio 195 = .ok (.ifCond .ne 11, 3) := by decide +kernel
theorem d_X_ratio_198 : decode b_X_ratio 198 = .ok (.new 69, 3) := by decide +kernel
theorem d_X_ratio_201 : decode b_X_ratio 201 = .ok (.dup, 1) := by decide +kernel
theorem d_X_ratio_202 : decode b_X_ratio 202 = .ok (.invokespecial 71, 3) := by decide +kernel
theorem d_X_ratio_205 : decode b_X_ratio 205 = .ok (.athrow, 1) := by decide +kernel
theorem d_X_ratio_206 : decode b_X_ratio 206 = .ok (.iload 16, 2) := by decide +kernel
theorem d_X_ratio_208 : decode b_X_ratio 208 = .ok (.ifCond .eq 11, 3) := by decide +kernel
theorem d_X_ratio_211 : decode b_X_ratio 211 = .ok (.lload 14, 2) := by decide +kernel
theorem d_X_ratio_213 : decode b_X_ratio 213 = .ok (.lneg, 1) := by decide +kernel
theorem d_X_ratio_214 : decode b_X_ratio 214 = .ok (.lconst 1, 1) := by decide +kernel
theorem d_X_ratio_215 : decode b_X_ratio 215 = .ok (.lsub, 1) := by decide +kernel
theorem d_X_ratio_216 : decode b_X_ratio 216 = .ok (.goto 6, 3) := by decide +kernel
theorem d_X_ratio_219 : decode b_X_ratio 219 = .ok (.lload 14, 2) := by decide +kernel
theorem d_X_ratio_221 : decode b_X_ratio 221 = .ok (.lneg, 1) := by decide +kernel
theorem d_X_ratio_222 : decode b_X_ratio 222 = .ok (.lreturn, 1) := by decide +kernel
theorem d_X_right_0 : decode b_X_right 0 = .ok (.iload_n 0, 1) := by decide +kernel
theorem d_X_right_1 : decode b_X_right 1 = .ok (.ifCond .ne 11, 3) := by decide +kernel
theorem d_X_right_4 : decode b_X_right 4 = .ok (.new 16, 3) := by decide +kernel
theorem d_X_right_7 : decode b_X_right 7 = .ok (.dup, 1) := by decide +kernel
theorem d_X_right_8 : decode b_X_right 8 = .ok (.invokespecial 18, 3) := by decide +kernel
theorem d_X_right_11 : decode b_X_right 11 = .ok (.athrow, 1) := by decide +kernel
theorem d_X_right_12 : decode b_X_right 12 = .ok (.return_, 1) := by decide +kernel
theorem d_X_root_0 : decode b_X_root 0 = .ok (.iload_n 1, 1) := by decide +kernel
theorem d_X_root_1 : decode b_X_root 1 = .ok (.ifCond .ge 7, 3) := by decide +kernel
theorem d_X_root_4 : decode b_X_root 4 = .ok (.iconst 0, 1) := by decide +kernel
theorem d_X_root_5 : decode b_X_root 5 = .ok (.goto 12, 3) := by decide +kernel
theorem d_X_root_8 : decode b_X_root 8 = .ok (.iload_n 1, 1) := by decide +kernel
theorem d_X_root_9 : decode b_X_root 9 = .ok (.i2l, 1) := by decide +kernel
theorem d_X_root_10 : decode b_X_root 10 = .ok (.bipush 16, 2) := by decide +kernel
theorem d_X_root_12 : decode b_X_root 12 = .ok (.lshl, 1) := by decide +kernel
theorem d_X_root_13 : decode b_X_root 13 = .ok (.invokestatic 50, 3) := by decide +kernel
theorem d_X_root_16 : decode b_X_root 16 = .ok (.l2i, 1) := by decide +kernel
theorem d_X_root_17 : decode b_X_root 17 = .ok (.ireturn, 1) := by decide +kernel
theorem d_X_rootOf_0 : decode b_X_rootOf 0 = .ok (.lload_n 0, 1) := by decide +kernel
theorem d_X_rootOf_1 : decode b_X_rootOf 1 = .ok (.ldc2_w 43, 3) := by decide +kernel
theorem d_X_rootOf_4 : decode b_X_rootOf 4 = .ok (.lcmp, 1) := by decide +kernel
theorem d_X_rootOf_5 : decode b_X_rootOf 5 = .ok (.ifCond .ge 5, 3) := by decide +kernel
theorem d_X_rootOf_8 : decode b_X_rootOf 8 = .ok (.lload_n 0, 1) := by decide +kernel
theorem d_X_rootOf_9 : decode b_X_rootOf 9 = .ok (.lreturn, 1) := by decide +kernel
theorem d_X_rootOf_10 : decode b_X_rootOf 10 = .ok (.lconst 1, 1) := by decide +kernel
theorem d_X_rootOf_11 : decode b_X_rootOf 11 = .ok (.bipush 65, 2) := by decide +kernel
theorem d_X_rootOf_13 : decode b_X_rootOf 13 = .ok (.lload_n 0, 1) := by decide +kernel
theorem d_X_rootOf_14 : decode b_X_rootOf 14 = .ok (.invokestatic 45, 3) := by decide +kernel
theorem d_X_rootOf_17 : decode b_X_rootOf 17 = .ok (.isub, 1) := by decide +kernel
theorem d_X_rootOf_18 : decode b_X_rootOf 18 = .ok (.iconst 1, 1) := by decide +kernel
theorem d_X_rootOf_19 : decode b_X_rootOf 19 = .ok (.ishr, 1) := by decide +kernel
theorem d_X_rootOf_20 : decode b_X_rootOf 20 = .ok (.lshl, 1) := by decide +kernel
theorem d_X_rootOf_21 : decode b_X_rootOf 21 = .ok (.lstore_n 2, 1) := by decide +kernel
theorem d_X_rootOf_22 : decode b_X_rootOf 22 = .ok (.lload_n 2, 1) := by decide +kernel
theorem d_X_rootOf_23 : decode b_X_rootOf 23 = .ok (.lload_n 0, 1) := by decide +kernel
theorem d_X_rootOf_24 : decode b_X_rootOf 24 = .ok (.lload_n 2, 1) := by decide +kernel
theorem d_X_rootOf_25 : decode b_X_rootOf 25 = .ok (.ldiv, 1) := by decide +kernel
theorem d_X_rootOf_26 : decode b_X_rootOf 26 = .ok (.ladd, 1) := by decide +kernel
theorem d_X_rootOf_27 : decode b_X_rootOf 27 = .ok (.iconst 1, 1) := by decide +kernel
theorem d_X_rootOf_28 : decode b_X_rootOf 28 = .ok (.lshr, 1) := by decide +kernel
theorem d_X_rootOf_29 : decode b_X_rootOf 29 = .ok (.lstore 4, 2) := by decide +kernel
theorem d_X_rootOf_31 : decode b_X_rootOf 31 = .ok (.lload 4, 2) := by decide +kernel
theorem d_X_rootOf_33 : decode b_X_rootOf 33 = .ok (.lload_n 2, 1) := by decide +kernel
theorem d_X_rootOf_34 : decode b_X_rootOf 34 = .ok (.lcmp, 1) := by decide +kernel
theorem d_X_rootOf_35 : decode b_X_rootOf 35 = .ok (.ifCond .ge 18, 3) := by decide +kernel
theorem d_X_rootOf_38 : decode b_X_rootOf 38 = .ok (.lload 4, 2) := by decide +kernel
theorem d_X_rootOf_40 : decode b_X_rootOf 40 = .ok (.lstore_n 2, 1) := by decide +kernel
theorem d_X_rootOf_41 : decode b_X_rootOf 41 = .ok (.lload_n 2, 1) := by decide +kernel
theorem d_X_rootOf_42 : decode b_X_rootOf 42 = .ok (.lload_n 0, 1) := by decide +kernel
theorem d_X_rootOf_43 : decode b_X_rootOf 43 = .ok (.lload_n 2, 1) := by decide +kernel
theorem d_X_rootOf_44 : decode b_X_rootOf 44 = .ok (.ldiv, 1) := by decide +kernel
theorem d_X_rootOf_45 : decode b_X_rootOf 45 = .ok (.ladd, 1) := by decide +kernel
theorem d_X_rootOf_46 : decode b_X_rootOf 46 = .ok (.iconst 1, 1) := by decide +kernel
theorem d_X_rootOf_47 : decode b_X_rootOf 47 = .ok (.lshr, 1) := by decide +kernel
theorem d_X_rootOf_48 : decode b_X_rootOf 48 = .ok (.lstore 4, 2) := by decide +kernel
theorem d_X_rootOf_50 : decode b_X_rootOf 50 = .ok (.goto (-19), 3) := by decide +kernel
theorem d_X_rootOf_53 : decode b_X_rootOf 53 = .ok (.lload_n 2, 1) := by decide +kernel
theorem d_X_rootOf_54 : decode b_X_rootOf 54 = .ok (.lreturn, 1) := by decide +kernel
theorem d_X_shade_0 : decode b_X_shade 0 = .ok (.iload_n 1, 1) := by decide +kernel
theorem d_X_shade_1 : decode b_X_shade 1 = .ok (.ifCond .lt 25, 3) := by decide +kernel
theorem d_X_shade_4 : decode b_X_shade 4 = .ok (.iload_n 1, 1) := by decide +kernel
theorem d_X_shade_5 : decode b_X_shade 5 = .ok (.sipush 255, 3) := by decide +kernel
theorem d_X_shade_8 : decode b_X_shade 8 = .ok (.if_icmp .gt 18, 3) := by decide +kernel
theorem d_X_shade_11 : decode b_X_shade 11 = .ok (.iload_n 2, 1) := by decide +kernel
theorem d_X_shade_12 : decode b_X_shade 12 = .ok (.ifCond .lt 14, 3) := by decide +kernel
theorem d_X_shade_15 : decode b_X_shade 15 = .ok (.iload_n 2, 1) := by decide +kernel
theorem d_X_shade_16 : decode b_X_shade 16 = .ok (.sipush 255, 3) := by decide +kernel
theorem d_X_shade_19 : decode b_X_shade 19 = .ok (.if_icmp .gt 7, 3) := by decide +kernel
theorem d_X_shade_22 : decode b_X_shade 22 = .ok (.iconst 1, 1) := by decide +kernel
theorem d_X_shade_23 : decode b_X_shade 23 = .ok (.goto 4, 3) := by decide +kernel
theorem d_X_shade_26 : decode b_X_shade 26 = .ok (.iconst 0, 1) := by decide +kernel
theorem d_X_shade_27 : decode b_X_shade 27 = .ok (.invokestatic 85, 3) := by decide +kernel
theorem d_X_shade_30 : decode b_X_shade 30 = .ok (.iload_n 1, 1) := by decide +kernel
theorem d_X_shade_31 : decode b_X_shade 31 = .ok (.iload_n 2, 1) := by decide +kernel
theorem d_X_shade_32 : decode b_X_shade 32 = .ok (.imul, 1) := by decide +kernel
theorem d_X_shade_33 : decode b_X_shade 33 = .ok (.sipush 128, 3) := by decide +kernel
theorem d_X_shade_36 : decode b_X_shade 36 = .ok (.iadd, 1) := by decide +kernel
theorem d_X_shade_37 : decode b_X_shade 37 = .ok (.istore_n 3, 1) := by decide +kernel
theorem d_X_shade_38 : decode b_X_shade 38 = .ok (.iload_n 3, 1) := by decide +kernel
theorem d_X_shade_39 : decode b_X_shade 39 = .ok (.iload_n 3, 1) := by decide +kernel
theorem d_X_shade_40 : decode b_X_shade 40 = .ok (.bipush 8, 2) := by decide +kernel
theorem d_X_shade_42 : decode b_X_shade 42 = .ok (.ishr, 1) := by decide +kernel
theorem d_X_shade_43 : decode b_X_shade 43 = .ok (.iadd, 1) := by decide +kernel
theorem d_X_shade_44 : decode b_X_shade 44 = .ok (.bipush 8, 2) := by decide +kernel
theorem d_X_shade_46 : decode b_X_shade 46 = .ok (.ishr, 1) := by decide +kernel
theorem d_X_shade_47 : decode b_X_shade 47 = .ok (.ireturn, 1) := by decide +kernel
theorem d_X_size_0 : decode b_X_size 0 = .ok (.lload_n 0, 1) := by decide +kernel
theorem d_X_size_1 : decode b_X_size 1 = .ok (.lconst 0, 1) := by decide +kernel
theorem d_X_size_2 : decode b_X_size 2 = .ok (.lcmp, 1) := by decide +kernel
theorem d_X_size_3 : decode b_X_size 3 = .ok (.ifCond .ge 8, 3) := by decide +kernel
theorem d_X_size_6 : decode b_X_size 6 = .ok (.lload_n 0, 1) := by decide +kernel
theorem d_X_size_7 : decode b_X_size 7 = .ok (.lneg, 1) := by decide +kernel
theorem d_X_size_8 : decode b_X_size 8 = .ok (.goto 4, 3) := by decide +kernel
theorem d_X_size_11 : decode b_X_size 11 = .ok (.lload_n 0, 1) := by decide +kernel
theorem d_X_size_12 : decode b_X_size 12 = .ok (.lreturn, 1) := by decide +kernel
theorem d_X_toHalf_0 : decode b_X_toHalf 0 = .ok (.iload_n 1, 1) := by decide +kernel
theorem d_X_toHalf_1 : decode b_X_toHalf 1 = .ok (.i2l, 1) := by decide +kernel
theorem d_X_toHalf_2 : decode b_X_toHalf 2 = .ok (.invokestatic 59, 3) := by decide +kernel
theorem d_X_toHalf_5 : decode b_X_toHalf 5 = .ok (.lstore_n 2, 1) := by decide +kernel
theorem d_X_toHalf_6 : decode b_X_toHalf 6 = .ok (.iload_n 1, 1) := by decide +kernel
theorem d_X_toHalf_7 : decode b_X_toHalf 7 = .ok (.ifCond .ge 8, 3) := by decide +kernel
theorem d_X_toHalf_10 : decode b_X_toHalf 10 = .ok (.ldc 99, 2) := by decide +kernel
theorem d_X_toHalf_12 : decode b_X_toHalf 12 = .ok (.goto 4, 3) := by decide +kernel
theorem d_X_toHalf_15 : decode b_X_toHalf 15 = .ok (.iconst 0, 1) := by decide +kernel
theorem d_X_toHalf_16 : decode b_X_toHalf 16 = .ok (.istore 4, 2) := by decide +kernel
theorem d_X_toHalf_18 : decode b_X_toHalf 18 = .ok (.lload_n 2, 1) := by decide +kernel
theorem d_X_toHalf_19 : decode b_X_toHalf 19 = .ok (.ldc2_w 100, 3) := by decide +kernel
theorem d_X_toHalf_22 : decode b_X_toHalf 22 = .ok (.lcmp, 1) := by decide +kernel
theorem d_X_toHalf_23 : decode b_X_toHalf 23 = .ok (.ifCond .ge 12, 3) := by decide +kernel
theorem d_X_toHalf_26 : decode b_X_toHalf 26 = .ok (.iload 4, 2) := by decide +kernel
theorem d_X_toHalf_28 : decode b_X_toHalf 28 = .ok (.lload_n 2, 1) := by decide +kernel
theorem d_X_toHalf_29 : decode b_X_toHalf 29 = .ok (.l2i, 1) := by decide +kernel
theorem d_X_toHalf_30 : decode b_X_toHalf 30 = .ok (.bipush 8, 2) := by decide +kernel
theorem d_X_toHalf_32 : decode b_X_toHalf 32 = .ok (.ishl, 1) := by decide +kernel
theorem d_X_toHalf_33 : decode b_X_toHalf 33 = .ok (.ior, 1) := by decide +kernel
theorem d_X_toHalf_34 : decode b_X_toHalf 34 = .ok (.ireturn, 1) := by decide +kernel
theorem d_X_toHalf_35 : decode b_X_toHalf 35 = .ok (.bipush 63, 2) := by decide +kernel
theorem d_X_toHalf_37 : decode b_X_toHalf 37 = .ok (.lload_n 2, 1) := by decide +kernel
theorem d_X_toHalf_38 : decode b_X_toHalf 38 = .ok (.invokestatic 45, 3) := by decide +kernel
theorem d_X_toHalf_41 : decode b_X_toHalf 41 = .ok (.isub, 1) := by decide +kernel
theorem d_X_toHalf_42 : decode b_X_toHalf 42 = .ok (.istore 5, 2) := by decide +kernel
theorem d_X_toHalf_44 : decode b_X_toHalf 44 = .ok (.iload 5, 2) := by decide +kernel
theorem d_X_toHalf_46 : decode b_X_toHalf 46 = .ok (.iconst 1, 1) := by decide +kernel
theorem d_X_toHalf_47 : decode b_X_toHalf 47 = .ok (.isub, 1) := by decide +kernel
theorem d_X_toHalf_48 : decode b_X_toHalf 48 = .ok (.istore 6, 2) := by decide +kernel
theorem d_X_toHalf_50 : decode b_X_toHalf 50 = .ok (.iload 5, 2) := by decide +kernel
theorem d_X_toHalf_52 : decode b_X_toHalf 52 = .ok (.bipush 10, 2) := by decide +kernel
theorem d_X_toHalf_54 : decode b_X_toHalf 54 = .ok (.if_icmp .gt 25, 3) := by decide +kernel
theorem d_X_toHalf_57 : decode b_X_toHalf 57 = .ok (.iload 4, 2) := by decide +kernel
theorem d_X_toHalf_59 : decode b_X_toHalf 59 = .ok (.iload 6, 2) := by decide +kernel
theorem d_X_toHalf_61 : decode b_X_toHalf 61 = .ok (.bipush 10, 2) := by decide +kernel
theorem d_X_toHalf_63 : decode b_X_toHalf 63 = .ok (.ishl, 1) := by decide +kernel
theorem d_X_toHalf_64 : decode b_X_toHalf 64 = .ok (.ior, 1) := by decide +kernel
theorem d_X_toHalf_65 : decode b_X_toHalf 65 = .ok (.lload_n 2, 1) := by decide +kernel
theorem d_X_toHalf_66 : decode b_X_toHalf 66 = .ok (.bipush 10, 2) := by decide +kernel
theorem d_X_toHalf_68 : decode b_X_toHalf 68 = .ok (.iload 5, 2) := by decide +kernel
theorem d_X_toHalf_70 : decode b_X_toHalf 70 = .ok (.isub, 1) := by decide +kernel
theorem d_X_toHalf_71 : decode b_X_toHalf 71 = .ok (.lshl, 1) := by decide +kernel
theorem d_X_toHalf_72 : decode b_X_toHalf 72 = .ok (.l2i, 1) := by decide +kernel
theorem d_X_toHalf_73 : decode b_X_toHalf 73 = .ok (.sipush 1024, 3) := by decide +kernel
theorem d_X_toHalf_76 : decode b_X_toHalf 76 = .ok (.isub, 1) := by decide +kernel
theorem d_X_toHalf_77 : decode b_X_toHalf 77 = .ok (.ior, 1) := by decide +kernel
theorem d_X_toHalf_78 : decode b_X_toHalf 78 = .ok (.ireturn, 1) := by decide +kernel
theorem d_X_toHalf_79 : decode b_X_toHalf 79 = .ok (.iload 5, 2) := by decide +kernel
theorem d_X_toHalf_81 : decode b_X_toHalf 81 = .ok (.bipush 10, 2) := by decide +kernel
theorem d_X_toHalf_83 : decode b_X_toHalf 83 = .ok (.isub, 1) := by decide +kernel
theorem d_X_toHalf_84 : decode b_X_toHalf 84 = .ok (.istore 7, 2) := by decide +kernel
theorem d_X_toHalf_86 : decode b_X_toHalf 86 = .ok (.lload_n 2, 1) := by decide +kernel
theorem d_X_toHalf_87 : decode b_X_toHalf 87 = .ok (.lconst 1, 1) := by decide +kernel
theorem d_X_toHalf_88 : decode b_X_toHalf 88 = .ok (.iload 7, 2) := by decide +kernel
theorem d_X_toHalf_90 : decode b_X_toHalf 90 = .ok (.lshl, 1) := by decide +kernel
theorem d_X_toHalf_91 : decode b_X_toHalf 91 = .ok (.lconst 1, 1) := by decide +kernel
theorem d_X_toHalf_92 : decode b_X_toHalf 92 = .ok (.lsub, 1) := by decide +kernel
theorem d_X_toHalf_93 : decode b_X_toHalf 93 = .ok (.land, 1) := by decide +kernel
theorem d_X_toHalf_94 : decode b_X_toHalf 94 = .ok (.lstore 8, 2) := by decide +kernel
theorem d_X_toHalf_96 : decode b_X_toHalf 96 = .ok (.lconst 1, 1) := by decide +kernel
theorem d_X_toHalf_97 : decode b_X_toHalf 97 = .ok (.iload 7, 2) := by decide +kernel
theorem d_X_toHalf_99 : decode b_X_toHalf 99 = .ok (.iconst 1, 1) := by decide +kernel
theorem d_X_toHalf_100 : decode b_X_toHalf 100 = .ok (.isub, 1) := by decide +kernel
theorem d_X_toHalf_101 : decode b_X_toHalf 101 = .ok (.lshl, 1) := by decide +kernel
theorem d_X_toHalf_102 : decode b_X_toHalf 102 = .ok (.lstore 10, 2) := by decide +kernel
theorem d_X_toHalf_104 : decode b_X_toHalf 104 = .ok (.lload_n 2, 1) := by decide +kernel
theorem d_X_toHalf_105 : decode b_X_toHalf 105 = .ok (.iload 7, 2) := by decide +kernel
theorem d_X_toHalf_107 : decode b_X_toHalf 107 = .ok (.lshr, 1) := by decide +kernel
theorem d_X_toHalf_108 : decode b_X_toHalf 108 = .ok (.lstore 12, 2) := by decide +kernel
theorem d_X_toHalf_110 : decode b_X_toHalf 110 = .ok (.lload 8, 2) := by decide +kernel
theorem d_X_toHalf_112 : decode b_X_toHalf 112 = .ok (.lload 10, 2) := by decide +kernel
theorem d_X_toHalf_114 : decode b_X_toHalf 114 = .ok (.lcmp, 1) := by decide +kernel
theorem d_X_toHalf_115 : decode b_X_toHalf 115 = .ok (.ifCond .gt 20, 3) := by decide +kernel
theorem d_X_toHalf_118 : decode b_X_toHalf 118 = .ok (.lload 8, 2) := by decide +kernel
theorem d_X_toHalf_120 : decode b_X_toHalf 120 = .ok (.lload 10, 2) := by decide +kernel
theorem d_X_toHalf_122 : decode b_X_toHalf 122 = .ok (.lcmp, 1) := by decide +kernel
theorem d_X_toHalf_123 : decode b_X_toHalf 123 = .ok (.ifCond .ne 18, 3) := by decide +kernel
theorem d_X_toHalf_126 : decode b_X_toHalf 126 = .ok (.lload 12, 2) := by decide +kernel
theorem d_X_toHalf_128 : decode b_X_toHalf 128 = .ok (.lconst 1, 1) := by decide +kernel
theorem d_X_toHalf_129 : decode b_X_toHalf 129 = .ok (.land, 1) := by decide +kernel
theorem d_X_toHalf_130 : decode b_X_toHalf 130 = .ok (.lconst 1, 1) := by decide +kernel
theorem d_X_toHalf_131 : decode b_X_toHalf 131 = .ok (.lcmp, 1) := by decide +kernel
theorem d_X_toHalf_132 : decode b_X_toHalf 132 = .ok (.ifCond .ne 9, 3) := by decide +kernel
theorem d_X_toHalf_135 : decode b_X_toHalf 135 = .ok (.lload 12, 2) := by decide +kernel
theorem d_X_toHalf_137 : decode b_X_toHalf 137 = .ok (.lconst 1, 1) := by decide +kernel
theorem d_X_toHalf_138 : decode b_X_toHalf 138 = .ok (.ladd, 1) := by decide +kernel
theorem d_X_toHalf_139 : decode b_X_toHalf 139 = .ok (.lstore 12, 2) := by decide +kernel
theorem d_X_toHalf_141 : decode b_X_toHalf 141 = .ok (.iload 4, 2) := by decide +kernel
theorem d_X_toHalf_143 : decode b_X_toHalf 143 = .ok (.iload 6, 2) := by decide +kernel
theorem d_X_toHalf_145 : decode b_X_toHalf 145 = .ok (.bipush 10, 2) := by decide +kernel
theorem d_X_toHalf_147 : decode b_X_toHalf 147 = .ok (.ishl, 1) := by decide +kernel
theorem d_X_toHalf_148 : decode b_X_toHalf 148 = .ok (.lload 12, 2) := by decide +kernel
theorem d_X_toHalf_150 : decode b_X_toHalf 150 = .ok (.l2i, 1) := by decide +kernel
theorem d_X_toHalf_151 : decode b_X_toHalf 151 = .ok (.iadd, 1) := by decide +kernel
theorem d_X_toHalf_152 : decode b_X_toHalf 152 = .ok (.sipush 1024, 3) := by decide +kernel
theorem d_X_toHalf_155 : decode b_X_toHalf 155 = .ok (.isub, 1) := by decide +kernel
theorem d_X_toHalf_156 : decode b_X_toHalf 156 = .ok (.ior, 1) := by decide +kernel
theorem d_X_toHalf_157 : decode b_X_toHalf 157 = .ok (.ireturn, 1) := by decide +kernel
theorem d_X_upper_0 : decode b_X_upper 0 = .ok (.lload_n 0, 1) := by decide +kernel
theorem d_X_upper_1 : decode b_X_upper 1 = .ok (.lload_n 2, 1) := by decide +kernel
theorem d_X_upper_2 : decode b_X_upper 2 = .ok (.invokestatic 56, 3) := by decide +kernel
theorem d_X_upper_5 : decode b_X_upper 5 = .ok (.lload_n 0, 1) := by decide +kernel
theorem d_X_upper_6 : decode b_X_upper 6 = .ok (.lconst 0, 1) := by decide +kernel
theorem d_X_upper_7 : decode b_X_upper 7 = .ok (.lcmp, 1) := by decide +kernel
theorem d_X_upper_8 : decode b_X_upper 8 = .ok (.ifCond .ge 7, 3) := by decide +kernel
theorem d_X_upper_11 : decode b_X_upper 11 = .ok (.lload_n 2, 1) := by decide +kernel
theorem d_X_upper_12 : decode b_X_upper 12 = .ok (.goto 4, 3) := by decide +kernel
theorem d_X_upper_15 : decode b_X_upper 15 = .ok (.lconst 0, 1) := by decide +kernel
theorem d_X_upper_16 : decode b_X_upper 16 = .ok (.ladd, 1) := by decide +kernel
theorem d_X_upper_17 : decode b_X_upper 17 = .ok (.lload_n 2, 1) := by decide +kernel
theorem d_X_upper_18 : decode b_X_upper 18 = .ok (.lconst 0, 1) := by decide +kernel
theorem d_X_upper_19 : decode b_X_upper 19 = .ok (.lcmp, 1) := by decide +kernel
theorem d_X_upper_20 : decode b_X_upper 20 = .ok (.ifCond .ge 7, 3) := by decide +kernel
theorem d_X_upper_23 : decode b_X_upper 23 = .ok (.lload_n 0, 1) := by decide +kernel
theorem d_X_upper_24 : decode b_X_upper 24 = .ok (.goto 4, 3) := by decide +kernel
theorem d_X_upper_27 : decode b_X_upper 27 = .ok (.lconst 0, 1) := by decide +kernel
theorem d_X_upper_28 : decode b_X_upper 28 = .ok (.ladd, 1) := by decide +kernel
theorem d_X_upper_29 : decode b_X_upper 29 = .ok (.lreturn, 1) := by decide +kernel
theorem d_L_between_0 : decode b_L_between 0 = .ok (.aload 7, 2) := by decide +kernel
theorem d_L_between_2 : decode b_L_between 2 = .ok (.iconst 0, 1) := by decide +kernel
theorem d_L_between_3 : decode b_L_between 3 = .ok (.aload_n 0, 1) := by decide +kernel
theorem d_L_between_4 : decode b_L_between 4 = .ok (.iload_n 1, 1) := by decide +kernel
theorem d_L_between_5 : decode b_L_between 5 = .ok (.iload_n 2, 1) := by decide +kernel
theorem d_L_between_6 : decode b_L_between 6 = .ok (.lload_n 3, 1) := by decide +kernel
theorem d_L_between_7 : decode b_L_between 7 = .ok (.lload 5, 2) := by decide +kernel
theorem d_L_between_9 : decode b_L_between 9 = .ok (.invokevirtual 15, 3) := by decide +kernel
theorem d_L_between_12 : decode b_L_between 12 = .ok (.i2l, 1) := by decide +kernel
theorem d_L_between_13 : decode b_L_between 13 = .ok (.lastore, 1) := by decide +kernel
theorem d_L_between_14 : decode b_L_between 14 = .ok (.goto 7, 3) := by decide +kernel
theorem d_L_between_17 : decode b_L_between 17 = .ok (.astore 8, 2) := by decide +kernel
theorem d_L_between_19 : decode b_L_between 19 = .ok (.iconst 1, 1) := by decide +kernel
theorem d_L_between_20 : decode b_L_between 20 = .ok (.ireturn, 1) := by decide +kernel
theorem d_L_between_21 : decode b_L_between 21 = .ok (.iconst 0, 1) := by decide +kernel
theorem d_L_between_22 : decode b_L_between 22 = .ok (.ireturn, 1) := by decide +kernel
theorem d_L_fixed_0 : decode b_L_fixed 0 = .ok (.aload_n 2, 1) := by decide +kernel
theorem d_L_fixed_1 : decode b_L_fixed 1 = .ok (.iconst 0, 1) := by decide +kernel
theorem d_L_fixed_2 : decode b_L_fixed 2 = .ok (.aload_n 0, 1) := by decide +kernel
theorem d_L_fixed_3 : decode b_L_fixed 3 = .ok (.iload_n 1, 1) := by decide +kernel
theorem d_L_fixed_4 : decode b_L_fixed 4 = .ok (.invokevirtual 21, 3) := by decide +kernel
theorem d_L_fixed_7 : decode b_L_fixed 7 = .ok (.i2l, 1) := by decide +kernel
theorem d_L_fixed_8 : decode b_L_fixed 8 = .ok (.lastore, 1) := by decide +kernel
theorem d_L_fixed_9 : decode b_L_fixed 9 = .ok (.goto 6, 3) := by decide +kernel
theorem d_L_fixed_12 : decode b_L_fixed 12 = .ok (.astore_n 3, 1) := by decide +kernel
theorem d_L_fixed_13 : decode b_L_fixed 13 = .ok (.iconst 1, 1) := by decide +kernel
theorem d_L_fixed_14 : decode b_L_fixed 14 = .ok (.ireturn, 1) := by decide +kernel
theorem d_L_fixed_15 : decode b_L_fixed 15 = .ok (.iconst 0, 1) := by decide +kernel
theorem d_L_fixed_16 : decode b_L_fixed 16 = .ok (.ireturn, 1) := by decide +kernel
theorem d_L_ratio_0 : decode b_L_ratio 0 = .ok (.aload 7, 2) := by decide +kernel
theorem d_L_ratio_2 : decode b_L_ratio 2 = .ok (.iconst 0, 1) := by decide +kernel
theorem d_L_ratio_3 : decode b_L_ratio 3 = .ok (.aload_n 0, 1) := by decide +kernel
theorem d_L_ratio_4 : decode b_L_ratio 4 = .ok (.lload_n 1, 1) := by decide +kernel
theorem d_L_ratio_5 : decode b_L_ratio 5 = .ok (.lload_n 3, 1) := by decide +kernel
theorem d_L_ratio_6 : decode b_L_ratio 6 = .ok (.lload 5, 2) := by decide +kernel
theorem d_L_ratio_8 : decode b_L_ratio 8 = .ok (.invokevirtual 7, 3) := by decide +kernel
theorem d_L_ratio_11 : decode b_L_ratio 11 = .ok (.lastore, 1) := by decide +kernel
theorem d_L_ratio_12 : decode b_L_ratio 12 = .ok (.goto 7, 3) := by decide +kernel
theorem d_L_ratio_15 : decode b_L_ratio 15 = .ok (.astore 8, 2) := by decide +kernel
theorem d_L_ratio_17 : decode b_L_ratio 17 = .ok (.iconst 1, 1) := by decide +kernel
theorem d_L_ratio_18 : decode b_L_ratio 18 = .ok (.ireturn, 1) := by decide +kernel
theorem d_L_ratio_19 : decode b_L_ratio 19 = .ok (.iconst 0, 1) := by decide +kernel
theorem d_L_ratio_20 : decode b_L_ratio 20 = .ok (.ireturn, 1) := by decide +kernel
theorem d_L_shade_0 : decode b_L_shade 0 = .ok (.aload_n 3, 1) := by decide +kernel
theorem d_L_shade_1 : decode b_L_shade 1 = .ok (.iconst 0, 1) := by decide +kernel
theorem d_L_shade_2 : decode b_L_shade 2 = .ok (.aload_n 0, 1) := by decide +kernel
theorem d_L_shade_3 : decode b_L_shade 3 = .ok (.iload_n 1, 1) := by decide +kernel
theorem d_L_shade_4 : decode b_L_shade 4 = .ok (.iload_n 2, 1) := by decide +kernel
theorem d_L_shade_5 : decode b_L_shade 5 = .ok (.invokevirtual 25, 3) := by decide +kernel
theorem d_L_shade_8 : decode b_L_shade 8 = .ok (.i2l, 1) := by decide +kernel
theorem d_L_shade_9 : decode b_L_shade 9 = .ok (.lastore, 1) := by decide +kernel
theorem d_L_shade_10 : decode b_L_shade 10 = .ok (.goto 7, 3) := by decide +kernel
theorem d_L_shade_13 : decode b_L_shade 13 = .ok (.astore 4, 2) := by decide +kernel
theorem d_L_shade_15 : decode b_L_shade 15 = .ok (.iconst 1, 1) := by decide +kernel
theorem d_L_shade_16 : decode b_L_shade 16 = .ok (.ireturn, 1) := by decide +kernel
theorem d_L_shade_17 : decode b_L_shade 17 = .ok (.iconst 0, 1) := by decide +kernel
theorem d_L_shade_18 : decode b_L_shade 18 = .ok (.ireturn, 1) := by decide +kernel
end
section
theorem d_M_below_0 : decode b_M_below 0 = .ok (.lload_n 0, 1) := by decide +kernel
theorem d_M_below_1 : decode b_M_below 1 = .ok (.ldc2_w 14, 3) := by decide +kernel
theorem d_M_below_4 : decode b_M_below 4 = .ok (.lxor, 1) := by decide +kernel
theorem d_M_below_5 : decode b_M_below 5 = .ok (.lload_n 2, 1) := by decide +kernel
theorem d_M_below_6 : decode b_M_below 6 = .ok (.ldc2_w 14, 3) := by decide +kernel
theorem d_M_below_9 : decode b_M_below 9 = .ok (.lxor, 1) := by decide +kernel
theorem d_M_below_10 : decode b_M_below 10 = .ok (.lcmp, 1) := by decide +kernel
theorem d_M_below_11 : decode b_M_below 11 = .ok (.ifCond .ge 7, 3) := by decide +kernel
theorem d_M_below_14 : decode b_M_below 14 = .ok (.iconst 1, 1) := by decide +kernel
theorem d_M_below_15 : decode b_M_below 15 = .ok (.goto 4, 3) := by decide +kernel
theorem d_M_below_18 : decode b_M_below 18 = .ok (.iconst 0, 1) := by decide +kernel
theorem d_M_below_19 : decode b_M_below 19 = .ok (.ireturn, 1) := by decide +kernel
theorem d_M_between_0 : decode b_M_between 0 = .ok (.aload_n 0, 1) := by decide +kernel
theorem d_M_between_1 : decode b_M_between 1 = .ok (.lload 5, 2) := by decide +kernel
theorem d_M_between_3 : decode b_M_between 3 = .ok (.lconst 0, 1) := by decide +kernel
theorem d_M_between_4 : decode b_M_between 4 = .ok (.lcmp, 1) := by decide +kernel
theorem d_M_between_5 : decode b_M_between 5 = .ok (.ifCond .le 16, 3) := by decide +kernel
theorem d_M_between_8 : decode b_M_between 8 = .ok (.lload_n 3, 1) := by decide +kernel
theorem d_M_between_9 : decode b_M_between 9 = .ok (.lconst 0, 1) := by decide +kernel
theorem d_M_between_10 : decode b_M_between 10 = .ok (.lcmp, 1) := by decide +kernel
theorem d_M_between_11 : decode b_M_between 11 = .ok (.ifCond .lt 10, 3) := by decide +kernel
theorem d_M_between_14 : decode b_M_between 14 = .ok (.lload_n 3, 1) := by decide +kernel
theorem d_M_between_15 : decode b_M_between 15 = .ok (.lload 5, 2) := by decide +kernel
theorem d_M_between_17 : decode b_M_between 17 = .ok (.lcmp, 1) := by decide +kernel
theorem d_M_between_18 : decode b_M_between 18 = .ok (.ifCond .le 7, 3) := by decide +kernel
theorem d_M_between_21 : decode b_M_between 21 = .ok (.iconst 1, 1) := by decide +kernel
theorem d_M_between_22 : decode b_M_between 22 = .ok (.goto 4, 3) := by decide +kernel
theorem d_M_between_25 : decode b_M_between 25 = .ok (.iconst 0, 1) := by decide +kernel
theorem d_M_between_26 : decode b_M_between 26 = .ok (.putfield 7, 3) := by decide +kernel
theorem d_M_between_29 : decode b_M_between 29 = .ok (.aload_n 0, 1) := by decide +kernel
theorem d_M_between_30 : decode b_M_between 30 = .ok (.getfield 7, 3) := by decide +kernel
theorem d_M_between_33 : decode b_M_between 33 = .ok (.ifCond .le 5, 3) := by decide +kernel
theorem d_M_between_36 : decode b_M_between 36 = .ok (.iconst 0, 1) := by decide +kernel
theorem d_M_between_37 : decode b_M_between 37 = .ok (.ireturn, 1) := by decide +kernel
theorem d_M_between_38 : decode b_M_between 38 = .ok (.iload_n 1, 1) := by decide +kernel
theorem d_M_between_39 : decode b_M_between 39 = .ok (.i2l, 1) := by decide +kernel
theorem d_M_between_40 : decode b_M_between 40 = .ok (.aload_n 0, 1) := by decide +kernel
theorem d_M_between_41 : decode b_M_between 41 = .ok (.iload_n 2, 1) := by decide +kernel
theorem d_M_between_42 : decode b_M_between 42 = .ok (.i2l, 1) := by decide +kernel
theorem d_M_between_43 : decode b_M_between 43 = .ok (.iload_n 1, 1) := by decide +kernel
theorem d_M_between_44 : decode b_M_between 44 = .ok (.i2l, 1) := by decide +kernel
theorem d_M_between_45 : decode b_M_between 45 = .ok (.lsub, 1) := by decide +kernel
theorem d_M_between_46 : decode b_M_between 46 = .ok (.lload_n 3, 1) := by decide +kernel
theorem d_M_between_47 : decode b_M_between 47 = .ok (.lload 5, 2) := by decide +kernel
theorem d_M_between_49 : decode b_M_between 49 = .ok (.invokevirtual 54, 3) := by decide +kernel
theorem d_M_between_52 : decode b_M_between 52 = .ok (.ladd, 1) := by decide +kernel
theorem d_M_between_53 : decode b_M_between 53 = .ok (.l2i, 1) := by decide +kernel
theorem d_M_between_54 : decode b_M_between 54 = .ok (.ireturn, 1) := by decide +kernel
theorem d_M_channel_0 : decode b_M_channel 0 = .ok (.aload_n 0, 1) := by decide +kernel
theorem d_M_channel_1 : decode b_M_channel 1 = .ok (.iconst 0, 1) := by decide +kernel
theorem d_M_channel_2 : decode b_M_channel 2 = .ok (.putfield 7, 3) := by decide +kernel
theorem d_M_channel_5 : decode b_M_channel 5 = .ok (.iload_n 1, 1) := by decide +kernel
theorem d_M_channel_6 : decode b_M_channel 6 = .ok (.ifCond .ge 7, 3) := by decide +kernel
theorem d_M_channel_9 : decode b_M_channel 9 = .ok (.iconst 0, 1) := by decide +kernel
theorem d_M_channel_10 : decode b_M_channel 10 = .ok (.goto 25, 3) := by decide +kernel
theorem d_M_channel_13 : decode b_M_channel 13 = .ok (.iload_n 1, 1) := by decide +kernel
theorem d_M_channel_14 : decode b_M_channel 14 = .ok (.ldc 58, 2) := by decide +kernel
theorem d_M_channel_16 : decode b_M_channel 16 = .ok (.if_icmp .le 9, 3) := by decide +kernel
theorem d_M_channel_19 : decode b_M_channel 19 = .ok (.sipush 255, 3) := by decide +kernel
theorem d_M_channel_22 : decode b_M_channel 22 = .ok (.goto 13, 3) := by decide +kernel
theorem d_M_channel_25 : decode b_M_channel 25 = .ok (.sipush 255, 3) := by decide +kernel
theorem d_M_channel_28 : decode b_M_channel 28 = .ok (.iload_n 1, 1) := by decide +kernel
theorem d_M_channel_29 : decode b_M_channel 29 = .ok (.imul, 1) := by decide +kernel
theorem d_M_channel_30 : decode b_M_channel 30 = .ok (.ldc 58, 2) := by decide +kernel
theorem d_M_channel_32 : decode b_M_channel 32 = .ok (.invokestatic 59, 3) := by decide +kernel
theorem d_M_channel_35 : decode b_M_channel 35 = .ok (.ireturn, 1) := by decide +kernel
theorem d_M_divide_0 : decode b_M_divide 0 = .ok (.lconst 0, 1) := by decide +kernel
theorem d_M_divide_1 : decode b_M_divide 1 = .ok (.lstore_n 3, 1) := by decide +kernel
theorem d_M_divide_2 : decode b_M_divide 2 = .ok (.lconst 0, 1) := by decide +kernel
theorem d_M_divide_3 : decode b_M_divide 3 = .ok (.lstore 5, 2) := by decide +kernel
theorem d_M_divide_5 : decode b_M_divide 5 = .ok (.lconst 0, 1) := by decide +kernel
theorem d_M_divide_6 : decode b_M_divide 6 = .ok (.lstore 7, 2) := by decide +kernel
theorem d_M_divide_8 : decode b_M_divide 8 = .ok (.bipush 127, 2) := by decide +kernel
theorem d_M_divide_10 : decode b_M_divide 10 = .ok (.istore 9, 2) := by decide +kernel
theorem d_M_divide_12 : decode b_M_divide 12 = .ok (.iload 9, 2) := by decide +kernel
theorem d_M_divide_14 : decode b_M_divide 14 = .ok (.ifCond .lt 107, 3) := by decide +kernel
theorem d_M_divide_17 : decode b_M_divide 17 = .ok (.iload 9, 2) := by decide +kernel
theorem d_M_divide_19 : decode b_M_divide 19 = .ok (.bipush 63, 2) := by decide +kernel
theorem d_M_divide_21 : decode b_M_divide 21 = .ok (.if_icmp .le 18, 3) := by decide +kernel
theorem d_M_divide_24 : decode b_M_divide 24 = .ok (.aload_n 0, 1) := by decide +kernel
theorem d_M_divide_25 : decode b_M_divide 25 = .ok (.getfield 16, 3) := by decide +kernel
theorem d_M_divide_28 : decode b_M_divide 28 = .ok (.iload 9, 2) := by decide +kernel
theorem d_M_divide_30 : decode b_M_divide 30 = .ok (.bipush 64, 2) := by decide +kernel
theorem d_M_divide_32 : decode b_M_divide 32 = .ok (.isub, 1) := by decide +kernel
theorem d_M_divide_33 : decode b_M_divide 33 = .ok (.lushr, 1) := by decide +kernel
theorem d_M_divide_34 : decode b_M_divide 34 = .ok (.lconst 1, 1) := by decide +kernel
theorem d_M_divide_35 : decode b_M_divide 35 = .ok (.land, 1) := by decide +kernel
theorem d_M_divide_36 : decode b_M_divide 36 = .ok (.goto 12, 3) := by decide +kernel
theorem d_M_divide_39 : decode b_M_divide 39 = .ok (.aload_n 0, 1) := by decide +kernel
theorem d_M_divide_40 : decode b_M_divide 40 = .ok (.getfield 20, 3) := by decide +kernel
theorem d_M_divide_43 : decode b_M_divide 43 = .ok (.iload 9, 2) := by decide +kernel
theorem d_M_divide_45 : decode b_M_divide 45 = .ok (.lushr, 1) := by decide +kernel
theorem d_M_divide_46 : decode b_M_divide 46 = .ok (.lconst 1, 1) := by decide +kernel
theorem d_M_divide_47 : decode b_M_divide 47 = .ok (.land, 1) := by decide +kernel
theorem d_M_divide_48 : decode b_M_divide 48 = .ok (.lstore 10, 2) := by decide +kernel
theorem d_M_divide_50 : decode b_M_divide 50 = .ok (.lload 7, 2) := by decide +kernel
theorem d_M_divide_52 : decode b_M_divide 52 = .ok (.lconst 0, 1) := by decide +kernel
theorem d_M_divide_53 : decode b_M_divide 53 = .ok (.lcmp, 1) := by decide +kernel
theorem d_M_divide_54 : decode b_M_divide 54 = .ok (.ifCond .ge 7, 3) := by decide +kernel
theorem d_M_divide_57 : decode b_M_divide 57 = .ok (.iconst 1, 1) := by decide +kernel
theorem d_M_divide_58 : decode b_M_divide 58 = .ok (.goto 4, 3) := by decide +kernel
theorem d_M_divide_61 : decode b_M_divide 61 = .ok (.iconst 0, 1) := by decide +kernel
theorem d_M_divide_62 : decode b_M_divide 62 = .ok (.istore 12, 2) := by decide +kernel
theorem d_M_divide_64 : decode b_M_divide 64 = .ok (.lload 7, 2) := by decide +kernel
theorem d_M_divide_66 : decode b_M_divide 66 = .ok (.iconst 1, 1) := by decide +kernel
theorem d_M_divide_67 : decode b_M_divide 67 = .ok (.lshl, 1) := by decide +kernel
theorem d_M_divide_68 : decode b_M_divide 68 = .ok (.lload 10, 2) := by decide +kernel
theorem d_M_divide_70 : decode b_M_divide 70 = .ok (.lor, 1) := by decide +kernel
theorem d_M_divide_71 : decode b_M_divide 71 = .ok (.lstore 7, 2) := by decide +kernel
theorem d_M_divide_73 : decode b_M_divide 73 = .ok (.lload_n 3, 1) := by decide +kernel
theorem d_M_divide_74 : decode b_M_divide 74 = .ok (.iconst 1, 1) := by decide +kernel
theorem d_M_divide_75 : decode b_M_divide 75 = .ok (.lshl, 1) := by decide +kernel
theorem d_M_divide_76 : decode b_M_divide 76 = .ok (.lload 5, 2) := by decide +kernel
theorem d_M_divide_78 : decode b_M_divide 78 = .ok (.bipush 63, 2) := by decide +kernel
theorem d_M_divide_80 : decode b_M_divide 80 = .ok (.lushr, 1) := by decide +kernel
theorem d_M_divide_81 : decode b_M_divide 81 = .ok (.lor, 1) := by decide +kernel
theorem d_M_divide_82 : decode b_M_divide 82 = .ok (.lstore_n 3, 1) := by decide +kernel
theorem d_M_divide_83 : decode b_M_divide 83 = .ok (.lload 5, 2) := by decide +kernel
theorem d_M_divide_85 : decode b_M_divide 85 = .ok (.iconst 1, 1) := by decide +kernel
theorem d_M_divide_86 : decode b_M_divide 86 = .ok (.lshl, 1) := by decide +kernel
theorem d_M_divide_87 : decode b_M_divide 87 = .ok (.lstore 5, 2) := by decide +kernel
theorem d_M_divide_89 : decode b_M_divide 89 = .ok (.iload 12, 2) := by decide +kernel
theorem d_M_divide_91 : decode b_M_divide 91 = .ok (.ifCond .ne 12, 3) := by decide +kernel
theorem d_M_divide_94 : decode b_M_divide 94 = .ok (.lload 7, 2) := by decide +kernel
theorem d_M_divide_96 : decode b_M_divide 96 = .ok (.lload_n 1, 1) := by decide +kernel
theorem d_M_divide_97 : decode b_M_divide 97 = .ok (.invokestatic 23, 3) := by decide +kernel
theorem d_M_divide_100 : decode b_M_divide 100 = .ok (.ifCond .ne 15, 3) := by decide +kernel
theorem d_M_divide_103 : decode b_M_divide 103 = .ok (.lload 7, 2) := by decide +kernel
theorem d_M_divide_105 : decode b_M_divide 105 = .ok (.lload_n 1, 1) := by decide +kernel
theorem d_M_divide_106 : decode b_M_divide 106 = .ok (.lsub, 1) := by decide +kernel
theorem d_M_divide_107 : decode b_M_divide 107 = .ok (.lstore 7, 2) := by decide +kernel
theorem d_M_divide_109 : decode b_M_divide 109 = .ok (.lload 5, 2) := by decide +kernel
theorem d_M_divide_111 : decode b_M_divide 111 = .ok (.lconst 1, 1) := by decide +kernel
theorem d_M_divide_112 : decode b_M_divide 112 = .ok (.lor, 1) := by decide +kernel
theorem d_M_divide_113 : decode b_M_divide 113 = .ok (.lstore 5, 2) := by decide +kernel
theorem d_M_divide_115 : decode b_M_divide 115 = .ok (.iinc 9 (-1), 3) := by decide +kernel
theorem d_M_divide_118 : decode b_M_divide 118 = .ok (.goto (-106), 3) := by decide +kernel
theorem d_M_divide_121 : decode b_M_divide 121 = .ok (.aload_n 0, 1) := by decide +kernel
theorem d_M_divide_122 : decode b_M_divide 122 = .ok (.lload_n 3, 1) := by decide +kernel
theorem d_M_divide_123 : decode b_M_divide 123 = .ok (.putfield 16, 3) := by decide +kernel
theorem d_M_divide_126 : decode b_M_divide 126 = .ok (.aload_n 0, 1) := by decide +kernel
theorem d_M_divide_127 : decode b_M_divide 127 = .ok (.lload 5, 2) := by decide +kernel
theorem d_M_divide_129 : decode b_M_divide 129 = .ok (.putfield 20, 3) := by decide +kernel
theorem d_M_divide_132 : decode b_M_divide 132 = .ok (.aload_n 0, 1) := by decide +kernel
theorem d_M_divide_133 : decode b_M_divide 133 = .ok (.lload 7, 2) := by decide +kernel
theorem d_M_divide_135 : decode b_M_divide 135 = .ok (.putfield 27, 3) := by decide +kernel
theorem d_M_divide_138 : decode b_M_divide 138 = .ok (.return_, 1) := by decide +kernel
theorem d_M_exact_0 : decode b_M_exact 0 = .ok (.aload_n 0, 1) := by decide +kernel
theorem d_M_exact_1 : decode b_M_exact 1 = .ok (.lload_n 1, 1) := by decide +kernel
theorem d_M_exact_2 : decode b_M_exact 2 = .ok (.invokestatic 30, 3) := by decide +kernel
theorem d_M_exact_5 : decode b_M_exact 5 = .ok (.lload_n 3, 1) := by decide +kernel
theorem d_M_exact_6 : decode b_M_exact 6 = .ok (.invokestatic 30, 3) := by decide +kernel
theorem d_M_exact_9 : decode b_M_exact 9 = .ok (.invokevirtual 34, 3) := by decide +kernel
theorem d_M_exact_12 : decode b_M_exact 12 = .ok (.aload_n 0, 1) := by decide +kernel
theorem d_M_exact_13 : decode b_M_exact 13 = .ok (.lload 5, 2) := by decide +kernel
theorem d_M_exact_15 : decode b_M_exact 15 = .ok (.invokestatic 30, 3) := by decide +kernel
theorem d_M_exact_18 : decode b_M_exact 18 = .ok (.invokevirtual 38, 3) := by decide +kernel
theorem d_M_exact_21 : decode b_M_exact 21 = .ok (.lload_n 1, 1) := by decide +kernel
theorem d_M_exact_22 : decode b_M_exact 22 = .ok (.lconst 0, 1) := by decide +kernel
theorem d_M_exact_23 : decode b_M_exact 23 = .ok (.lcmp, 1) := by decide +kernel
theorem d_M_exact_24 : decode b_M_exact 24 = .ok (.ifCond .ge 7, 3) := by decide +kernel
theorem d_M_exact_27 : decode b_M_exact 27 = .ok (.iconst 1, 1) := by decide +kernel
theorem d_M_exact_28 : decode b_M_exact 28 = .ok (.goto 4, 3) := by decide +kernel
theorem d_M_exact_31 : decode b_M_exact 31 = .ok (.iconst 0, 1) := by decide +kernel
theorem d_M_exact_32 : decode b_M_exact 32 = .ok (.lload_n 3, 1) := by decide +kernel
theorem d_M_exact_33 : decode b_M_exact 33 = .ok (.lconst 0, 1) := by decide +kernel
theorem d_M_exact_34 : decode b_M_exact 34 = .ok (.lcmp, 1) := by decide +kernel
theorem d_M_exact_35 : decode b_M_exact 35 = .ok (.ifCond .ge 7, 3) := by decide +kernel
theorem d_M_exact_38 : decode b_M_exact 38 = .ok (.iconst 1, 1) := by decide +kernel
theorem d_M_exact_39 : decode b_M_exact 39 = .ok (.goto 4, 3) := by decide +kernel
theorem d_M_exact_42 : decode b_M_exact 42 = .ok (.iconst 0, 1) := by decide +kernel
theorem d_M_exact_43 : decode b_M_exact 43 = .ok (.if_icmp .eq 7, 3) := by decide +kernel
theorem d_M_exact_46 : decode b_M_exact 46 = .ok (.iconst 1, 1) := by decide +kernel
theorem d_M_exact_47 : decode b_M_exact 47 = .ok (.goto 4, 3) := by decide +kernel
theorem d_M_exact_50 : decode b_M_exact 50 = .ok (.iconst 0, 1) := by decide +kernel
theorem d_M_exact_51 : decode b_M_exact 51 = .ok (.lload 5, 2) := by decide +kernel
theorem d_M_exact_53 : decode b_M_exact 53 = .ok (.lconst 0, 1) := by decide +kernel
theorem d_M_exact_54 : decode b_M_exact 54 = .ok (.lcmp, 1) := by decide +kernel
theorem d_M_exact_55 : decode b_M_exact 55 = .ok (.ifCond .ge 7, 3) := by decide +kernel
theorem d_M_exact_58 : decode b_M_exact 58 = .ok (.iconst 1, 1) := by decide +kernel
theorem d_M_exact_59 : decode b_M_exact 59 = .ok (.goto 4, 3) := by decide +kernel
theorem d_M_exact_62 : decode b_M_exact 62 = .ok (.iconst 0, 1) := by decide +kernel
theorem d_M_exact_63 : decode b_M_exact 63 = .ok (.if_icmp .eq 34, 3) := by decide +kernel
theorem d_M_exact_66 : decode b_M_exact 66 = .ok (.aload_n 0, 1) := by decide +kernel
theorem d_M_exact_67 : decode b_M_exact 67 = .ok (.getfield 16, 3) := by decide +kernel
theorem d_M_exact_70 : decode b_M_exact 70 = .ok (.lconst 0, 1) := by decide +kernel
theorem d_M_exact_71 : decode b_M_exact 71 = .ok (.lcmp, 1) := by decide +kernel
theorem d_M_exact_72 : decode b_M_exact 72 = .ok (.ifCond .ne 21, 3) := by decide +kernel
theorem d_M_exact_75 : decode b_M_exact 75 = .ok (.aload_n 0, 1) := by decide +kernel
theorem d_M_exact_76 : decode b_M_exact 76 = .ok (.getfield 20, 3) := by decide +kernel
theorem d_M_exact_79 : decode b_M_exact 79 = .ok (.lconst 0, 1) := by decide +kernel
theorem d_M_exact_80 : decode b_M_exact 80 = .ok (.lcmp, 1) := by decide +kernel
theorem d_M_exact_81 : decode b_M_exact 81 = .ok (.ifCond .ne 12, 3) := by decide +kernel
theorem d_M_exact_84 : decode b_M_exact 84 = .ok (.aload_n 0, 1) := by decide +kernel
theorem d_M_exact_85 : decode b_M_exact 85 = .ok (.getfield 27, 3) := by decide +kernel
theorem d_M_exact_88 : decode b_M_exact 88 = .ok (.lconst 0, 1) := by decide +kernel
theorem d_M_exact_89 : decode b_M_exact 89 = .ok (.lcmp, 1) := by decide +kernel
theorem d_M_exact_90 : decode b_M_exact 90 = .ok (.ifCond .eq 7, 3) := by decide +kernel
theorem d_M_exact_93 : decode b_M_exact 93 = .ok (.iconst 1, 1) := by decide +kernel
theorem d_M_exact_94 : decode b_M_exact 94 = .ok (.goto 4, 3) := by decide +kernel
theorem d_M_exact_97 : decode b_M_exact 97 = .ok (.iconst 0, 1) := by decide +kernel
theorem d_M_exact_98 : decode b_M_exact 98 = .ok (.istore 7, 2) := by decide +kernel
theorem d_M_exact_100 : decode b_M_exact 100 = .ok (.iload 7, 2) := by decide +kernel
theorem d_M_exact_102 : decode b_M_exact 102 = .ok (.ifCond .eq 48, 3) := by decide +kernel
theorem d_M_exact_105 : decode b_M_exact 105 = .ok (.aload_n 0, 1) := by decide +kernel
theorem d_M_exact_106 : decode b_M_exact 106 = .ok (.getfield 27, 3) := by decide +kernel
theorem d_M_exact_109 : decode b_M_exact 109 = .ok (.lconst 0, 1) := by decide +kernel
theorem d_M_exact_110 : decode b_M_exact 110 = .ok (.lcmp, 1) := by decide +kernel
theorem d_M_exact_111 : decode b_M_exact 111 = .ok (.ifCond .eq 39, 3) := by decide +kernel
theorem d_M_exact_114 : decode b_M_exact 114 = .ok (.aload_n 0, 1) := by decide +kernel
theorem d_M_exact_115 : decode b_M_exact 115 = .ok (.aload_n 0, 1) := by decide +kernel
theorem d_M_exact_116 : decode b_M_exact 116 = .ok (.getfield 20, 3) := by decide +kernel
theorem d_M_exact_119 : decode b_M_exact 119 = .ok (.lconst 1, 1) := by decide +kernel
theorem d_M_exact_120 : decode b_M_exact 120 = .ok (.ladd, 1) := by decide +kernel
theorem d_M_exact_121 : decode b_M_exact 121 = .ok (.putfield 20, 3) := by decide +kernel
theorem d_M_exact_124 : decode b_M_exact 124 = .ok (.aload_n 0, 1) := by decide +kernel
theorem d_M_exact_125 : decode b_M_exact 125 = .ok (.aload_n 0, 1) := by decide +kernel
theorem d_M_exact_126 : decode b_M_exact 126 = .ok (.getfield 20, 3) := by decide +kernel
theorem d_M_exact_129 : decode b_M_exact 129 = .ok (.lconst 0, 1) := by decide +kernel
theorem d_M_exact_130 : decode b_M_exact 130 = .ok (.lcmp, 1) := by decide +kernel
theorem d_M_exact_131 : decode b_M_exact 131 = .ok (.ifCond .ne 12, 3) := by decide +kernel
theorem d_M_exact_134 : decode b_M_exact 134 = .ok (.aload_n 0, 1) := by decide +kernel
theorem d_M_exact_135 : decode b_M_exact 135 = .ok (.getfield 16, 3) := by decide +kernel
theorem d_M_exact_138 : decode b_M_exact 138 = .ok (.lconst 1, 1) := by decide +kernel
theorem d_M_exact_139 : decode b_M_exact 139 = .ok (.ladd, 1) := by decide +kernel
theorem d_M_exact_140 : decode b_M_exact 140 = .ok (.goto 7, 3) := by decide +kernel
theorem d_M_exact_143 : decode b_M_exact 143 = .ok (.aload_n 0, 1) := by decide +kernel
theorem d_M_exact_144 : decode b_M_exact 144 = .ok (.getfield 16, 3) := by decide +kernel
theorem d_M_exact_147 : decode b_M_exact 147 = .ok (.putfield 16, 3) := by decide +kernel
theorem d_M_exact_150 : decode b_M_exact 150 = .ok (.aload_n 0, 1) := by decide +kernel
theorem d_M_exact_151 : decode b_M_exact 151 = .ok (.getfield 16, 3) := by decide +kernel
theorem d_M_exact_154 : decode b_M_exact 154 = .ok (.lconst 0, 1) := by decide +kernel
theorem d_M_exact_155 : decode b_M_exact 155 = .ok (.lcmp, 1) := by decide +kernel
theorem d_M_exact_156 : decode b_M_exact 156 = .ok (.ifCond .ne 32, 3) := by decide +kernel
theorem d_M_exact_159 : decode b_M_exact 159 = .ok (.aload_n 0, 1) := by decide +kernel
theorem d_M_exact_160 : decode b_M_exact 160 = .ok (.getfield 20, 3) := by decide +kernel
theorem d_M_exact_163 : decode b_M_exact 163 = .ok (.lconst 0, 1) := by decide +kernel
theorem d_M_exact_164 : decode b_M_exact 164 = .ok (.lcmp, 1) := by decide +kernel
theorem d_M_exact_165 : decode b_M_exact 165 = .ok (.ifCond .ge 19, 3) := by decide +kernel
theorem d_M_exact_168 : decode b_M_exact 168 = .ok (.iload 7, 2) := by decide +kernel
theorem d_M_exact_170 : decode b_M_exact 170 = .ok (.ifCond .eq 18, 3) := by decide +kernel
theorem d_M_exact_173 : decode b_M_exact 173 = .ok (.aload_n 0, 1) := by decide +kernel
theorem d_M_exact_174 : decode b_M_exact 174 = .ok (.getfield 20, 3) := by decide +kernel
theorem d_M_exact_177 : decode b_M_exact 177 = .ok (.ldc2_w 14, 3) := by decide +kernel
theorem d_M_exact_180 : decode b_M_exact 180 = .ok (.lcmp, 1) := by decide +kernel
theorem d_M_exact_181 : decode b_M_exact 181 = .ok (.ifCond .ne 7, 3) := by decide +kernel
theorem d_M_exact_184 : decode b_M_exact 184 = .ok (.iconst 1, 1) := by decide +kernel
theorem d_M_exact_185 : decode b_M_exact 185 = .ok (.goto 4, 3) := by decide +kernel
theorem d_M_exact_188 : decode b_M_exact 188 = .ok (.iconst 0, 1) := by decide +kernel
theorem d_M_exact_189 : decode b_M_exact 189 = .ok (.istore 8, 2) := by decide +kernel
theorem d_M_exact_191 : decode b_M_exact 191 = .ok (.aload_n 0, 1) := by decide +kernel
theorem d_M_exact_192 : decode b_M_exact 192 = .ok (.iload 8, 2) := by decide +kernel
theorem d_M_exact_194 : decode b_M_exact 194 = .ok (.ifCond .eq 7, 3) := by decide +kernel
theorem d_M_exact_197 : decode b_M_exact 197 = .ok (.lconst 0, 1) := by decide +kernel
theorem d_M_exact_198 : decode b_M_exact 198 = .ok (.goto 4, 3) := by decide +kernel
theorem d_M_exact_201 : decode b_M_exact 201 = .ok (.lconst 1, 1) := by decide +kernel
theorem d_M_exact_202 : decode b_M_exact 202 = .ok (.putfield 27, 3) := by decide +kernel
theorem d_M_exact_205 : decode b_M_exact 205 = .ok (.iload 7, 2) := by decide +kernel
theorem d_M_exact_207 : decode b_M_exact 207 = .ok (.ifCond .eq 11, 3) := by decide +kernel
theorem d_M_exact_210 : decode b_M_exact 210 = .ok (.aload_n 0, 1) := by decide +kernel
theorem d_M_exact_211 : decode b_M_exact 211 = .ok (.getfield 20, 3) := by decide +kernel
theorem d_M_exact_214 : decode b_M_exact 214 = .ok (.lneg, 1) := by decide +kernel
theorem d_M_exact_215 : decode b_M_exact 215 = .ok (.goto 7, 3) := by decide +kernel
theorem d_M_exact_218 : decode b_M_exact 218 = .ok (.aload_n 0, 1) := by decide +kernel
theorem d_M_exact_219 : decode b_M_exact 219 = .ok (.getfield 20, 3) := by decide +kernel
theorem d_M_exact_222 : decode b_M_exact 222 = .ok (.lreturn, 1) := by decide +kernel
theorem d_M_fixed_0 : decode b_M_fixed 0 = .ok (.aload_n 0, 1) := by decide +kernel
theorem d_M_fixed_1 : decode b_M_fixed 1 = .ok (.iload_n 1, 1) := by decide +kernel
theorem d_M_fixed_2 : decode b_M_fixed 2 = .ok (.ifCond .lt 10, 3) := by decide +kernel
theorem d_M_fixed_5 : decode b_M_fixed 5 = .ok (.iload_n 1, 1) := by decide +kernel
theorem d_M_fixed_6 : decode b_M_fixed 6 = .ok (.sipush 255, 3) := by decide +kernel
theorem d_M_fixed_9 : decode b_M_fixed 9 = .ok (.if_icmp .le 7, 3) := by decide +kernel
theorem d_M_fixed_12 : decode b_M_fixed 12 = .ok (.iconst 1, 1) := by decide +kernel
theorem d_M_fixed_13 : decode b_M_fixed 13 = .ok (.goto 4, 3) := by decide +kernel
theorem d_M_fixed_16 : decode b_M_fixed 16 = .ok (.iconst 0, 1) := by decide +kernel
theorem d_M_fixed_17 : decode b_M_fixed 17 = .ok (.putfield 7, 3) := by decide +kernel
theorem d_M_fixed_20 : decode b_M_fixed 20 = .ok (.aload_n 0, 1) := by decide +kernel
theorem d_M_fixed_21 : decode b_M_fixed 21 = .ok (.getfield 7, 3) := by decide +kernel
theorem d_M_fixed_24 : decode b_M_fixed 24 = .ok (.ifCond .le 7, 3) := by decide +kernel
theorem d_M_fixed_27 : decode b_M_fixed 27 = .ok (.iconst 0, 1) := by decide +kernel
theorem d_M_fixed_28 : decode b_M_fixed 28 = .ok (.goto 13, 3) := by decide +kernel
theorem d_M_fixed_31 : decode b_M_fixed 31 = .ok (.ldc 58, 2) := by decide +kernel
theorem d_M_fixed_33 : decode b_M_fixed 33 = .ok (.iload_n 1, 1) := by decide +kernel
theorem d_M_fixed_34 : decode b_M_fixed 34 = .ok (.imul, 1) := by decide +kernel
theorem d_M_fixed_35 : decode b_M_fixed 35 = .ok (.sipush 255, 3) := by decide +kernel
theorem d_M_fixed_38 : decode b_M_fixed 38 = .ok (.invokestatic 59, 3) := by decide +kernel
theorem d_M_fixed_41 : decode b_M_fixed 41 = .ok (.ireturn, 1) := by decide +kernel
theorem d_M_fromHalf_0 : decode b_M_fromHalf 0 = .ok (.aload_n 0, 1) := by decide +kernel
theorem d_M_fromHalf_1 : decode b_M_fromHalf 1 = .ok (.iconst 0, 1) := by decide +kernel
theorem d_M_fromHalf_2 : decode b_M_fromHalf 2 = .ok (.putfield 7, 3) := by decide +kernel
theorem d_M_fromHalf_5 : decode b_M_fromHalf 5 = .ok (.iload_n 1, 1) := by decide +kernel
theorem d_M_fromHalf_6 : decode b_M_fromHalf 6 = .ok (.bipush 15, 2) := by decide +kernel
theorem d_M_fromHalf_8 : decode b_M_fromHalf 8 = .ok (.ishr, 1) := by decide +kernel
theorem d_M_fromHalf_9 : decode b_M_fromHalf 9 = .ok (.iconst 1, 1) := by decide +kernel
theorem d_M_fromHalf_10 : decode b_M_fromHalf 10 = .ok (.iand, 1) := by decide +kernel
theorem d_M_fromHalf_11 : decode b_M_fromHalf 11 = .ok (.iconst 1, 1) := by decide +kernel
theorem d_M_fromHalf_12 : decode b_M_fromHalf 12 = .ok (.if_icmp .ne 7, 3) := by decide +kernel
theorem d_M_fromHalf_15 : decode b_M_fromHalf 15 = .ok (.iconst 1, 1) := by decide +kernel
theorem d_M_fromHalf_16 : decode b_M_fromHalf 16 = .ok (.goto 4, 3) := by decide +kernel
theorem d_M_fromHalf_19 : decode b_M_fromHalf 19 = .ok (.iconst 0, 1) := by decide +kernel
theorem d_M_fromHalf_20 : decode b_M_fromHalf 20 = .ok (.istore_n 2, 1) := by decide +kernel
theorem d_M_fromHalf_21 : decode b_M_fromHalf 21 = .ok (.iload_n 1, 1) := by decide +kernel
theorem d_M_fromHalf_22 : decode b_M_fromHalf 22 = .ok (.bipush 10, 2) := by decide +kernel
theorem d_M_fromHalf_24 : decode b_M_fromHalf 24 = .ok (.ishr, 1) := by decide +kernel
theorem d_M_fromHalf_25 : decode b_M_fromHalf 25 = .ok (.bipush 31, 2) := by decide +kernel
theorem d_M_fromHalf_27 : decode b_M_fromHalf 27 = .ok (.iand, 1) := by decide +kernel
theorem d_M_fromHalf_28 : decode b_M_fromHalf 28 = .ok (.bipush 31, 2) := by decide +kernel
theorem d_M_fromHalf_30 : decode b_M_fromHalf 30 = .ok (.if_icmp .ne 27, 3) := by decide +kernel
theorem d_M_fromHalf_33 : decode b_M_fromHalf 33 = .ok (.iload_n 1, 1) := by decide +kernel
theorem d_M_fromHalf_34 : decode b_M_fromHalf 34 = .ok (.sipush 1023, 3) := by decide +kernel
theorem d_M_fromHalf_37 : decode b_M_fromHalf 37 = .ok (.iand, 1) := by decide +kernel
theorem d_M_fromHalf_38 : decode b_M_fromHalf 38 = .ok (.ifCond .le 7, 3) := by decide +kernel
theorem d_M_fromHalf_41 : decode b_M_fromHalf 41 = .ok (.iconst 0, 1) := by decide +kernel
theorem d_M_fromHalf_42 : decode b_M_fromHalf 42 = .ok (.goto 14, 3) := by decide +kernel
theorem d_M_fromHalf_45 : decode b_M_fromHalf 45 = .ok (.iload_n 2, 1) := by decide +kernel
theorem d_M_fromHalf_46 : decode b_M_fromHalf 46 = .ok (.ifCond .eq 8, 3) := by decide +kernel
theorem d_M_fromHalf_49 : decode b_M_fromHalf 49 = .ok (.ldc 43, 2) := by decide +kernel
theorem d_M_fromHalf_51 : decode b_M_fromHalf 51 = .ok (.goto 5, 3) := by decide +kernel
theorem d_M_fromHalf_54 : decode b_M_fromHalf 54 = .ok (.ldc 42, 2) := by decide +kernel
theorem d_M_fromHalf_56 : decode b_M_fromHalf 56 = .ok (.ireturn, 1) := by decide +kernel
theorem d_M_fromHalf_57 : decode b_M_fromHalf 57 = .ok (.iload_n 2, 1) := by decide +kernel
theorem d_M_fromHalf_58 : decode b_M_fromHalf 58 = .ok (.ifCond .eq 11, 3) := by decide +kernel
theorem d_M_fromHalf_61 : decode b_M_fromHalf 61 = .ok (.iload_n 1, 1) := by decide +kernel
theorem d_M_fromHalf_62 : decode b_M_fromHalf 62 = .ok (.invokestatic 65, 3) := by decide +kernel
theorem d_M_fromHalf_65 : decode b_M_fromHalf 65 = .ok (.lneg, 1) := by decide +kernel
theorem d_M_fromHalf_66 : decode b_M_fromHalf 66 = .ok (.goto 7, 3) := by decide +kernel
theorem d_M_fromHalf_69 : decode b_M_fromHalf 69 = .ok (.iload_n 1, 1) := by decide +kernel
theorem d_M_fromHalf_70 : decode b_M_fromHalf 70 = .ok (.invokestatic 65, 3) := by decide +kernel
theorem d_M_fromHalf_73 : decode b_M_fromHalf 73 = .ok (.lstore_n 3, 1) := by decide +kernel
theorem d_M_fromHalf_74 : decode b_M_fromHalf 74 = .ok (.lload_n 3, 1) := by decide +kernel
theorem d_M_fromHalf_75 : decode b_M_fromHalf 75 = .ok (.bipush 8, 2) := by decide +kernel
theorem d_M_fromHalf_77 : decode b_M_fromHalf 77 = .ok (.lshr, 1) := by decide +kernel
theorem d_M_fromHalf_78 : decode b_M_fromHalf 78 = .ok (.lstore 5, 2) := by decide +kernel
theorem d_M_fromHalf_80 : decode b_M_fromHalf 80 = .ok (.lload 5, 2) := by decide +kernel
theorem d_M_fromHalf_82 : decode b_M_fromHalf 82 = .ok (.ldc2_w 44, 3) := by decide +kernel
theorem d_M_fromHalf_85 : decode b_M_fromHalf 85 = .ok (.lcmp, 1) := by decide +kernel
theorem d_M_fromHalf_86 : decode b_M_fromHalf 86 = .ok (.ifCond .le 8, 3) := by decide +kernel
theorem d_M_fromHalf_89 : decode b_M_fromHalf 89 = .ok (.ldc 42, 2) := by decide +kernel
theorem d_M_fromHalf_91 : decode b_M_fromHalf 91 = .ok (.goto 20, 3) := by decide +kernel
theorem d_M_fromHalf_94 : decode b_M_fromHalf 94 = .ok (.lload 5, 2) := by decide +kernel
theorem d_M_fromHalf_96 : decode b_M_fromHalf 96 = .ok (.ldc2_w 46, 3) := by decide +kernel
theorem d_M_fromHalf_99 : decode b_M_fromHalf 99 = .ok (.lcmp, 1) := by decide +kernel
theorem d_M_fromHalf_100 : decode b_M_fromHalf 100 = .ok (.ifCond .ge 8, 3) := by decide +kernel
theorem d_M_fromHalf_103 : decode b_M_fromHalf 103 = .ok (.ldc 43, 2) := by decide +kernel
theorem d_M_fromHalf_105 : decode b_M_fromHalf 105 = .ok (.goto 6, 3) := by decide +kernel
theorem d_M_fromHalf_108 : decode b_M_fromHalf 108 = .ok (.lload 5, 2) := by decide +kernel
theorem d_M_fromHalf_110 : decode b_M_fromHalf 110 = .ok (.l2i, 1) := by decide +kernel
theorem d_M_fromHalf_111 : decode b_M_fromHalf 111 = .ok (.ireturn, 1) := by decide +kernel
theorem d_M_init_0 : decode b_M_init 0 = .ok (.aload_n 0, 1) := by decide +kernel
theorem d_M_init_1 : decode b_M_init 1 = .ok (.invokespecial 1, 3) := by decide +kernel
theorem d_M_init_4 : decode b_M_init 4 = .ok (.return_, 1) := by decide +kernel
theorem d_M_multiply_0 : decode b_M_multiply 0 = .ok (.aload_n 0, 1) := by decide +kernel
theorem d_M_multiply_1 : decode b_M_multiply 1 = .ok (.lconst 0, 1) := by decide +kernel
theorem d_M_multiply_2 : decode b_M_multiply 2 = .ok (.putfield 16, 3) := by decide +kernel
theorem d_M_multiply_5 : decode b_M_multiply 5 = .ok (.aload_n 0, 1) := by decide +kernel
theorem d_M_multiply_6 : decode b_M_multiply 6 = .ok (.lconst 0, 1) := by decide +kernel
theorem d_M_multiply_7 : decode b_M_multiply 7 = .ok (.putfield 20, 3) := by decide +kernel
theorem d_M_multiply_10 : decode b_M_multiply 10 = .ok (.bipush 63, 2) := by decide +kernel
theorem d_M_multiply_12 : decode b_M_multiply 12 = .ok (.istore 5, 2) := by decide +kernel
theorem d_M_multiply_14 : decode b_M_multiply 14 = .ok (.iload 5, 2) := by decide +kernel
theorem d_M_multiply_16 : decode b_M_multiply 16 = .ok (.ifCond .lt 91, 3) := by decide +kernel
theorem d_M_multiply_19 : decode b_M_multiply 19 = .ok (.aload_n 0, 1) := by decide +kernel
theorem d_M_multiply_20 : decode b_M_multiply 20 = .ok (.aload_n 0, 1) := by decide +kernel
theorem d_M_multiply_21 : decode b_M_multiply 21 = .ok (.getfield 16, 3) := by decide +kernel
theorem d_M_multiply_24 : decode b_M_multiply 24 = .ok (.iconst 1, 1) := by decide +kernel
theorem d_M_multiply_25 : decode b_M_multiply 25 = .ok (.lshl, 1) := by decide +kernel
theorem d_M_multiply_26 : decode b_M_multiply 26 = .ok (.aload_n 0, 1) := by decide +kernel
theorem d_M_multiply_27 : decode b_M_multiply 27 = .ok (.getfield 20, 3) := by decide +kernel
theorem d_M_multiply_30 : decode b_M_multiply 30 = .ok (.bipush 63, 2) := by decide +kernel
theorem d_M_multiply_32 : decode b_M_multiply 32 = .ok (.lushr, 1) := by decide +kernel
theorem d_M_multiply_33 : decode b_M_multiply 33 = .ok (.lor, 1) := by decide +kernel
theorem d_M_multiply_34 : decode b_M_multiply 34 = .ok (.putfield 16, 3) := by decide +kernel
theorem d_M_multiply_37 : decode b_M_multiply 37 = .ok (.aload_n 0, 1) := by decide +kernel
theorem d_M_multiply_38 : decode b_M_multiply 38 = .ok (.aload_n 0, 1) := by decide +kernel
theorem d_M_multiply_39 : decode b_M_multiply 39 = .ok (.getfield 20, 3) := by decide +kernel
theorem d_M_multiply_42 : decode b_M_multiply 42 = .ok (.iconst 1, 1) := by decide +kernel
theorem d_M_multiply_43 : decode b_M_multiply 43 = .ok (.lshl, 1) := by decide +kernel
theorem d_M_multiply_44 : decode b_M_multiply 44 = .ok (.putfield 20, 3) := by decide +kernel
theorem d_M_multiply_47 : decode b_M_multiply 47 = .ok (.lload_n 3, 1) := by decide +kernel
theorem d_M_multiply_48 : decode b_M_multiply 48 = .ok (.iload 5, 2) := by decide +kernel
theorem d_M_multiply_50 : decode b_M_multiply 50 = .ok (.lushr, 1) := by decide +kernel
theorem d_M_multiply_51 : decode b_M_multiply 51 = .ok (.lconst 1, 1) := by decide +kernel
theorem d_M_multiply_52 : decode b_M_multiply 52 = .ok (.land, 1) := by decide +kernel
theorem d_M_multiply_53 : decode b_M_multiply 53 = .ok (.lconst 1, 1) := by decide +kernel
theorem d_M_multiply_54 : decode b_M_multiply 54 = .ok (.lcmp, 1) := by decide +kernel
theorem d_M_multiply_55 : decode b_M_multiply 55 = .ok (.ifCond .ne 46, 3) := by decide +kernel
theorem d_M_multiply_58 : decode b_M_multiply 58 = .ok (.aload_n 0, 1) := by decide +kernel
theorem d_M_multiply_59 : decode b_M_multiply 59 = .ok (.getfield 20, 3) := by decide +kernel
theorem d_M_multiply_62 : decode b_M_multiply 62 = .ok (.lload_n 1, 1) := by decide +kernel
theorem d_M_multiply_63 : decode b_M_multiply 63 = .ok (.ladd, 1) := by decide +kernel
theorem d_M_multiply_64 : decode b_M_multiply 64 = .ok (.lstore 6, 2) := by decide +kernel
theorem d_M_multiply_66 : decode b_M_multiply 66 = .ok (.aload_n 0, 1) := by decide +kernel
theorem d_M_multiply_67 : decode b_M_multiply 67 = .ok (.lload 6, 2) := by decide +kernel
theorem d_M_multiply_69 : decode b_M_multiply 69 = .ok (.aload_n 0, 1) := by decide +kernel
theorem d_M_multiply_70 : decode b_M_multiply 70 = .ok (.getfield 20, 3) := by decide +kernel
theorem d_M_multiply_73 : decode b_M_multiply 73 = .ok (.invokestatic 23, 3) := by decide +kernel
theorem d_M_multiply_76 : decode b_M_multiply 76 = .ok (.ifCond .eq 12, 3) := by decide +kernel
theorem d_M_multiply_79 : decode b_M_multiply 79 = .ok (.aload_n 0, 1) := by decide +kernel
theorem d_M_multiply_80 : decode b_M_multiply 80 = .ok (.getfield 16, 3) := by decide +kernel
theorem d_M_multiply_83 : decode b_M_multiply 83 = .ok (.lconst 1, 1) := by decide +kernel
theorem d_M_multiply_84 : decode b_M_multiply 84 = .ok (.ladd, 1) := by decide +kernel
theorem d_M_multiply_85 : decode b_M_multiply 85 = .ok (.goto 7, 3) := by decide +kernel
theorem d_M_multiply_88 : decode b_M_multiply 88 = .ok (.aload_n 0, 1) := by decide +kernel
theorem d_M_multiply_89 : decode b_M_multiply 89 = .ok (.getfield 16, 3) := by decide +kernel
theorem d_M_multiply_92 : decode b_M_multiply 92 = .ok (.putfield 16, 3) := by decide +kernel
theorem d_M_multiply_95 : decode b_M_multiply 95 = .ok (.aload_n 0, 1) := by decide +kernel
theorem d_M_multiply_96 : decode b_M_multiply 96 = .ok (.lload 6, 2) := by decide +kernel
theorem d_M_multiply_98 : decode b_M_multiply 98 = .ok (.putfield 20, 3) := by decide +kernel
theorem d_M_multiply_101 : decode b_M_multiply 101 = .ok (.iinc 5 (-1), 3) := by decide +kernel
theorem d_M_multiply_104 : decode b_M_multiply 104 = .ok (.goto (-90), 3) := by decide +kernel
theorem d_M_multiply_107 : decode b_M_multiply 107 = .ok (.return_, 1) := by decide +kernel
theorem d_M_nearest_0 : decode b_M_nearest 0 = .ok (.iload_n 0, 1) := by decide +kernel
theorem d_M_nearest_1 : decode b_M_nearest 1 = .ok (.iload_n 1, 1) := by decide +kernel
theorem d_M_nearest_2 : decode b_M_nearest 2 = .ok (.idiv, 1) := by decide +kernel
theorem d_M_nearest_3 : decode b_M_nearest 3 = .ok (.istore_n 2, 1) := by decide +kernel
theorem d_M_nearest_4 : decode b_M_nearest 4 = .ok (.iconst 2, 1) := by decide +kernel
theorem d_M_nearest_5 : decode b_M_nearest 5 = .ok (.iload_n 0, 1) := by decide +kernel
theorem d_M_nearest_6 : decode b_M_nearest 6 = .ok (.iload_n 1, 1) := by decide +kernel
theorem d_M_nearest_7 : decode b_M_nearest 7 = .ok (.irem, 1) := by decide +kernel
theorem d_M_nearest_8 : decode b_M_nearest 8 = .ok (.imul, 1) := by decide +kernel
theorem d_M_nearest_9 : decode b_M_nearest 9 = .ok (.iload_n 1, 1) := by decide +kernel
theorem d_M_nearest_10 : decode b_M_nearest 10 = .ok (.if_icmp .lt 9, 3) := by decide +kernel
theorem d_M_nearest_13 : decode b_M_nearest 13 = .ok (.iload_n 2, 1) := by decide +kernel
theorem d_M_nearest_14 : decode b_M_nearest 14 = .ok (.iconst 1, 1) := by decide +kernel
theorem d_M_nearest_15 : decode b_M_nearest 15 = .ok (.iadd, 1) := by decide +kernel
theorem d_M_nearest_16 : decode b_M_nearest 16 = .ok (.goto 4, 3) := by decide +kernel
theorem d_M_nearest_19 : decode b_M_nearest 19 = .ok (.iload_n 2, 1) := by decide +kernel
theorem d_M_nearest_20 : decode b_M_nearest 20 = .ok (.ireturn, 1) := by decide +kernel
theorem d_M_oneByRoot_0 : decode b_M_oneByRoot 0 = .ok (.aload_n 0, 1) := by decide +kernel
theorem d_M_oneByRoot_1 : decode b_M_oneByRoot 1 = .ok (.iconst 0, 1) := by decide +kernel
theorem d_M_oneByRoot_2 : decode b_M_oneByRoot 2 = .ok (.putfield 7, 3) := by decide +kernel
theorem d_M_oneByRoot_5 : decode b_M_oneByRoot 5 = .ok (.iload_n 1, 1) := by decide +kernel
theorem d_M_oneByRoot_6 : decode b_M_oneByRoot 6 = .ok (.ifCond .gt 6, 3) := by decide +kernel
theorem d_M_oneByRoot_9 : decode b_M_oneByRoot 9 = .ok (.ldc 42, 2) := by decide +kernel
theorem d_M_oneByRoot_11 : decode b_M_oneByRoot 11 = .ok (.ireturn, 1) := by decide +kernel
theorem d_M_oneByRoot_12 : decode b_M_oneByRoot 12 = .ok (.ldc2_w 52, 3) := by decide +kernel
theorem d_M_oneByRoot_15 : decode b_M_oneByRoot 15 = .ok (.iload_n 1, 1) := by decide +kernel
theorem d_M_oneByRoot_16 : decode b_M_oneByRoot 16 = .ok (.i2l, 1) := by decide +kernel
theorem d_M_oneByRoot_17 : decode b_M_oneByRoot 17 = .ok (.ldiv, 1) := by decide +kernel
theorem d_M_oneByRoot_18 : decode b_M_oneByRoot 18 = .ok (.lstore_n 2, 1) := by decide +kernel
theorem d_M_oneByRoot_19 : decode b_M_oneByRoot 19 = .ok (.lconst 0, 1) := by decide +kernel
theorem d_M_oneByRoot_20 : decode b_M_oneByRoot 20 = .ok (.lstore 4, 2) := by decide +kernel
theorem d_M_oneByRoot_22 : decode b_M_oneByRoot 22 = .ok (.ldc2_w 50, 3) := by decide +kernel
theorem d_M_oneByRoot_25 : decode b_M_oneByRoot 25 = .ok (.lstore 6, 2) := by decide +kernel
theorem d_M_oneByRoot_27 : decode b_M_oneByRoot 27 = .ok (.lload 6, 2) := by decide +kernel
theorem d_M_oneByRoot_29 : decode b_M_oneByRoot 29 = .ok (.lconst 0, 1) := by decide +kernel
theorem d_M_oneByRoot_30 : decode b_M_oneByRoot 30 = .ok (.lcmp, 1) := by decide +kernel
theorem d_M_oneByRoot_31 : decode b_M_oneByRoot 31 = .ok (.ifCond .le 40, 3) := by decide +kernel
theorem d_M_oneByRoot_34 : decode b_M_oneByRoot 34 = .ok (.lload 4, 2) := by decide +kernel
theorem d_M_oneByRoot_36 : decode b_M_oneByRoot 36 = .ok (.lload 6, 2) := by decide +kernel
theorem d_M_oneByRoot_38 : decode b_M_oneByRoot 38 = .ok (.ladd, 1) := by decide +kernel
theorem d_M_oneByRoot_39 : decode b_M_oneByRoot 39 = .ok (.lload 4, 2) := by decide +kernel
theorem d_M_oneByRoot_41 : decode b_M_oneByRoot 41 = .ok (.lload 6, 2) := by decide +kernel
theorem d_M_oneByRoot_43 : decode b_M_oneByRoot 43 = .ok (.ladd, 1) := by decide +kernel
theorem d_M_oneByRoot_44 : decode b_M_oneByRoot 44 = .ok (.lmul, 1) := by decide +kernel
theorem d_M_oneByRoot_45 : decode b_M_oneByRoot 45 = .ok (.lload_n 2, 1) := by decide +kernel
theorem d_M_oneByRoot_46 : decode b_M_oneByRoot 46 = .ok (.lcmp, 1) := by decide +kernel
theorem d_M_oneByRoot_47 : decode b_M_oneByRoot 47 = .ok (.ifCond .gt 11, 3) := by decide +kernel
theorem d_M_oneByRoot_50 : decode b_M_oneByRoot 50 = .ok (.lload 4, 2) := by decide +kernel
theorem d_M_oneByRoot_52 : decode b_M_oneByRoot 52 = .ok (.lload 6, 2) := by decide +kernel
theorem d_M_oneByRoot_54 : decode b_M_oneByRoot 54 = .ok (.ladd, 1) := by decide +kernel
theorem d_M_oneByRoot_55 : decode b_M_oneByRoot 55 = .ok (.goto 5, 3) := by decide +kernel
theorem d_M_oneByRoot_58 : decode b_M_oneByRoot 58 = .ok (.lload 4, 2) := by decide +kernel
theorem d_M_oneByRoot_60 : decode b_M_oneByRoot 60 = .ok (.lstore 4, 2) := by decide +kernel
theorem d_M_oneByRoot_62 : decode b_M_oneByRoot 62 = .ok (.lload 6, 2) := by decide +kernel
theorem d_M_oneByRoot_64 : decode b_M_oneByRoot 64 = .ok (.iconst 1, 1) := by decide +kernel
theorem d_M_oneByRoot_65 : decode b_M_oneByRoot 65 = .ok (.lshr, 1) := by decide +kernel
theorem d_M_oneByRoot_66 : decode b_M_oneByRoot 66 = .ok (.lstore 6, 2) := by decide +kernel
theorem d_M_oneByRoot_68 : decode b_M_oneByRoot 68 = .ok (.goto (-41), 3) := by decide +kernel
theorem d_M_oneByRoot_71 : decode b_M_oneByRoot 71 = .ok (.lload 4, 2) := by decide +kernel
theorem d_M_oneByRoot_73 : decode b_M_oneByRoot 73 = .ok (.l2i, 1) := by decide +kernel
theorem d_M_oneByRoot_74 : decode b_M_oneByRoot 74 = .ok (.ireturn, 1) := by decide +kernel
theorem d_M_product_0 : decode b_M_product 0 = .ok (.aload_n 0, 1) := by decide +kernel
theorem d_M_product_1 : decode b_M_product 1 = .ok (.iconst 0, 1) := by decide +kernel
theorem d_M_product_2 : decode b_M_product 2 = .ok (.putfield 7, 3) := by decide +kernel
theorem d_M_product_5 : decode b_M_product 5 = .ok (.iload_n 1, 1) := by decide +kernel
theorem d_M_product_6 : decode b_M_product 6 = .ok (.bipush 16, 2) := by decide +kernel
theorem d_M_product_8 : decode b_M_product 8 = .ok (.ishr, 1) := by decide +kernel
theorem d_M_product_9 : decode b_M_product 9 = .ok (.istore_n 3, 1) := by decide +kernel
theorem d_M_product_10 : decode b_M_product 10 = .ok (.iload_n 1, 1) := by decide +kernel
theorem d_M_product_11 : decode b_M_product 11 = .ok (.ldc 13, 2) := by decide +kernel
theorem d_M_product_13 : decode b_M_product 13 = .ok (.iand, 1) := by decide +kernel
theorem d_M_product_14 : decode b_M_product 14 = .ok (.istore 4, 2) := by decide +kernel
theorem d_M_product_16 : decode b_M_product 16 = .ok (.iload_n 2, 1) := by decide +kernel
theorem d_M_product_17 : decode b_M_product 17 = .ok (.bipush 16, 2) := by decide +kernel
theorem d_M_product_19 : decode b_M_product 19 = .ok (.ishr, 1) := by decide +kernel
theorem d_M_product_20 : decode b_M_product 20 = .ok (.istore 5, 2) := by decide +kernel
theorem d_M_product_22 : decode b_M_product 22 = .ok (.iload_n 2, 1) := by decide +kernel
theorem d_M_product_23 : decode b_M_product 23 = .ok (.ldc 13, 2) := by decide +kernel
theorem d_M_product_25 : decode b_M_product 25 = .ok (.iand, 1) := by decide +kernel
theorem d_M_product_26 : decode b_M_product 26 = .ok (.istore 6, 2) := by decide +kernel
theorem d_M_product_28 : decode b_M_product 28 = .ok (.iload_n 3, 1) := by decide +kernel
theorem d_M_product_29 : decode b_M_product 29 = .ok (.iload 5, 2) := by decide +kernel
theorem d_M_product_31 : decode b_M_product 31 = .ok (.imul, 1) := by decide +kernel
theorem d_M_product_32 : decode b_M_product 32 = .ok (.bipush 16, 2) := by decide +kernel
theorem d_M_product_34 : decode b_M_product 34 = .ok (.ishl, 1) := by decide +kernel
theorem d_M_product_35 : decode b_M_product 35 = .ok (.iload_n 3, 1) := by decide +kernel
theorem d_M_product_36 : decode b_M_product 36 = .ok (.iload 6, 2) := by decide +kernel
theorem d_M_product_38 : decode b_M_product 38 = .ok (.imul, 1) := by decide +kernel
theorem d_M_product_39 : decode b_M_product 39 = .ok (.iadd, 1) := by decide +kernel
theorem d_M_product_40 : decode b_M_product 40 = .ok (.iload 4, 2) := by decide +kernel
theorem d_M_product_42 : decode b_M_product 42 = .ok (.iload 5, 2) := by decide +kernel
theorem d_M_product_44 : decode b_M_product 44 = .ok (.imul, 1) := by decide +kernel
theorem d_M_product_45 : decode b_M_product 45 = .ok (.iadd, 1) := by decide +kernel
theorem d_M_product_46 : decode b_M_product 46 = .ok (.iload 4, 2) := by decide +kernel
theorem d_M_product_48 : decode b_M_product 48 = .ok (.iload 6, 2) := by decide +kernel
theorem d_M_product_50 : decode b_M_product 50 = .ok (.imul, 1) := by decide +kernel
theorem d_M_product_51 : decode b_M_product 51 = .ok (.bipush 16, 2) := by decide +kernel
theorem d_M_product_53 : decode b_M_product 53 = .ok (.iushr, 1) := by decide +kernel
theorem d_M_product_54 : decode b_M_product 54 = .ok (.iadd, 1) := by decide +kernel
theorem d_M_product_55 : decode b_M_product 55 = .ok (.ireturn, 1) := by decide +kernel
theorem d_M_quotient_0 : decode b_M_quotient 0 = .ok (.aload_n 0, 1) := by decide +kernel
theorem d_M_quotient_1 : decode b_M_quotient 1 = .ok (.iconst 0, 1) := by decide +kernel
theorem d_M_quotient_2 : decode b_M_quotient 2 = .ok (.putfield 7, 3) := by decide +kernel
theorem d_M_quotient_5 : decode b_M_quotient 5 = .ok (.iload_n 2, 1) := by decide +kernel
theorem d_M_quotient_6 : decode b_M_quotient 6 = .ok (.ifCond .ne 23, 3) := by decide +kernel
theorem d_M_quotient_9 : decode b_M_quotient 9 = .ok (.iload_n 1, 1) := by decide +kernel
theorem d_M_quotient_10 : decode b_M_quotient 10 = .ok (.ifCond .le 8, 3) := by decide +kernel
theorem d_M_quotient_13 : decode b_M_quotient 13 = .ok (.ldc 42, 2) := by decide +kernel
theorem d_M_quotient_15 : decode b_M_quotient 15 = .ok (.goto 13, 3) := by decide +kernel
theorem d_M_quotient_18 : decode b_M_quotient 18 = .ok (.iload_n 1, 1) := by decide +kernel
theorem d_M_quotient_19 : decode b_M_quotient 19 = .ok (.ifCond .ge 8, 3) := by decide +kernel
theorem d_M_quotient_22 : decode b_M_quotient 22 = .ok (.ldc 43, 2) := by decide +kernel
theorem d_M_quotient_24 : decode b_M_quotient 24 = .ok (.goto 4, 3) := by decide +kernel
theorem d_M_quotient_27 : decode b_M_quotient 27 = .ok (.iconst 0, 1) := by decide +kernel
theorem d_M_quotient_28 : decode b_M_quotient 28 = .ok (.ireturn, 1) := by decide +kernel
theorem d_M_quotient_29 : decode b_M_quotient 29 = .ok (.iload_n 1, 1) := by decide +kernel
theorem d_M_quotient_30 : decode b_M_quotient 30 = .ok (.i2l, 1) := by decide +kernel
theorem d_M_quotient_31 : decode b_M_quotient 31 = .ok (.invokestatic 30, 3) := by decide +kernel
theorem d_M_quotient_34 : decode b_M_quotient 34 = .ok (.lstore_n 3, 1) := by decide +kernel
theorem d_M_quotient_35 : decode b_M_quotient 35 = .ok (.iload_n 2, 1) := by decide +kernel
theorem d_M_quotient_36 : decode b_M_quotient 36 = .ok (.i2l, 1) := by decide +kernel
theorem d_M_quotient_37 : decode b_M_quotient 37 = .ok (.invokestatic 30, 3) := by decide +kernel
theorem d_M_quotient_40 : decode b_M_quotient 40 = .ok (.lstore 5, 2) := by decide +kernel
theorem d_M_quotient_42 : decode b_M_quotient 42 = .ok (.lconst 0, 1) := by decide +kernel
theorem d_M_quotient_43 : decode b_M_quotient 43 = .ok (.lstore 7, 2) := by decide +kernel
theorem d_M_quotient_45 : decode b_M_quotient 45 = .ok (.lconst 0, 1) := by decide +kernel
theorem d_M_quotient_46 : decode b_M_quotient 46 = .ok (.lstore 9, 2) := by decide +kernel
theorem d_M_quotient_48 : decode b_M_quotient 48 = .ok (.bipush 47, 2) := by decide +kernel
theorem d_M_quotient_50 : decode b_M_quotient 50 = .ok (.istore 11, 2) := by decide +kernel
theorem d_M_quotient_52 : decode b_M_quotient 52 = .ok (.iload 11, 2) := by decide +kernel
theorem d_M_quotient_54 : decode b_M_quotient 54 = .ok (.ifCond .lt 63, 3) := by decide +kernel
theorem d_M_quotient_57 : decode b_M_quotient 57 = .ok (.lload 9, 2) := by decide +kernel
theorem d_M_quotient_59 : decode b_M_quotient 59 = .ok (.iconst 1, 1) := by decide +kernel
theorem d_M_quotient_60 : decode b_M_quotient 60 = .ok (.lshl, 1) := by decide +kernel
theorem d_M_quotient_61 : decode b_M_quotient 61 = .ok (.iload 11, 2) := by decide +kernel
theorem d_M_quotient_63 : decode b_M_quotient 63 = .ok (.bipush 15, 2) := by decide +kernel
theorem d_M_quotient_65 : decode b_M_quotient 65 = .ok (.if_icmp .le 15, 3) := by decide +kernel
theorem d_M_quotient_68 : decode b_M_quotient 68 = .ok (.lload_n 3, 1) := by decide +kernel
theorem d_M_quotient_69 : decode b_M_quotient 69 = .ok (.iload 11, 2) := by decide +kernel
theorem d_M_quotient_71 : decode b_M_quotient 71 = .ok (.bipush 16, 2) := by decide +kernel
theorem d_M_quotient_73 : decode b_M_quotient 73 = .ok (.isub, 1) := by decide +kernel
theorem d_M_quotient_74 : decode b_M_quotient 74 = .ok (.lshr, 1) := by decide +kernel
theorem d_M_quotient_75 : decode b_M_quotient 75 = .ok (.lconst 1, 1) := by decide +kernel
theorem d_M_quotient_76 : decode b_M_quotient 76 = .ok (.land, 1) := by decide +kernel
theorem d_M_quotient_77 : decode b_M_quotient 77 = .ok (.goto 4, 3) := by decide +kernel
theorem d_M_quotient_80 : decode b_M_quotient 80 = .ok (.lconst 0, 1) := by decide +kernel
theorem d_M_quotient_81 : decode b_M_quotient 81 = .ok (.lor, 1) := by decide +kernel
theorem d_M_quotient_82 : decode b_M_quotient 82 = .ok (.lstore 9, 2) := by decide +kernel
theorem d_M_quotient_84 : decode b_M_quotient 84 = .ok (.lload 7, 2) := by decide +kernel
theorem d_M_quotient_86 : decode b_M_quotient 86 = .ok (.iconst 1, 1) := by decide +kernel
theorem d_M_quotient_87 : decode b_M_quotient 87 = .ok (.lshl, 1) := by decide +kernel
theorem d_M_quotient_88 : decode b_M_quotient 88 = .ok (.lstore 7, 2) := by decide +kernel
theorem d_M_quotient_90 : decode b_M_quotient 90 = .ok (.lload 9, 2) := by decide +kernel
theorem d_M_quotient_92 : decode b_M_quotient 92 = .ok (.lload 5, 2) := by decide +kernel
theorem d_M_quotient_94 : decode b_M_quotient 94 = .ok (.lcmp, 1) := by decide +kernel
theorem d_M_quotient_95 : decode b_M_quotient 95 = .ok (.ifCond .lt 16, 3) := by decide +kernel
theorem d_M_quotient_98 : decode b_M_quotient 98 = .ok (.lload 9, 2) := by decide +kernel
theorem d_M_quotient_100 : decode b_M_quotient 100 = .ok (.lload 5, 2) := by decide +kernel
theorem d_M_quotient_102 : decode b_M_quotient 102 = .ok (.lsub, 1) := by decide +kernel
theorem d_M_quotient_103 : decode b_M_quotient 103 = .ok (.lstore 9, 2) := by decide +kernel
theorem d_M_quotient_105 : decode b_M_quotient 105 = .ok (.lload 7, 2) := by decide +kernel
theorem d_M_quotient_107 : decode b_M_quotient 107 = .ok (.lconst 1, 1) := by decide +kernel
theorem d_M_quotient_108 : decode b_M_quotient 108 = .ok (.lor, 1) := by decide +kernel
theorem d_M_quotient_109 : decode b_M_quotient 109 = .ok (.lstore 7, 2) := by decide +kernel
theorem d_M_quotient_111 : decode b_M_quotient 111 = .ok (.iinc 11 (-1), 3) := by decide +kernel
theorem d_M_quotient_114 : decode b_M_quotient 114 = .ok (.goto (-62), 3) := by decide +kernel
theorem d_M_quotient_117 : decode b_M_quotient 117 = .ok (.iload_n 1, 1) := by decide +kernel
theorem d_M_quotient_118 : decode b_M_quotient 118 = .ok (.ifCond .ge 7, 3) := by decide +kernel
theorem d_M_quotient_121 : decode b_M_quotient 121 = .ok (.iconst 1, 1) := by decide +kernel
theorem d_M_quotient_122 : decode b_M_quotient 122 = .ok (.goto 4, 3) := by decide +kernel
theorem d_M_quotient_125 : decode b_M_quotient 125 = .ok (.iconst 0, 1) := by decide +kernel
theorem d_M_quotient_126 : decode b_M_quotient 126 = .ok (.iload_n 2, 1) := by decide +kernel
theorem d_M_quotient_127 : decode b_M_quotient 127 = .ok (.ifCond .ge 7, 3) := by decide +kernel
theorem d_M_quotient_130 : decode b_M_quotient 130 = .ok (.iconst 1, 1) := by decide +kernel
theorem d_M_quotient_131 : decode b_M_quotient 131 = .ok (.goto 4, 3) := by decide +kernel
theorem d_M_quotient_134 : decode b_M_quotient 134 = .ok (.iconst 0, 1) := by decide +kernel
theorem d_M_quotient_135 : decode b_M_quotient 135 = .ok (.if_icmp .eq 27, 3) := by decide +kernel
theorem d_M_quotient_138 : decode b_M_quotient 138 = .ok (.iload_n 1, 1) := by decide +kernel
theorem d_M_quotient_139 : decode b_M_quotient 139 = .ok (.ifCond .eq 23, 3) := by decide +kernel
theorem d_M_quotient_142 : decode b_M_quotient 142 = .ok (.lload 9, 2) := by decide +kernel
theorem d_M_quotient_144 : decode b_M_quotient 144 = .ok (.lconst 0, 1) := by decide +kernel
theorem d_M_quotient_145 : decode b_M_quotient 145 = .ok (.lcmp, 1) := by decide +kernel
theorem d_M_quotient_146 : decode b_M_quotient 146 = .ok (.ifCond .le 11, 3) := by decide +kernel
theorem d_M_quotient_149 : decode b_M_quotient 149 = .ok (.lload 7, 2) := by decide +kernel
theorem d_M_quotient_151 : decode b_M_quotient 151 = .ok (.lneg, 1) := by decide +kernel
theorem d_M_quotient_152 : decode b_M_quotient 152 = .ok (.lconst 1, 1) := by decide +kernel
theorem d_M_quotient_153 : decode b_M_quotient 153 = .ok (.lsub, 1) := by decide +kernel
theorem d_M_quotient_154 : decode b_M_quotient 154 = .ok (.goto 6, 3) := by decide +kernel
theorem d_M_quotient_157 : decode b_M_quotient 157 = .ok (.lload 7, 2) := by decide +kernel
theorem d_M_quotient_159 : decode b_M_quotient 159 = .ok (.lneg, 1) := by decide +kernel
theorem d_M_quotient_160 : decode b_M_quotient 160 = .ok (.lstore 7, 2) := by decide +kernel
theorem d_M_quotient_162 : decode b_M_quotient 162 = .ok (.lload 7, 2) := by decide +kernel
theorem d_M_quotient_164 : decode b_M_quotient 164 = .ok (.ldc2_w 44, 3) := by decide +kernel
theorem d_M_quotient_167 : decode b_M_quotient 167 = .ok (.lcmp, 1) := by decide +kernel
theorem d_M_quotient_168 : decode b_M_quotient 168 = .ok (.ifCond .le 8, 3) := by decide +kernel
theorem d_M_quotient_171 : decode b_M_quotient 171 = .ok (.ldc 42, 2) := by decide +kernel
theorem d_M_quotient_173 : decode b_M_quotient 173 = .ok (.goto 20, 3) := by decide +kernel
theorem d_M_quotient_176 : decode b_M_quotient 176 = .ok (.lload 7, 2) := by decide +kernel
theorem d_M_quotient_178 : decode b_M_quotient 178 = .ok (.ldc2_w 46, 3) := by decide +kernel
theorem d_M_quotient_181 : decode b_M_quotient 181 = .ok (.lcmp, 1) := by decide +kernel
theorem d_M_quotient_182 : decode b_M_quotient 182 = .ok (.ifCond .ge 8, 3) := by decide +kernel
theorem d_M_quotient_185 : decode b_M_quotient 185 = .ok (.ldc 43, 2) := by decide +kernel
theorem d_M_quotient_187 : decode b_M_quotient 187 = .ok (.goto 6, 3) := by decide +kernel
theorem d_M_quotient_190 : decode b_M_quotient 190 = .ok (.lload 7, 2) := by decide +kernel
theorem d_M_quotient_192 : decode b_M_quotient 192 = .ok (.l2i, 1) := by decide +kernel
theorem d_M_quotient_193 : decode b_M_quotient 193 = .ok (.ireturn, 1) := by decide +kernel
theorem d_M_ratio_0 : decode b_M_ratio 0 = .ok (.aload_n 0, 1) := by decide +kernel
theorem d_M_ratio_1 : decode b_M_ratio 1 = .ok (.iconst 1, 1) := by decide +kernel
theorem d_M_ratio_2 : decode b_M_ratio 2 = .ok (.putfield 7, 3) := by decide +kernel
theorem d_M_ratio_5 : decode b_M_ratio 5 = .ok (.lload 5, 2) := by decide +kernel
theorem d_M_ratio_7 : decode b_M_ratio 7 = .ok (.lconst 0, 1) := by decide +kernel
theorem d_M_ratio_8 : decode b_M_ratio 8 = .ok (.lcmp, 1) := by decide +kernel
theorem d_M_ratio_9 : decode b_M_ratio 9 = .ok (.ifCond .ne 5, 3) := by decide +kernel
theorem d_M_ratio_12 : decode b_M_ratio 12 = .ok (.lconst 0, 1) := by decide +kernel
theorem d_M_ratio_13 : decode b_M_ratio 13 = .ok (.lreturn, 1) := by decide +kernel
theorem d_M_ratio_14 : decode b_M_ratio 14 = .ok (.aload_n 0, 1) := by decide +kernel
theorem d_M_ratio_15 : decode b_M_ratio 15 = .ok (.lload_n 1, 1) := by decide +kernel
theorem d_M_ratio_16 : decode b_M_ratio 16 = .ok (.lload_n 3, 1) := by decide +kernel
theorem d_M_ratio_17 : decode b_M_ratio 17 = .ok (.lload 5, 2) := by decide +kernel
theorem d_M_ratio_19 : decode b_M_ratio 19 = .ok (.invokevirtual 54, 3) := by decide +kernel
theorem d_M_ratio_22 : decode b_M_ratio 22 = .ok (.lstore 7, 2) := by decide +kernel
theorem d_M_ratio_24 : decode b_M_ratio 24 = .ok (.aload_n 0, 1) := by decide +kernel
theorem d_M_ratio_25 : decode b_M_ratio 25 = .ok (.aload_n 0, 1) := by decide +kernel
theorem d_M_ratio_26 : decode b_M_ratio 26 = .ok (.getfield 27, 3) := by decide +kernel
theorem d_M_ratio_29 : decode b_M_ratio 29 = .ok (.lconst 0, 1) := by decide +kernel
theorem d_M_ratio_30 : decode b_M_ratio 30 = .ok (.lcmp, 1) := by decide +kernel
theorem d_M_ratio_31 : decode b_M_ratio 31 = .ok (.ifCond .ne 7, 3) := by decide +kernel
theorem d_M_ratio_34 : decode b_M_ratio 34 = .ok (.iconst 0, 1) := by decide +kernel
theorem d_M_ratio_35 : decode b_M_ratio 35 = .ok (.goto 4, 3) := by decide +kernel
theorem d_M_ratio_38 : decode b_M_ratio 38 = .ok (.iconst 1, 1) := by decide +kernel
theorem d_M_ratio_39 : decode b_M_ratio 39 = .ok (.putfield 7, 3) := by decide +kernel
theorem d_M_ratio_42 : decode b_M_ratio 42 = .ok (.aload_n 0, 1) := by decide +kernel
theorem d_M_ratio_43 : decode b_M_ratio 43 = .ok (.getfield 27, 3) := by decide +kernel
theorem d_M_ratio_46 : decode b_M_ratio 46 = .ok (.lconst 0, 1) := by decide +kernel
theorem d_M_ratio_47 : decode b_M_ratio 47 = .ok (.lcmp, 1) := by decide +kernel
theorem d_M_ratio_48 : decode b_M_ratio 48 = .ok (.ifCond .ne 8, 3) := by decide +kernel
theorem d_M_ratio_51 : decode b_M_ratio 51 = .ok (.lload 7, 2) := by decide +kernel
theorem d_M_ratio_53 : decode b_M_ratio 53 = .ok (.goto 4, 3) := by decide +kernel
theorem d_M_ratio_56 : decode b_M_ratio 56 = .ok (.lconst 0, 1) := by decide +kernel
theorem d_M_ratio_57 : decode b_M_ratio 57 = .ok (.lreturn, 1) := by decide +kernel
theorem d_M_root_0 : decode b_M_root 0 = .ok (.aload_n 0, 1) := by decide +kernel
theorem d_M_root_1 : decode b_M_root 1 = .ok (.iconst 0, 1) := by decide +kernel
theorem d_M_root_2 : decode b_M_root 2 = .ok (.putfield 7, 3) := by decide +kernel
theorem d_M_root_5 : decode b_M_root 5 = .ok (.iload_n 1, 1) := by decide +kernel
theorem d_M_root_6 : decode b_M_root 6 = .ok (.ifCond .ge 7, 3) := by decide +kernel
theorem d_M_root_9 : decode b_M_root 9 = .ok (.lconst 0, 1) := by decide +kernel
theorem d_M_root_10 : decode b_M_root 10 = .ok (.goto 9, 3) := by decide +kernel
theorem d_M_root_13 : decode b_M_root 13 = .ok (.ldc2_w 48, 3) := by decide +kernel
theorem d_M_root_16 : decode b_M_root 16 = .ok (.iload_n 1, 1) := by decide +kernel
theorem d_M_root_17 : decode b_M_root 17 = .ok (.i2l, 1) := by decide +kernel
theorem d_M_root_18 : decode b_M_root 18 = .ok (.lmul, 1) := by decide +kernel
theorem d_M_root_19 : decode b_M_root 19 = .ok (.lstore_n 2, 1) := by decide +kernel
theorem d_M_root_20 : decode b_M_root 20 = .ok (.lconst 0, 1) := by decide +kernel
theorem d_M_root_21 : decode b_M_root 21 = .ok (.lstore 4, 2) := by decide +kernel
theorem d_M_root_23 : decode b_M_root 23 = .ok (.ldc2_w 50, 3) := by decide +kernel
theorem d_M_root_26 : decode b_M_root 26 = .ok (.lstore 6, 2) := by decide +kernel
theorem d_M_root_28 : decode b_M_root 28 = .ok (.lload 6, 2) := by decide +kernel
theorem d_M_root_30 : decode b_M_root 30 = .ok (.lconst 0, 1) := by decide +kernel
theorem d_M_root_31 : decode b_M_root 31 = .ok (.lcmp, 1) := by decide +kernel
theorem d_M_root_32 : decode b_M_root 32 = .ok (.ifCond .le 40, 3) := by decide +kernel
theorem d_M_root_35 : decode b_M_root 35 = .ok (.lload 4, 2) := by decide +kernel
theorem d_M_root_37 : decode b_M_root 37 = .ok (.lload 6, 2) := by decide +kernel
theorem d_M_root_39 : decode b_M_root 39 = .ok (.ladd, 1) := by decide +kernel
theorem d_M_root_40 : decode b_M_root 40 = .ok (.lload 4, 2) := by decide +kernel
theorem d_M_root_42 : decode b_M_root 42 = .ok (.lload 6, 2) := by decide +kernel
theorem d_M_root_44 : decode b_M_root 44 = .ok (.ladd, 1) := by decide +kernel
theorem d_M_root_45 : decode b_M_root 45 = .ok (.lmul, 1) := by decide +kernel
theorem d_M_root_46 : decode b_M_root 46 = .ok (.lload_n 2, 1) := by decide +kernel
theorem d_M_root_47 : decode b_M_root 47 = .ok (.lcmp, 1) := by decide +kernel
theorem d_M_root_48 : decode b_M_root 48 = .ok (.ifCond .gt 11, 3) := by decide +kernel
theorem d_M_root_51 : decode b_M_root 51 = .ok (.lload 4, 2) := by decide +kernel
theorem d_M_root_53 : decode b_M_root 53 = .ok (.lload 6, 2) := by decide +kernel
theorem d_M_root_55 : decode b_M_root 55 = .ok (.ladd, 1) := by decide +kernel
theorem d_M_root_56 : decode b_M_root 56 = .ok (.goto 5, 3) := by decide +kernel
theorem d_M_root_59 : decode b_M_root 59 = .ok (.lload 4, 2) := by decide +kernel
theorem d_M_root_61 : decode b_M_root 61 = .ok (.lstore 4, 2) := by decide +kernel
theorem d_M_root_63 : decode b_M_root 63 = .ok (.lload 6, 2) := by decide +kernel
theorem d_M_root_65 : decode b_M_root 65 = .ok (.iconst 1, 1) := by decide +kernel
theorem d_M_root_66 : decode b_M_root 66 = .ok (.lshr, 1) := by decide +kernel
theorem d_M_root_67 : decode b_M_root 67 = .ok (.lstore 6, 2) := by decide +kernel
theorem d_M_root_69 : decode b_M_root 69 = .ok (.goto (-41), 3) := by decide +kernel
theorem d_M_root_72 : decode b_M_root 72 = .ok (.lload 4, 2) := by decide +kernel
theorem d_M_root_74 : decode b_M_root 74 = .ok (.l2i, 1) := by decide +kernel
theorem d_M_root_75 : decode b_M_root 75 = .ok (.ireturn, 1) := by decide +kernel
theorem d_M_scaled_0 : decode b_M_scaled 0 = .ok (.iload_n 0, 1) := by decide +kernel
theorem d_M_scaled_1 : decode b_M_scaled 1 = .ok (.bipush 10, 2) := by decide +kernel
theorem d_M_scaled_3 : decode b_M_scaled 3 = .ok (.ishr, 1) := by decide +kernel
theorem d_M_scaled_4 : decode b_M_scaled 4 = .ok (.bipush 31, 2) := by decide +kernel
theorem d_M_scaled_6 : decode b_M_scaled 6 = .ok (.iand, 1) := by decide +kernel
theorem d_M_scaled_7 : decode b_M_scaled 7 = .ok (.istore_n 1, 1) := by decide +kernel
theorem d_M_scaled_8 : decode b_M_scaled 8 = .ok (.iload_n 0, 1) := by decide +kernel
theorem d_M_scaled_9 : decode b_M_scaled 9 = .ok (.sipush 1023, 3) := by decide +kernel
theorem d_M_scaled_12 : decode b_M_scaled 12 = .ok (.iand, 1) := by decide +kernel
theorem d_M_scaled_13 : decode b_M_scaled 13 = .ok (.i2l, 1) := by decide +kernel
theorem d_M_scaled_14 : decode b_M_scaled 14 = .ok (.lstore_n 2, 1) := by decide +kernel
theorem d_M_scaled_15 : decode b_M_scaled 15 = .ok (.iload_n 1, 1) := by decide +kernel
theorem d_M_scaled_16 : decode b_M_scaled 16 = .ok (.ifCond .ne 7, 3) := by decide +kernel
theorem d_M_scaled_19 : decode b_M_scaled 19 = .ok (.lload_n 2, 1) := by decide +kernel
theorem d_M_scaled_20 : decode b_M_scaled 20 = .ok (.goto 12, 3) := by decide +kernel
theorem d_M_scaled_23 : decode b_M_scaled 23 = .ok (.ldc2_w 63, 3) := by decide +kernel
theorem d_M_scaled_26 : decode b_M_scaled 26 = .ok (.lload_n 2, 1) := by decide +kernel
theorem d_M_scaled_27 : decode b_M_scaled 27 = .ok (.ladd, 1) := by decide +kernel
theorem d_M_scaled_28 : decode b_M_scaled 28 = .ok (.iload_n 1, 1) := by decide +kernel
theorem d_M_scaled_29 : decode b_M_scaled 29 = .ok (.iconst 1, 1) := by decide +kernel
theorem d_M_scaled_30 : decode b_M_scaled 30 = .ok (.isub, 1) := by decide +kernel
theorem d_M_scaled_31 : decode b_M_scaled 31 = .ok (.lshl, 1) := by decide +kernel
theorem d_M_scaled_32 : decode b_M_scaled 32 = .ok (.lreturn, 1) := by decide +kernel
theorem d_M_shade_0 : decode b_M_shade 0 = .ok (.aload_n 0, 1) := by decide +kernel
theorem d_M_shade_1 : decode b_M_shade 1 = .ok (.iload_n 1, 1) := by decide +kernel
theorem d_M_shade_2 : decode b_M_shade 2 = .ok (.ifCond .lt 21, 3) := by decide +kernel
theorem d_M_shade_5 : decode b_M_shade 5 = .ok (.iload_n 1, 1) := by decide +kernel
theorem d_M_shade_6 : decode b_M_shade 6 = .ok (.sipush 255, 3) := by decide +kernel
theorem d_M_shade_9 : decode b_M_shade 9 = .ok (.if_icmp .gt 14, 3) := by decide +kernel
theorem d_M_shade_12 : decode b_M_shade 12 = .ok (.iload_n 2, 1) := by decide +kernel
theorem d_M_shade_13 : decode b_M_shade 13 = .ok (.ifCond .lt 10, 3) := by decide +kernel
theorem d_M_shade_16 : decode b_M_shade 16 = .ok (.iload_n 2, 1) := by decide +kernel
theorem d_M_shade_17 : decode b_M_shade 17 = .ok (.sipush 255, 3) := by decide +kernel
theorem d_M_shade_20 : decode b_M_shade 20 = .ok (.if_icmp .le 7, 3) := by decide +kernel
theorem d_M_shade_23 : decode b_M_shade 23 = .ok (.iconst 1, 1) := by decide +kernel
theorem d_M_shade_24 : decode b_M_shade 24 = .ok (.goto 4, 3) := by decide +kernel
theorem d_M_shade_27 : decode b_M_shade 27 = .ok (.iconst 0, 1) := by decide +kernel
theorem d_M_shade_28 : decode b_M_shade 28 = .ok (.putfield 7, 3) := by decide +kernel
theorem d_M_shade_31 : decode b_M_shade 31 = .ok (.aload_n 0, 1) := by decide +kernel
theorem d_M_shade_32 : decode b_M_shade 32 = .ok (.getfield 7, 3) := by decide +kernel
theorem d_M_shade_35 : decode b_M_shade 35 = .ok (.ifCond .le 7, 3) := by decide +kernel
theorem d_M_shade_38 : decode b_M_shade 38 = .ok (.iconst 0, 1) := by decide +kernel
theorem d_M_shade_39 : decode b_M_shade 39 = .ok (.goto 12, 3) := by decide +kernel
theorem d_M_shade_42 : decode b_M_shade 42 = .ok (.iload_n 1, 1) := by decide +kernel
theorem d_M_shade_43 : decode b_M_shade 43 = .ok (.iload_n 2, 1) := by decide +kernel
theorem d_M_shade_44 : decode b_M_shade 44 = .ok (.imul, 1) := by decide +kernel
theorem d_M_shade_45 : decode b_M_shade 45 = .ok (.sipush 255, 3) := by decide +kernel
theorem d_M_shade_48 : decode b_M_shade 48 = .ok (.invokestatic 59, 3) := by decide +kernel
theorem d_M_shade_51 : decode b_M_shade 51 = .ok (.ireturn, 1) := by decide +kernel
theorem d_M_size_0 : decode b_M_size 0 = .ok (.lload_n 0, 1) := by decide +kernel
theorem d_M_size_1 : decode b_M_size 1 = .ok (.lconst 0, 1) := by decide +kernel
theorem d_M_size_2 : decode b_M_size 2 = .ok (.lcmp, 1) := by decide +kernel
theorem d_M_size_3 : decode b_M_size 3 = .ok (.ifCond .ge 8, 3) := by decide +kernel
theorem d_M_size_6 : decode b_M_size 6 = .ok (.lload_n 0, 1) := by decide +kernel
theorem d_M_size_7 : decode b_M_size 7 = .ok (.lneg, 1) := by decide +kernel
theorem d_M_size_8 : decode b_M_size 8 = .ok (.goto 4, 3) := by decide +kernel
theorem d_M_size_11 : decode b_M_size 11 = .ok (.lload_n 0, 1) := by decide +kernel
theorem d_M_size_12 : decode b_M_size 12 = .ok (.lreturn, 1) := by decide +kernel
theorem d_M_thrown_0 : decode b_M_thrown 0 = .ok (.aload_n 0, 1) := by decide +kernel
theorem d_M_thrown_1 : decode b_M_thrown 1 = .ok (.getfield 7, 3) := by decide +kernel
theorem d_M_thrown_4 : decode b_M_thrown 4 = .ok (.ireturn, 1) := by decide +kernel
theorem d_M_toHalf_0 : decode b_M_toHalf 0 = .ok (.aload_n 0, 1) := by decide +kernel
theorem d_M_toHalf_1 : decode b_M_toHalf 1 = .ok (.iconst 0, 1) := by decide +kernel
theorem d_M_toHalf_2 : decode b_M_toHalf 2 = .ok (.putfield 7, 3) := by decide +kernel
theorem d_M_toHalf_5 : decode b_M_toHalf 5 = .ok (.iload_n 1, 1) := by decide +kernel
theorem d_M_toHalf_6 : decode b_M_toHalf 6 = .ok (.i2l, 1) := by decide +kernel
theorem d_M_toHalf_7 : decode b_M_toHalf 7 = .ok (.invokestatic 30, 3) := by decide +kernel
theorem d_M_toHalf_10 : decode b_M_toHalf 10 = .ok (.bipush 8, 2) := by decide +kernel
theorem d_M_toHalf_12 : decode b_M_toHalf 12 = .ok (.lshl, 1) := by decide +kernel
theorem d_M_toHalf_13 : decode b_M_toHalf 13 = .ok (.lstore_n 2, 1) := by decide +kernel
theorem d_M_toHalf_14 : decode b_M_toHalf 14 = .ok (.iconst 0, 1) := by decide +kernel
theorem d_M_toHalf_15 : decode b_M_toHalf 15 = .ok (.istore 4, 2) := by decide +kernel
theorem d_M_toHalf_17 : decode b_M_toHalf 17 = .ok (.sipush 31744, 3) := by decide +kernel
theorem d_M_toHalf_20 : decode b_M_toHalf 20 = .ok (.istore 5, 2) := by decide +kernel
theorem d_M_toHalf_22 : decode b_M_toHalf 22 = .ok (.iload 5, 2) := by decide +kernel
theorem d_M_toHalf_24 : decode b_M_toHalf 24 = .ok (.iload 4, 2) := by decide +kernel
theorem d_M_toHalf_26 : decode b_M_toHalf 26 = .ok (.isub, 1) := by decide +kernel
theorem d_M_toHalf_27 : decode b_M_toHalf 27 = .ok (.iconst 1, 1) := by decide +kernel
theorem d_M_toHalf_28 : decode b_M_toHalf 28 = .ok (.if_icmp .le 36, 3) := by decide +kernel
theorem d_M_toHalf_31 : decode b_M_toHalf 31 = .ok (.iload 4, 2) := by decide +kernel
theorem d_M_toHalf_33 : decode b_M_toHalf 33 = .ok (.iload 5, 2) := by decide +kernel
theorem d_M_toHalf_35 : decode b_M_toHalf 35 = .ok (.iadd, 1) := by decide +kernel
theorem d_M_toHalf_36 : decode b_M_toHalf 36 = .ok (.iconst 1, 1) := by decide +kernel
theorem d_M_toHalf_37 : decode b_M_toHalf 37 = .ok (.ishr, 1) := by decide +kernel
theorem d_M_toHalf_38 : decode b_M_toHalf 38 = .ok (.istore 6, 2) := by decide +kernel
theorem d_M_toHalf_40 : decode b_M_toHalf 40 = .ok (.iload 6, 2) := by decide +kernel
theorem d_M_toHalf_42 : decode b_M_toHalf 42 = .ok (.invokestatic 65, 3) := by decide +kernel
theorem d_M_toHalf_45 : decode b_M_toHalf 45 = .ok (.lload_n 2, 1) := by decide +kernel
theorem d_M_toHalf_46 : decode b_M_toHalf 46 = .ok (.lcmp, 1) := by decide +kernel
theorem d_M_toHalf_47 : decode b_M_toHalf 47 = .ok (.ifCond .gt 10, 3) := by decide +kernel
theorem d_M_toHalf_50 : decode b_M_toHalf 50 = .ok (.iload 6, 2) := by decide +kernel
theorem d_M_toHalf_52 : decode b_M_toHalf 52 = .ok (.istore 4, 2) := by decide +kernel
theorem d_M_toHalf_54 : decode b_M_toHalf 54 = .ok (.goto 7, 3) := by decide +kernel
theorem d_M_toHalf_57 : decode b_M_toHalf 57 = .ok (.iload 6, 2) := by decide +kernel
theorem d_M_toHalf_59 : decode b_M_toHalf 59 = .ok (.istore 5, 2) := by decide +kernel
theorem d_M_toHalf_61 : decode b_M_toHalf 61 = .ok (.goto (-39), 3) := by decide +kernel
theorem d_M_toHalf_64 : decode b_M_toHalf 64 = .ok (.lload_n 2, 1) := by decide +kernel
theorem d_M_toHalf_65 : decode b_M_toHalf 65 = .ok (.iload 4, 2) := by decide +kernel
theorem d_M_toHalf_67 : decode b_M_toHalf 67 = .ok (.invokestatic 65, 3) := by decide +kernel
theorem d_M_toHalf_70 : decode b_M_toHalf 70 = .ok (.lsub, 1) := by decide +kernel
theorem d_M_toHalf_71 : decode b_M_toHalf 71 = .ok (.lstore 6, 2) := by decide +kernel
theorem d_M_toHalf_73 : decode b_M_toHalf 73 = .ok (.iload 4, 2) := by decide +kernel
theorem d_M_toHalf_75 : decode b_M_toHalf 75 = .ok (.iconst 1, 1) := by decide +kernel
theorem d_M_toHalf_76 : decode b_M_toHalf 76 = .ok (.iadd, 1) := by decide +kernel
theorem d_M_toHalf_77 : decode b_M_toHalf 77 = .ok (.invokestatic 65, 3) := by decide +kernel
theorem d_M_toHalf_80 : decode b_M_toHalf 80 = .ok (.lload_n 2, 1) := by decide +kernel
theorem d_M_toHalf_81 : decode b_M_toHalf 81 = .ok (.lsub, 1) := by decide +kernel
theorem d_M_toHalf_82 : decode b_M_toHalf 82 = .ok (.lstore 8, 2) := by decide +kernel
theorem d_M_toHalf_84 : decode b_M_toHalf 84 = .ok (.lload 6, 2) := by decide +kernel
theorem d_M_toHalf_86 : decode b_M_toHalf 86 = .ok (.lload 8, 2) := by decide +kernel
theorem d_M_toHalf_88 : decode b_M_toHalf 88 = .ok (.lcmp, 1) := by decide +kernel
theorem d_M_toHalf_89 : decode b_M_toHalf 89 = .ok (.ifCond .lt 18, 3) := by decide +kernel
theorem d_M_toHalf_92 : decode b_M_toHalf 92 = .ok (.lload 6, 2) := by decide +kernel
theorem d_M_toHalf_94 : decode b_M_toHalf 94 = .ok (.lload 8, 2) := by decide +kernel
theorem d_M_toHalf_96 : decode b_M_toHalf 96 = .ok (.lcmp, 1) := by decide +kernel
theorem d_M_toHalf_97 : decode b_M_toHalf 97 = .ok (.ifCond .ne 15, 3) := by decide +kernel
theorem d_M_toHalf_100 : decode b_M_toHalf 100 = .ok (.iload 4, 2) := by decide +kernel
theorem d_M_toHalf_102 : decode b_M_toHalf 102 = .ok (.iconst 2, 1) := by decide +kernel
theorem d_M_toHalf_103 : decode b_M_toHalf 103 = .ok (.irem, 1) := by decide +kernel
theorem d_M_toHalf_104 : decode b_M_toHalf 104 = .ok (.ifCond .ne 8, 3) := by decide +kernel
theorem d_M_toHalf_107 : decode b_M_toHalf 107 = .ok (.iload 4, 2) := by decide +kernel
theorem d_M_toHalf_109 : decode b_M_toHalf 109 = .ok (.goto 7, 3) := by decide +kernel
theorem d_M_toHalf_112 : decode b_M_toHalf 112 = .ok (.iload 4, 2) := by decide +kernel
theorem d_M_toHalf_114 : decode b_M_toHalf 114 = .ok (.iconst 1, 1) := by decide +kernel
theorem d_M_toHalf_115 : decode b_M_toHalf 115 = .ok (.iadd, 1) := by decide +kernel
theorem d_M_toHalf_116 : decode b_M_toHalf 116 = .ok (.istore 10, 2) := by decide +kernel
theorem d_M_toHalf_118 : decode b_M_toHalf 118 = .ok (.iload_n 1, 1) := by decide +kernel
theorem d_M_toHalf_119 : decode b_M_toHalf 119 = .ok (.ifCond .ge 16, 3) := by decide +kernel
theorem d_M_toHalf_122 : decode b_M_toHalf 122 = .ok (.iload 10, 2) := by decide +kernel
theorem d_M_toHalf_124 : decode b_M_toHalf 124 = .ok (.ifCond .le 11, 3) := by decide +kernel
theorem d_M_toHalf_127 : decode b_M_toHalf 127 = .ok (.iload 10, 2) := by decide +kernel
theorem d_M_toHalf_129 : decode b_M_toHalf 129 = .ok (.ldc 69, 2) := by decide +kernel
theorem d_M_toHalf_131 : decode b_M_toHalf 131 = .ok (.ior, 1) := by decide +kernel
theorem d_M_toHalf_132 : decode b_M_toHalf 132 = .ok (.goto 5, 3) := by decide +kernel
theorem d_M_toHalf_135 : decode b_M_toHalf 135 = .ok (.iload 10, 2) := by decide +kernel
theorem d_M_toHalf_137 : decode b_M_toHalf 137 = .ok (.ireturn, 1) := by decide +kernel
end
section
theorem d_law_0 : decode code 0 = .ok (.new 8, 3) := by decide +kernel
theorem d_law_3 : decode code 3 = .ok (.dup, 1) := by decide +kernel
theorem d_law_4 : decode code 4 = .ok (.invokespecial 29, 3) := by decide +kernel
theorem d_law_7 : decode code 7 = .ok (.astore_n 1, 1) := by decide +kernel
theorem d_law_8 : decode code 8 = .ok (.new 30, 3) := by decide +kernel
theorem d_law_11 : decode code 11 = .ok (.dup, 1) := by decide +kernel
theorem d_law_12 : decode code 12 = .ok (.invokespecial 32, 3) := by decide +kernel
theorem d_law_15 : decode code 15 = .ok (.astore_n 2, 1) := by decide +kernel
theorem d_law_16 : decode code 16 = .ok (.iconst 1, 1) := by decide +kernel
theorem d_law_17 : decode code 17 = .ok (.newarray .long, 2) := by decide +kernel
theorem d_law_19 : decode code 19 = .ok (.astore_n 3, 1) := by decide +kernel
theorem d_law_20 : decode code 20 = .ok (.iconst 0, 1) := by decide +kernel
theorem d_law_21 : decode code 21 = .ok (.istore 4, 2) := by decide +kernel
theorem d_law_23 : decode code 23 = .ok (.iload 4, 2) := by decide +kernel
theorem d_law_25 : decode code 25 = .ok (.aload_n 0, 1) := by decide +kernel
theorem d_law_26 : decode code 26 = .ok (.arraylength, 1) := by decide +kernel
theorem d_law_27 : decode code 27 = .ok (.bipush 7, 2) := by decide +kernel
theorem d_law_29 : decode code 29 = .ok (.isub, 1) := by decide +kernel
theorem d_law_30 : decode code 30 = .ok (.if_icmp .gt 734, 3) := by decide +kernel
theorem d_law_33 : decode code 33 = .ok (.aload_n 0, 1) := by decide +kernel
theorem d_law_34 : decode code 34 = .ok (.iload 4, 2) := by decide +kernel
theorem d_law_36 : decode code 36 = .ok (.iaload, 1) := by decide +kernel
theorem d_law_37 : decode code 37 = .ok (.bipush 15, 2) := by decide +kernel
theorem d_law_39 : decode code 39 = .ok (.iand, 1) := by decide +kernel
theorem d_law_40 : decode code 40 = .ok (.tableswitch 718 0 10 #[60, 97, 134, 159, 184, 361, 519, 544, 600, 668, 693], 60) := by decide +kernel
theorem d_law_100 : decode code 100 = .ok (.aload_n 1, 1) := by decide +kernel
theorem d_law_101 : decode code 101 = .ok (.aload_n 0, 1) := by decide +kernel
theorem d_law_102 : decode code 102 = .ok (.iload 4, 2) := by decide +kernel
theorem d_law_104 : decode code 104 = .ok (.iconst 1, 1) := by decide +kernel
theorem d_law_105 : decode code 105 = .ok (.iadd, 1) := by decide +kernel
theorem d_law_106 : decode code 106 = .ok (.iaload, 1) := by decide +kernel
theorem d_law_107 : decode code 107 = .ok (.aload_n 0, 1) := by decide +kernel
theorem d_law_108 : decode code 108 = .ok (.iload 4, 2) := by decide +kernel
theorem d_law_110 : decode code 110 = .ok (.iconst 2, 1) := by decide +kernel
theorem d_law_111 : decode code 111 = .ok (.iadd, 1) := by decide +kernel
theorem d_law_112 : decode code 112 = .ok (.iaload, 1) := by decide +kernel
theorem d_law_113 : decode code 113 = .ok (.invokevirtual 33, 3) := by decide +kernel
theorem d_law_116 : decode code 116 = .ok (.aload_n 2, 1) := by decide +kernel
theorem d_law_117 : decode code 117 = .ok (.aload_n 0, 1) := by decide +kernel
theorem d_law_118 : decode code 118 = .ok (.iload 4, 2) := by decide +kernel
theorem d_law_120 : decode code 120 = .ok (.iconst 1, 1) := by decide +kernel
theorem d_law_121 : decode code 121 = .ok (.iadd, 1) := by decide +kernel
theorem d_law_122 : decode code 122 = .ok (.iaload, 1) := by decide +kernel
theorem d_law_123 : decode code 123 = .ok (.aload_n 0, 1) := by decide +kernel
theorem d_law_124 : decode code 124 = .ok (.iload 4, 2) := by decide +kernel
theorem d_law_126 : decode code 126 = .ok (.iconst 2, 1) := by decide +kernel
theorem d_law_127 : decode code 127 = .ok (.iadd, 1) := by decide +kernel
theorem d_law_128 : decode code 128 = .ok (.iaload, 1) := by decide +kernel
theorem d_law_129 : decode code 129 = .ok (.invokevirtual 36, 3) := by decide +kernel
theorem d_law_132 : decode code 132 = .ok (.if_icmp .eq 626, 3) := by decide +kernel
theorem d_law_135 : decode code 135 = .ok (.iconst 0, 1) := by decide +kernel
theorem d_law_136 : decode code 136 = .ok (.ireturn, 1) := by decide +kernel
theorem d_law_137 : decode code 137 = .ok (.aload_n 1, 1) := by decide +kernel
theorem d_law_138 : decode code 138 = .ok (.aload_n 0, 1) := by decide +kernel
theorem d_law_139 : decode code 139 = .ok (.iload 4, 2) := by decide +kernel
theorem d_law_141 : decode code 141 = .ok (.iconst 1, 1) := by decide +kernel
theorem d_law_142 : decode code 142 = .ok (.iadd, 1) := by decide +kernel
theorem d_law_143 : decode code 143 = .ok (.iaload, 1) := by decide +kernel
theorem d_law_144 : decode code 144 = .ok (.aload_n 0, 1) := by decide +kernel
theorem d_law_145 : decode code 145 = .ok (.iload 4, 2) := by decide +kernel
theorem d_law_147 : decode code 147 = .ok (.iconst 2, 1) := by decide +kernel
theorem d_law_148 : decode code 148 = .ok (.iadd, 1) := by decide +kernel
theorem d_law_149 : decode code 149 = .ok (.iaload, 1) := by decide +kernel
theorem d_law_150 : decode code 150 = .ok (.invokevirtual 37, 3) := by decide +kernel
theorem d_law_153 : decode code 153 = .ok (.aload_n 2, 1) := by decide +kernel
theorem d_law_154 : decode code 154 = .ok (.aload_n 0, 1) := by decide +kernel
theorem d_law_155 : decode code 155 = .ok (.iload 4, 2) := by decide +kernel
theorem d_law_157 : decode code 157 = .ok (.iconst 1, 1) := by decide +kernel
theorem d_law_158 : decode code 158 = .ok (.iadd, 1) := by decide +kernel
theorem d_law_159 : decode code 159 = .ok (.iaload, 1) := by decide +kernel
theorem d_law_160 : decode code 160 = .ok (.aload_n 0, 1) := by decide +kernel
theorem d_law_161 : decode code 161 = .ok (.iload 4, 2) := by decide +kernel
theorem d_law_163 : decode code 163 = .ok (.iconst 2, 1) := by decide +kernel
theorem d_law_164 : decode code 164 = .ok (.iadd, 1) := by decide +kernel
theorem d_law_165 : decode code 165 = .ok (.iaload, 1) := by decide +kernel
theorem d_law_166 : decode code 166 = .ok (.invokevirtual 40, 3) := by decide +kernel
theorem d_law_169 : decode code 169 = .ok (.if_icmp .eq 589, 3) := by decide +kernel
theorem d_law_172 : decode code 172 = .ok (.iconst 0, 1) := by decide +kernel
theorem d_law_173 : decode code 173 = .ok (.ireturn, 1) := by decide +kernel
theorem d_law_174 : decode code 174 = .ok (.aload_n 1, 1) := by decide +kernel
theorem d_law_175 : decode code 175 = .ok (.aload_n 0, 1) := by decide +kernel
theorem d_law_176 : decode code 176 = .ok (.iload 4, 2) := by decide +kernel
theorem d_law_178 : decode code 178 = .ok (.iconst 1, 1) := by decide +kernel
theorem d_law_179 : decode code 179 = .ok (.iadd, 1) := by decide +kernel
theorem d_law_180 : decode code 180 = .ok (.iaload, 1) := by decide +kernel
theorem d_law_181 : decode code 181 = .ok (.invokevirtual 41, 3) := by decide +kernel
theorem d_law_184 : decode code 184 = .ok (.aload_n 2, 1) := by decide +kernel
theorem d_law_185 : decode code 185 = .ok (.aload_n 0, 1) := by decide +kernel
theorem d_law_186 : decode code 186 = .ok (.iload 4, 2) := by decide +kernel
theorem d_law_188 : decode code 188 = .ok (.iconst 1, 1) := by decide +kernel
theorem d_law_189 : decode code 189 = .ok (.iadd, 1) := by decide +kernel
theorem d_law_190 : decode code 190 = .ok (.iaload, 1) := by decide +kernel
theorem d_law_191 : decode code 191 = .ok (.invokevirtual 44, 3) := by decide +kernel
theorem d_law_194 : decode code 194 = .ok (.if_icmp .eq 564, 3) := by decide +kernel
theorem d_law_197 : decode code 197 = .ok (.iconst 0, 1) := by decide +kernel
theorem d_law_198 : decode code 198 = .ok (.ireturn, 1) := by decide +kernel
theorem d_law_199 : decode code 199 = .ok (.aload_n 1, 1) := by decide +kernel
theorem d_law_200 : decode code 200 = .ok (.aload_n 0, 1) := by decide +kernel
theorem d_law_201 : decode code 201 = .ok (.iload 4, 2) := by decide +kernel
theorem d_law_203 : decode code 203 = .ok (.iconst 1, 1) := by decide +kernel
theorem d_law_204 : decode code 204 = .ok (.iadd, 1) := by decide +kernel
theorem d_law_205 : decode code 205 = .ok (.iaload, 1) := by decide +kernel
theorem d_law_206 : decode code 206 = .ok (.invokevirtual 45, 3) := by decide +kernel
theorem d_law_209 : decode code 209 = .ok (.aload_n 2, 1) := by decide +kernel
theorem d_law_210 : decode code 210 = .ok (.aload_n 0, 1) := by decide +kernel
theorem d_law_211 : decode code 211 = .ok (.iload 4, 2) := by decide +kernel
theorem d_law_213 : decode code 213 = .ok (.iconst 1, 1) := by decide +kernel
theorem d_law_214 : decode code 214 = .ok (.iadd, 1) := by decide +kernel
theorem d_law_215 : decode code 215 = .ok (.iaload, 1) := by decide +kernel
theorem d_law_216 : decode code 216 = .ok (.invokevirtual 48, 3) := by decide +kernel
theorem d_law_219 : decode code 219 = .ok (.if_icmp .eq 539, 3) := by decide +kernel
theorem d_law_222 : decode code 222 = .ok (.iconst 0, 1) := by decide +kernel
theorem d_law_223 : decode code 223 = .ok (.ireturn, 1) := by decide +kernel
theorem d_law_224 : decode code 224 = .ok (.aload_n 1, 1) := by decide +kernel
theorem d_law_225 : decode code 225 = .ok (.aload_n 0, 1) := by decide +kernel
theorem d_law_226 : decode code 226 = .ok (.iload 4, 2) := by decide +kernel
theorem d_law_228 : decode code 228 = .ok (.iconst 1, 1) := by decide +kernel
theorem d_law_229 : decode code 229 = .ok (.iadd, 1) := by decide +kernel
theorem d_law_230 : decode code 230 = .ok (.iaload, 1) := by decide +kernel
theorem d_law_231 : decode code 231 = .ok (.i2l, 1) := by decide +kernel
theorem d_law_232 : decode code 232 = .ok (.bipush 32, 2) := by decide +kernel
theorem d_law_234 : decode code 234 = .ok (.lshl, 1) := by decide +kernel
theorem d_law_235 : decode code 235 = .ok (.aload_n 0, 1) := by decide +kernel
theorem d_law_236 : decode code 236 = .ok (.iload 4, 2) := by decide +kernel
theorem d_law_238 : decode code 238 = .ok (.iconst 2, 1) := by decide +kernel
theorem d_law_239 : decode code 239 = .ok (.iadd, 1) := by decide +kernel
theorem d_law_240 : decode code 240 = .ok (.iaload, 1) := by decide +kernel
theorem d_law_241 : decode code 241 = .ok (.i2l, 1) := by decide +kernel
theorem d_law_242 : decode code 242 = .ok (.ldc2_w 49, 3) := by decide +kernel
theorem d_law_245 : decode code 245 = .ok (.land, 1) := by decide +kernel
theorem d_law_246 : decode code 246 = .ok (.lor, 1) := by decide +kernel
theorem d_law_247 : decode code 247 = .ok (.aload_n 0, 1) := by decide +kernel
theorem d_law_248 : decode code 248 = .ok (.iload 4, 2) := by decide +kernel
theorem d_law_250 : decode code 250 = .ok (.iconst 3, 1) := by decide +kernel
theorem d_law_251 : decode code 251 = .ok (.iadd, 1) := by decide +kernel
theorem d_law_252 : decode code 252 = .ok (.iaload, 1) := by decide +kernel
theorem d_law_253 : decode code 253 = .ok (.i2l, 1) := by decide +kernel
theorem d_law_254 : decode code 254 = .ok (.bipush 32, 2) := by decide +kernel
theorem d_law_256 : decode code 256 = .ok (.lshl, 1) := by decide +kernel
theorem d_law_257 : decode code 257 = .ok (.aload_n 0, 1) := by decide +kernel
theorem d_law_258 : decode code 258 = .ok (.iload 4, 2) := by decide +kernel
theorem d_law_260 : decode code 260 = .ok (.iconst 4, 1) := by decide +kernel
theorem d_law_261 : decode code 261 = .ok (.iadd, 1) := by decide +kernel
theorem d_law_262 : decode code 262 = .ok (.iaload, 1) := by decide +kernel
theorem d_law_263 : decode code 263 = .ok (.i2l, 1) := by decide +kernel
theorem d_law_264 : decode code 264 = .ok (.ldc2_w 49, 3) := by decide +kernel
theorem d_law_267 : decode code 267 = .ok (.land, 1) := by decide +kernel
theorem d_law_268 : decode code 268 = .ok (.lor, 1) := by decide +kernel
theorem d_law_269 : decode code 269 = .ok (.aload_n 0, 1) := by decide +kernel
theorem d_law_270 : decode code 270 = .ok (.iload 4, 2) := by decide +kernel
theorem d_law_272 : decode code 272 = .ok (.iconst 5, 1) := by decide +kernel
theorem d_law_273 : decode code 273 = .ok (.iadd, 1) := by decide +kernel
theorem d_law_274 : decode code 274 = .ok (.iaload, 1) := by decide +kernel
theorem d_law_275 : decode code 275 = .ok (.i2l, 1) := by decide +kernel
theorem d_law_276 : decode code 276 = .ok (.bipush 32, 2) := by decide +kernel
theorem d_law_278 : decode code 278 = .ok (.lshl, 1) := by decide +kernel
theorem d_law_279 : decode code 279 = .ok (.aload_n 0, 1) := by decide +kernel
theorem d_law_280 : decode code 280 = .ok (.iload 4, 2) := by decide +kernel
theorem d_law_282 : decode code 282 = .ok (.bipush 6, 2) := by decide +kernel
theorem d_law_284 : decode code 284 = .ok (.iadd, 1) := by decide +kernel
theorem d_law_285 : decode code 285 = .ok (.iaload, 1) := by decide +kernel
theorem d_law_286 : decode code 286 = .ok (.i2l, 1) := by decide +kernel
theorem d_law_287 : decode code 287 = .ok (.ldc2_w 49, 3) := by decide +kernel
theorem d_law_290 : decode code 290 = .ok (.land, 1) := by decide +kernel
theorem d_law_291 : decode code 291 = .ok (.lor, 1) := by decide +kernel
theorem d_law_292 : decode code 292 = .ok (.aload_n 3, 1) := by decide +kernel
theorem d_law_293 : decode code 293 = .ok (.invokestatic 51, 3) := by decide +kernel
theorem d_law_296 : decode code 296 = .ok (.istore 5, 2) := by decide +kernel
theorem d_law_298 : decode code 298 = .ok (.aload_n 2, 1) := by decide +kernel
theorem d_law_299 : decode code 299 = .ok (.aload_n 0, 1) := by decide +kernel
theorem d_law_300 : decode code 300 = .ok (.iload 4, 2) := by decide +kernel
theorem d_law_302 : decode code 302 = .ok (.iconst 1, 1) := by decide +kernel
theorem d_law_303 : decode code 303 = .ok (.iadd, 1) := by decide +kernel
theorem d_law_304 : decode code 304 = .ok (.iaload, 1) := by decide +kernel
theorem d_law_305 : decode code 305 = .ok (.i2l, 1) := by decide +kernel
theorem d_law_306 : decode code 306 = .ok (.bipush 32, 2) := by decide +kernel
theorem d_law_308 : decode code 308 = .ok (.lshl, 1) := by decide +kernel
theorem d_law_309 : decode code 309 = .ok (.aload_n 0, 1) := by decide +kernel
theorem d_law_310 : decode code 310 = .ok (.iload 4, 2) := by decide +kernel
theorem d_law_312 : decode code 312 = .ok (.iconst 2, 1) := by decide +kernel
theorem d_law_313 : decode code 313 = .ok (.iadd, 1) := by decide +kernel
theorem d_law_314 : decode code 314 = .ok (.iaload, 1) := by decide +kernel
theorem d_law_315 : decode code 315 = .ok (.i2l, 1) := by decide +kernel
theorem d_law_316 : decode code 316 = .ok (.ldc2_w 49, 3) := by decide +kernel
theorem d_law_319 : decode code 319 = .ok (.land, 1) := by decide +kernel
theorem d_law_320 : decode code 320 = .ok (.lor, 1) := by decide +kernel
theorem d_law_321 : decode code 321 = .ok (.aload_n 0, 1) := by decide +kernel
theorem d_law_322 : decode code 322 = .ok (.iload 4, 2) := by decide +kernel
theorem d_law_324 : decode code 324 = .ok (.iconst 3, 1) := by decide +kernel
theorem d_law_325 : decode code 325 = .ok (.iadd, 1) := by decide +kernel
theorem d_law_326 : decode code 326 = .ok (.iaload, 1) := by decide +kernel
theorem d_law_327 : decode code 327 = .ok (.i2l, 1) := by decide +kernel
theorem d_law_328 : decode code 328 = .ok (.bipush 32, 2) := by decide +kernel
theorem d_law_330 : decode code 330 = .ok (.lshl, 1) := by decide +kernel
theorem d_law_331 : decode code 331 = .ok (.aload_n 0, 1) := by decide +kernel
theorem d_law_332 : decode code 332 = .ok (.iload 4, 2) := by decide +kernel
theorem d_law_334 : decode code 334 = .ok (.iconst 4, 1) := by decide +kernel
theorem d_law_335 : decode code 335 = .ok (.iadd, 1) := by decide +kernel
theorem d_law_336 : decode code 336 = .ok (.iaload, 1) := by decide +kernel
theorem d_law_337 : decode code 337 = .ok (.i2l, 1) := by decide +kernel
theorem d_law_338 : decode code 338 = .ok (.ldc2_w 49, 3) := by decide +kernel
theorem d_law_341 : decode code 341 = .ok (.land, 1) := by decide +kernel
theorem d_law_342 : decode code 342 = .ok (.lor, 1) := by decide +kernel
theorem d_law_343 : decode code 343 = .ok (.aload_n 0, 1) := by decide +kernel
theorem d_law_344 : decode code 344 = .ok (.iload 4, 2) := by decide +kernel
theorem d_law_346 : decode code 346 = .ok (.iconst 5, 1) := by decide +kernel
theorem d_law_347 : decode code 347 = .ok (.iadd, 1) := by decide +kernel
theorem d_law_348 : decode code 348 = .ok (.iaload, 1) := by decide +kernel
theorem d_law_349 : decode code 349 = .ok (.i2l, 1) := by decide +kernel
theorem d_law_350 : decode code 350 = .ok (.bipush 32, 2) := by decide +kernel
theorem d_law_352 : decode code 352 = .ok (.lshl, 1) := by decide +kernel
theorem d_law_353 : decode code 353 = .ok (.aload_n 0, 1) := by decide +kernel
theorem d_law_354 : decode code 354 = .ok (.iload 4, 2) := by decide +kernel
theorem d_law_356 : decode code 356 = .ok (.bipush 6, 2) := by decide +kernel
theorem d_law_358 : decode code 358 = .ok (.iadd, 1) := by decide +kernel
theorem d_law_359 : decode code 359 = .ok (.iaload, 1) := by decide +kernel
theorem d_law_360 : decode code 360 = .ok (.i2l, 1) := by decide +kernel
theorem d_law_361 : decode code 361 = .ok (.ldc2_w 49, 3) := by decide +kernel
theorem d_law_364 : decode code 364 = .ok (.land, 1) := by decide +kernel
theorem d_law_365 : decode code 365 = .ok (.lor, 1) := by decide +kernel
theorem d_law_366 : decode code 366 = .ok (.invokevirtual 56, 3) := by decide +kernel
theorem d_law_369 : decode code 369 = .ok (.lstore 6, 2) := by decide +kernel
theorem d_law_371 : decode code 371 = .ok (.aload_n 2, 1) := by decide +kernel
theorem d_law_372 : decode code 372 = .ok (.invokevirtual 57, 3) := by decide +kernel
theorem d_law_375 : decode code 375 = .ok (.iload 5, 2) := by decide +kernel
theorem d_law_377 : decode code 377 = .ok (.if_icmp .eq 5, 3) := by decide +kernel
theorem d_law_380 : decode code 380 = .ok (.iconst 0, 1) := by decide +kernel
theorem d_law_381 : decode code 381 = .ok (.ireturn, 1) := by decide +kernel
theorem d_law_382 : decode code 382 = .ok (.iload 5, 2) := by decide +kernel
theorem d_law_384 : decode code 384 = .ok (.ifCond .ne 14, 3) := by decide +kernel
theorem d_law_387 : decode code 387 = .ok (.aload_n 3, 1) := by decide +kernel
theorem d_law_388 : decode code 388 = .ok (.iconst 0, 1) := by decide +kernel
theorem d_law_389 : decode code 389 = .ok (.laload, 1) := by decide +kernel
theorem d_law_390 : decode code 390 = .ok (.lload 6, 2) := by decide +kernel
theorem d_law_392 : decode code 392 = .ok (.lcmp, 1) := by decide +kernel
theorem d_law_393 : decode code 393 = .ok (.ifCond .eq 5, 3) := by decide +kernel
theorem d_law_396 : decode code 396 = .ok (.iconst 0, 1) := by decide +kernel
theorem d_law_397 : decode code 397 = .ok (.ireturn, 1) := by decide +kernel
theorem d_law_398 : decode code 398 = .ok (.goto 360, 3) := by decide +kernel
theorem d_law_401 : decode code 401 = .ok (.aload_n 1, 1) := by decide +kernel
theorem d_law_402 : decode code 402 = .ok (.aload_n 0, 1) := by decide +kernel
theorem d_law_403 : decode code 403 = .ok (.iload 4, 2) := by decide +kernel
theorem d_law_405 : decode code 405 = .ok (.iconst 1, 1) := by decide +kernel
theorem d_law_406 : decode code 406 = .ok (.iadd, 1) := by decide +kernel
theorem d_law_407 : decode code 407 = .ok (.iaload, 1) := by decide +kernel
theorem d_law_408 : decode code 408 = .ok (.aload_n 0, 1) := by decide +kernel
theorem d_law_409 : decode code 409 = .ok (.iload 4, 2) := by decide +kernel
theorem d_law_411 : decode code 411 = .ok (.iconst 2, 1) := by decide +kernel
theorem d_law_412 : decode code 412 = .ok (.iadd, 1) := by decide +kernel
theorem d_law_413 : decode code 413 = .ok (.iaload, 1) := by decide +kernel
theorem d_law_414 : decode code 414 = .ok (.aload_n 0, 1) := by decide +kernel
theorem d_law_415 : decode code 415 = .ok (.iload 4, 2) := by decide +kernel
theorem d_law_417 : decode code 417 = .ok (.iconst 3, 1) := by decide +kernel
theorem d_law_418 : decode code 418 = .ok (.iadd, 1) := by decide +kernel
theorem d_law_419 : decode code 419 = .ok (.iaload, 1) := by decide +kernel
theorem d_law_420 : decode code 420 = .ok (.i2l, 1) := by decide +kernel
theorem d_law_421 : decode code 421 = .ok (.bipush 32, 2) := by decide +kernel
theorem d_law_423 : decode code 423 = .ok (.lshl, 1) := by decide +kernel
theorem d_law_424 : decode code 424 = .ok (.aload_n 0, 1) := by decide +kernel
theorem d_law_425 : decode code 425 = .ok (.iload 4, 2) := by decide +kernel
theorem d_law_427 : decode code 427 = .ok (.iconst 4, 1) := by decide +kernel
theorem d_law_428 : decode code 428 = .ok (.iadd, 1) := by decide +kernel
theorem d_law_429 : decode code 429 = .ok (.iaload, 1) := by decide +kernel
theorem d_law_430 : decode code 430 = .ok (.i2l, 1) := by decide +kernel
theorem d_law_431 : decode code 431 = .ok (.ldc2_w 49, 3) := by decide +kernel
theorem d_law_434 : decode code 434 = .ok (.land, 1) := by decide +kernel
theorem d_law_435 : decode code 435 = .ok (.lor, 1) := by decide +kernel
theorem d_law_436 : decode code 436 = .ok (.aload_n 0, 1) := by decide +kernel
theorem d_law_437 : decode code 437 = .ok (.iload 4, 2) := by decide +kernel
theorem d_law_439 : decode code 439 = .ok (.iconst 5, 1) := by decide +kernel
theorem d_law_440 : decode code 440 = .ok (.iadd, 1) := by decide +kernel
theorem d_law_441 : decode code 441 = .ok (.iaload, 1) := by decide +kernel
theorem d_law_442 : decode code 442 = .ok (.i2l, 1) := by decide +kernel
theorem d_law_443 : decode code 443 = .ok (.bipush 32, 2) := by decide +kernel
theorem d_law_445 : decode code 445 = .ok (.lshl, 1) := by decide +kernel
theorem d_law_446 : decode code 446 = .ok (.aload_n 0, 1) := by decide +kernel
theorem d_law_447 : decode code 447 = .ok (.iload 4, 2) := by decide +kernel
theorem d_law_449 : decode code 449 = .ok (.bipush 6, 2) := by decide +kernel
theorem d_law_451 : decode code 451 = .ok (.iadd, 1) := by decide +kernel
theorem d_law_452 : decode code 452 = .ok (.iaload, 1) := by decide +kernel
theorem d_law_453 : decode code 453 = .ok (.i2l, 1) := by decide +kernel
theorem d_law_454 : decode code 454 = .ok (.ldc2_w 49, 3) := by decide +kernel
theorem d_law_457 : decode code 457 = .ok (.land, 1) := by decide +kernel
theorem d_law_458 : decode code 458 = .ok (.lor, 1) := by decide +kernel
theorem d_law_459 : decode code 459 = .ok (.aload_n 3, 1) := by decide +kernel
theorem d_law_460 : decode code 460 = .ok (.invokestatic 61, 3) := by decide +kernel
theorem d_law_463 : decode code 463 = .ok (.istore 5, 2) := by decide +kernel
theorem d_law_465 : decode code 465 = .ok (.aload_n 2, 1) := by decide +kernel
theorem d_law_466 : decode code 466 = .ok (.aload_n 0, 1) := by decide +kernel
theorem d_law_467 : decode code 467 = .ok (.iload 4, 2) := by decide +kernel
theorem d_law_469 : decode code 469 = .ok (.iconst 1, 1) := by decide +kernel
theorem d_law_470 : decode code 470 = .ok (.iadd, 1) := by decide +kernel
theorem d_law_471 : decode code 471 = .ok (.iaload, 1) := by decide +kernel
theorem d_law_472 : decode code 472 = .ok (.aload_n 0, 1) := by decide +kernel
theorem d_law_473 : decode code 473 = .ok (.iload 4, 2) := by decide +kernel
theorem d_law_475 : decode code 475 = .ok (.iconst 2, 1) := by decide +kernel
theorem d_law_476 : decode code 476 = .ok (.iadd, 1) := by decide +kernel
theorem d_law_477 : decode code 477 = .ok (.iaload, 1) := by decide +kernel
theorem d_law_478 : decode code 478 = .ok (.aload_n 0, 1) := by decide +kernel
theorem d_law_479 : decode code 479 = .ok (.iload 4, 2) := by decide +kernel
theorem d_law_481 : decode code 481 = .ok (.iconst 3, 1) := by decide +kernel
theorem d_law_482 : decode code 482 = .ok (.iadd, 1) := by decide +kernel
theorem d_law_483 : decode code 483 = .ok (.iaload, 1) := by decide +kernel
theorem d_law_484 : decode code 484 = .ok (.i2l, 1) := by decide +kernel
theorem d_law_485 : decode code 485 = .ok (.bipush 32, 2) := by decide +kernel
theorem d_law_487 : decode code 487 = .ok (.lshl, 1) := by decide +kernel
theorem d_law_488 : decode code 488 = .ok (.aload_n 0, 1) := by decide +kernel
theorem d_law_489 : decode code 489 = .ok (.iload 4, 2) := by decide +kernel
theorem d_law_491 : decode code 491 = .ok (.iconst 4, 1) := by decide +kernel
theorem d_law_492 : decode code 492 = .ok (.iadd, 1) := by decide +kernel
theorem d_law_493 : decode code 493 = .ok (.iaload, 1) := by decide +kernel
theorem d_law_494 : decode code 494 = .ok (.i2l, 1) := by decide +kernel
theorem d_law_495 : decode code 495 = .ok (.ldc2_w 49, 3) := by decide +kernel
theorem d_law_498 : decode code 498 = .ok (.land, 1) := by decide +kernel
theorem d_law_499 : decode code 499 = .ok (.lor, 1) := by decide +kernel
theorem d_law_500 : decode code 500 = .ok (.aload_n 0, 1) := by decide +kernel
theorem d_law_501 : decode code 501 = .ok (.iload 4, 2) := by decide +kernel
theorem d_law_503 : decode code 503 = .ok (.iconst 5, 1) := by decide +kernel
theorem d_law_504 : decode code 504 = .ok (.iadd, 1) := by decide +kernel
theorem d_law_505 : decode code 505 = .ok (.iaload, 1) := by decide +kernel
theorem d_law_506 : decode code 506 = .ok (.i2l, 1) := by decide +kernel
theorem d_law_507 : decode code 507 = .ok (.bipush 32, 2) := by decide +kernel
theorem d_law_509 : decode code 509 = .ok (.lshl, 1) := by decide +kernel
theorem d_law_510 : decode code 510 = .ok (.aload_n 0, 1) := by decide +kernel
theorem d_law_511 : decode code 511 = .ok (.iload 4, 2) := by decide +kernel
theorem d_law_513 : decode code 513 = .ok (.bipush 6, 2) := by decide +kernel
theorem d_law_515 : decode code 515 = .ok (.iadd, 1) := by decide +kernel
theorem d_law_516 : decode code 516 = .ok (.iaload, 1) := by decide +kernel
theorem d_law_517 : decode code 517 = .ok (.i2l, 1) := by decide +kernel
theorem d_law_518 : decode code 518 = .ok (.ldc2_w 49, 3) := by decide +kernel
theorem d_law_521 : decode code 521 = .ok (.land, 1) := by decide +kernel
theorem d_law_522 : decode code 522 = .ok (.lor, 1) := by decide +kernel
theorem d_law_523 : decode code 523 = .ok (.invokevirtual 64, 3) := by decide +kernel
theorem d_law_526 : decode code 526 = .ok (.istore 6, 2) := by decide +kernel
theorem d_law_528 : decode code 528 = .ok (.aload_n 2, 1) := by decide +kernel
theorem d_law_529 : decode code 529 = .ok (.invokevirtual 57, 3) := by decide +kernel
theorem d_law_532 : decode code 532 = .ok (.iload 5, 2) := by decide +kernel
theorem d_law_534 : decode code 534 = .ok (.if_icmp .eq 5, 3) := by decide +kernel
theorem d_law_537 : decode code 537 = .ok (.iconst 0, 1) := by decide +kernel
theorem d_law_538 : decode code 538 = .ok (.ireturn, 1) := by decide +kernel
theorem d_law_539 : decode code 539 = .ok (.iload 5, 2) := by decide +kernel
theorem d_law_541 : decode code 541 = .ok (.ifCond .ne 15, 3) := by decide +kernel
theorem d_law_544 : decode code 544 = .ok (.aload_n 3, 1) := by decide +kernel
theorem d_law_545 : decode code 545 = .ok (.iconst 0, 1) := by decide +kernel
theorem d_law_546 : decode code 546 = .ok (.laload, 1) := by decide +kernel
theorem d_law_547 : decode code 547 = .ok (.iload 6, 2) := by decide +kernel
theorem d_law_549 : decode code 549 = .ok (.i2l, 1) := by decide +kernel
theorem d_law_550 : decode code 550 = .ok (.lcmp, 1) := by decide +kernel
theorem d_law_551 : decode code 551 = .ok (.ifCond .eq 5, 3) := by decide +kernel
theorem d_law_554 : decode code 554 = .ok (.iconst 0, 1) := by decide +kernel
theorem d_law_555 : decode code 555 = .ok (.ireturn, 1) := by decide +kernel
theorem d_law_556 : decode code 556 = .ok (.goto 202, 3) := by decide +kernel
theorem d_law_559 : decode code 559 = .ok (.aload_n 1, 1) := by decide +kernel
theorem d_law_560 : decode code 560 = .ok (.aload_n 0, 1) := by decide +kernel
theorem d_law_561 : decode code 561 = .ok (.iload 4, 2) := by decide +kernel
theorem d_law_563 : decode code 563 = .ok (.iconst 1, 1) := by decide +kernel
theorem d_law_564 : decode code 564 = .ok (.iadd, 1) := by decide +kernel
theorem d_law_565 : decode code 565 = .ok (.iaload, 1) := by decide +kernel
theorem d_law_566 : decode code 566 = .ok (.invokevirtual 65, 3) := by decide +kernel
theorem d_law_569 : decode code 569 = .ok (.aload_n 2, 1) := by decide +kernel
theorem d_law_570 : decode code 570 = .ok (.aload_n 0, 1) := by decide +kernel
theorem d_law_571 : decode code 571 = .ok (.iload 4, 2) := by decide +kernel
theorem d_law_573 : decode code 573 = .ok (.iconst 1, 1) := by decide +kernel
theorem d_law_574 : decode code 574 = .ok (.iadd, 1) := by decide +kernel
theorem d_law_575 : decode code 575 = .ok (.iaload, 1) := by decide +kernel
theorem d_law_576 : decode code 576 = .ok (.invokevirtual 68, 3) := by decide +kernel
theorem d_law_579 : decode code 579 = .ok (.if_icmp .eq 179, 3) := by decide +kernel
theorem d_law_582 : decode code 582 = .ok (.iconst 0, 1) := by decide +kernel
theorem d_law_583 : decode code 583 = .ok (.ireturn, 1) := by decide +kernel
theorem d_law_584 : decode code 584 = .ok (.aload_n 1, 1) := by decide +kernel
theorem d_law_585 : decode code 585 = .ok (.aload_n 0, 1) := by decide +kernel
theorem d_law_586 : decode code 586 = .ok (.iload 4, 2) := by decide +kernel
theorem d_law_588 : decode code 588 = .ok (.iconst 1, 1) := by decide +kernel
theorem d_law_589 : decode code 589 = .ok (.iadd, 1) := by decide +kernel
theorem d_law_590 : decode code 590 = .ok (.iaload, 1) := by decide +kernel
theorem d_law_591 : decode code 591 = .ok (.aload_n 3, 1) := by decide +kernel
theorem d_law_592 : decode code 592 = .ok (.invokestatic 69, 3) := by decide +kernel
theorem d_law_595 : decode code 595 = .ok (.istore 5, 2) := by decide +kernel
theorem d_law_597 : decode code 597 = .ok (.aload_n 2, 1) := by decide +kernel
theorem d_law_598 : decode code 598 = .ok (.aload_n 0, 1) := by decide +kernel
theorem d_law_599 : decode code 599 = .ok (.iload 4, 2) := by decide +kernel
theorem d_law_601 : decode code 601 = .ok (.iconst 1, 1) := by decide +kernel
theorem d_law_602 : decode code 602 = .ok (.iadd, 1) := by decide +kernel
theorem d_law_603 : decode code 603 = .ok (.iaload, 1) := by decide +kernel
theorem d_law_604 : decode code 604 = .ok (.invokevirtual 72, 3) := by decide +kernel
theorem d_law_607 : decode code 607 = .ok (.istore 6, 2) := by decide +kernel
theorem d_law_609 : decode code 609 = .ok (.aload_n 2, 1) := by decide +kernel
theorem d_law_610 : decode code 610 = .ok (.invokevirtual 57, 3) := by decide +kernel
theorem d_law_613 : decode code 613 = .ok (.iload 5, 2) := by decide +kernel
theorem d_law_615 : decode code 615 = .ok (.if_icmp .eq 5, 3) := by decide +kernel
theorem d_law_618 : decode code 618 = .ok (.iconst 0, 1) := by decide +kernel
theorem d_law_619 : decode code 619 = .ok (.ireturn, 1) := by decide +kernel
theorem d_law_620 : decode code 620 = .ok (.iload 5, 2) := by decide +kernel
theorem d_law_622 : decode code 622 = .ok (.ifCond .ne 15, 3) := by decide +kernel
theorem d_law_625 : decode code 625 = .ok (.aload_n 3, 1) := by decide +kernel
theorem d_law_626 : decode code 626 = .ok (.iconst 0, 1) := by decide +kernel
theorem d_law_627 : decode code 627 = .ok (.laload, 1) := by decide +kernel
theorem d_law_628 : decode code 628 = .ok (.iload 6, 2) := by decide +kernel
theorem d_law_630 : decode code 630 = .ok (.i2l, 1) := by decide +kernel
theorem d_law_631 : decode code 631 = .ok (.lcmp, 1) := by decide +kernel
theorem d_law_632 : decode code 632 = .ok (.ifCond .eq 5, 3) := by decide +kernel
theorem d_law_635 : decode code 635 = .ok (.iconst 0, 1) := by decide +kernel
theorem d_law_636 : decode code 636 = .ok (.ireturn, 1) := by decide +kernel
theorem d_law_637 : decode code 637 = .ok (.goto 121, 3) := by decide +kernel
theorem d_law_640 : decode code 640 = .ok (.aload_n 1, 1) := by decide +kernel
theorem d_law_641 : decode code 641 = .ok (.aload_n 0, 1) := by decide +kernel
theorem d_law_642 : decode code 642 = .ok (.iload 4, 2) := by decide +kernel
theorem d_law_644 : decode code 644 = .ok (.iconst 1, 1) := by decide +kernel
theorem d_law_645 : decode code 645 = .ok (.iadd, 1) := by decide +kernel
theorem d_law_646 : decode code 646 = .ok (.iaload, 1) := by decide +kernel
theorem d_law_647 : decode code 647 = .ok (.aload_n 0, 1) := by decide +kernel
theorem d_law_648 : decode code 648 = .ok (.iload 4, 2) := by decide +kernel
theorem d_law_650 : decode code 650 = .ok (.iconst 2, 1) := by decide +kernel
theorem d_law_651 : decode code 651 = .ok (.iadd, 1) := by decide +kernel
theorem d_law_652 : decode code 652 = .ok (.iaload, 1) := by decide +kernel
theorem d_law_653 : decode code 653 = .ok (.aload_n 3, 1) := by decide +kernel
theorem d_law_654 : decode code 654 = .ok (.invokestatic 73, 3) := by decide +kernel
theorem d_law_657 : decode code 657 = .ok (.istore 5, 2) := by decide +kernel
theorem d_law_659 : decode code 659 = .ok (.aload_n 2, 1) := by decide +kernel
theorem d_law_660 : decode code 660 = .ok (.aload_n 0, 1) := by decide +kernel
theorem d_law_661 : decode code 661 = .ok (.iload 4, 2) := by decide +kernel
theorem d_law_663 : decode code 663 = .ok (.iconst 1, 1) := by decide +kernel
theorem d_law_664 : decode code 664 = .ok (.iadd, 1) := by decide +kernel
theorem d_law_665 : decode code 665 = .ok (.iaload, 1) := by decide +kernel
theorem d_law_666 : decode code 666 = .ok (.aload_n 0, 1) := by decide +kernel
theorem d_law_667 : decode code 667 = .ok (.iload 4, 2) := by decide +kernel
theorem d_law_669 : decode code 669 = .ok (.iconst 2, 1) := by decide +kernel
theorem d_law_670 : decode code 670 = .ok (.iadd, 1) := by decide +kernel
theorem d_law_671 : decode code 671 = .ok (.iaload, 1) := by decide +kernel
theorem d_law_672 : decode code 672 = .ok (.invokevirtual 76, 3) := by decide +kernel
theorem d_law_675 : decode code 675 = .ok (.istore 6, 2) := by decide +kernel
theorem d_law_677 : decode code 677 = .ok (.aload_n 2, 1) := by decide +kernel
theorem d_law_678 : decode code 678 = .ok (.invokevirtual 57, 3) := by decide +kernel
theorem d_law_681 : decode code 681 = .ok (.iload 5, 2) := by decide +kernel
theorem d_law_683 : decode code 683 = .ok (.if_icmp .eq 5, 3) := by decide +kernel
theorem d_law_686 : decode code 686 = .ok (.iconst 0, 1) := by decide +kernel
theorem d_law_687 : decode code 687 = .ok (.ireturn, 1) := by decide +kernel
theorem d_law_688 : decode code 688 = .ok (.iload 5, 2) := by decide +kernel
theorem d_law_690 : decode code 690 = .ok (.ifCond .ne 15, 3) := by decide +kernel
theorem d_law_693 : decode code 693 = .ok (.aload_n 3, 1) := by decide +kernel
theorem d_law_694 : decode code 694 = .ok (.iconst 0, 1) := by decide +kernel
theorem d_law_695 : decode code 695 = .ok (.laload, 1) := by decide +kernel
theorem d_law_696 : decode code 696 = .ok (.iload 6, 2) := by decide +kernel
theorem d_law_698 : decode code 698 = .ok (.i2l, 1) := by decide +kernel
theorem d_law_699 : decode code 699 = .ok (.lcmp, 1) := by decide +kernel
theorem d_law_700 : decode code 700 = .ok (.ifCond .eq 5, 3) := by decide +kernel
theorem d_law_703 : decode code 703 = .ok (.iconst 0, 1) := by decide +kernel
theorem d_law_704 : decode code 704 = .ok (.ireturn, 1) := by decide +kernel
theorem d_law_705 : decode code 705 = .ok (.goto 53, 3) := by decide +kernel
theorem d_law_708 : decode code 708 = .ok (.aload_n 1, 1) := by decide +kernel
theorem d_law_709 : decode code 709 = .ok (.aload_n 0, 1) := by decide +kernel
theorem d_law_710 : decode code 710 = .ok (.iload 4, 2) := by decide +kernel
theorem d_law_712 : decode code 712 = .ok (.iconst 1, 1) := by decide +kernel
theorem d_law_713 : decode code 713 = .ok (.iadd, 1) := by decide +kernel
theorem d_law_714 : decode code 714 = .ok (.iaload, 1) := by decide +kernel
theorem d_law_715 : decode code 715 = .ok (.invokevirtual 77, 3) := by decide +kernel
theorem d_law_718 : decode code 718 = .ok (.aload_n 2, 1) := by decide +kernel
theorem d_law_719 : decode code 719 = .ok (.aload_n 0, 1) := by decide +kernel
theorem d_law_720 : decode code 720 = .ok (.iload 4, 2) := by decide +kernel
theorem d_law_722 : decode code 722 = .ok (.iconst 1, 1) := by decide +kernel
theorem d_law_723 : decode code 723 = .ok (.iadd, 1) := by decide +kernel
theorem d_law_724 : decode code 724 = .ok (.iaload, 1) := by decide +kernel
theorem d_law_725 : decode code 725 = .ok (.invokevirtual 80, 3) := by decide +kernel
theorem d_law_728 : decode code 728 = .ok (.if_icmp .eq 30, 3) := by decide +kernel
theorem d_law_731 : decode code 731 = .ok (.iconst 0, 1) := by decide +kernel
theorem d_law_732 : decode code 732 = .ok (.ireturn, 1) := by decide +kernel
theorem d_law_733 : decode code 733 = .ok (.aload_n 1, 1) := by decide +kernel
theorem d_law_734 : decode code 734 = .ok (.aload_n 0, 1) := by decide +kernel
theorem d_law_735 : decode code 735 = .ok (.iload 4, 2) := by decide +kernel
theorem d_law_737 : decode code 737 = .ok (.iconst 1, 1) := by decide +kernel
theorem d_law_738 : decode code 738 = .ok (.iadd, 1) := by decide +kernel
theorem d_law_739 : decode code 739 = .ok (.iaload, 1) := by decide +kernel
theorem d_law_740 : decode code 740 = .ok (.invokevirtual 81, 3) := by decide +kernel
theorem d_law_743 : decode code 743 = .ok (.aload_n 2, 1) := by decide +kernel
theorem d_law_744 : decode code 744 = .ok (.aload_n 0, 1) := by decide +kernel
theorem d_law_745 : decode code 745 = .ok (.iload 4, 2) := by decide +kernel
theorem d_law_747 : decode code 747 = .ok (.iconst 1, 1) := by decide +kernel
theorem d_law_748 : decode code 748 = .ok (.iadd, 1) := by decide +kernel
theorem d_law_749 : decode code 749 = .ok (.iaload, 1) := by decide +kernel
theorem d_law_750 : decode code 750 = .ok (.invokevirtual 84, 3) := by decide +kernel
theorem d_law_753 : decode code 753 = .ok (.if_icmp .eq 5, 3) := by decide +kernel
theorem d_law_756 : decode code 756 = .ok (.iconst 0, 1) := by decide +kernel
theorem d_law_757 : decode code 757 = .ok (.ireturn, 1) := by decide +kernel
theorem d_law_758 : decode code 758 = .ok (.iinc 4 7, 3) := by decide +kernel
theorem d_law_761 : decode code 761 = .ok (.goto (-738), 3) := by decide +kernel
theorem d_law_764 : decode code 764 = .ok (.iconst 1, 1) := by decide +kernel
theorem d_law_765 : decode code 765 = .ok (.ireturn, 1) := by decide +kernel
end
section
/-! base rows of this claim -/
section BR
variable {p : Program} {l : Launch} {e : Env} {R : Room} {s : State} {m : MethodId} {args : Array Value} {below : List Frame} {meth : Method} {c : Code} {H : Heap} {locs : List Loc} {cells slots : Nat} {Q : State → Prop}
variable {cc : ByteArray} {pc : Nat} {ls : Array Slot} {rest : List Value}
theorem rl_ge (hx : p.tables.exec = Jvm.exec) (hb : c.code = cc) {x y : Int64} {off : Int} {tgt : Nat} (h1 : decode cc pc = .ok (.lcmp, 1)) (h2 : decode cc (pc + 1) = .ok (.ifCond .ge off, 3)) (ht : ((pc + 1 : Nat) : Int) + off = (tgt : Int))
    (kt : y ≤ x → W p l e R s m args below meth c H locs cells slots Q (F0 m tgt ls rest)) (kf : ¬ y ≤ x → W p l e R s m args below meth c H locs cells slots Q (F0 m (pc + 4) ls rest)) : W p l e R s m args below meth c H locs cells slots Q (F0 m pc ls (.long y :: .long x :: rest)) :=
  W.lcmp hx hb h1 (lv_if_ge hx hb h2 ht (fun h => kt ((lg_cmp_ge _ _).mp h)) (fun h => kf (fun z => h ((lg_cmp_ge _ _).mpr z))))
theorem rl_lt (hx : p.tables.exec = Jvm.exec) (hb : c.code = cc) {x y : Int64} {off : Int} {tgt : Nat} (h1 : decode cc pc = .ok (.lcmp, 1)) (h2 : decode cc (pc + 1) = .ok (.ifCond .lt off, 3)) (ht : ((pc + 1 : Nat) : Int) + off = (tgt : Int))
    (kt : x < y → W p l e R s m args below meth c H locs cells slots Q (F0 m tgt ls rest)) (kf : ¬ x < y → W p l e R s m args below meth c H locs cells slots Q (F0 m (pc + 4) ls rest)) : W p l e R s m args below meth c H locs cells slots Q (F0 m pc ls (.long y :: .long x :: rest)) :=
  W.lcmp hx hb h1 (lv_if_lt hx hb h2 ht (fun h => kt ((lg_cmp_lt _ _).mp h)) (fun h => kf (fun z => h ((lg_cmp_lt _ _).mpr z))))
theorem rl_gt (hx : p.tables.exec = Jvm.exec) (hb : c.code = cc) {x y : Int64} {off : Int} {tgt : Nat} (h1 : decode cc pc = .ok (.lcmp, 1)) (h2 : decode cc (pc + 1) = .ok (.ifCond .gt off, 3)) (ht : ((pc + 1 : Nat) : Int) + off = (tgt : Int))
    (kt : y < x → W p l e R s m args below meth c H locs cells slots Q (F0 m tgt ls rest)) (kf : ¬ y < x → W p l e R s m args below meth c H locs cells slots Q (F0 m (pc + 4) ls rest)) : W p l e R s m args below meth c H locs cells slots Q (F0 m pc ls (.long y :: .long x :: rest)) :=
  W.lcmp hx hb h1 (lv_if_gt hx hb h2 ht (fun h => kt ((lg_cmp_gt _ _).mp h)) (fun h => kf (fun z => h ((lg_cmp_gt _ _).mpr z))))
theorem rl_le (hx : p.tables.exec = Jvm.exec) (hb : c.code = cc) {x y : Int64} {off : Int} {tgt : Nat} (h1 : decode cc pc = .ok (.lcmp, 1)) (h2 : decode cc (pc + 1) = .ok (.ifCond .le off, 3)) (ht : ((pc + 1 : Nat) : Int) + off = (tgt : Int))
    (kt : x ≤ y → W p l e R s m args below meth c H locs cells slots Q (F0 m tgt ls rest)) (kf : ¬ x ≤ y → W p l e R s m args below meth c H locs cells slots Q (F0 m (pc + 4) ls rest)) : W p l e R s m args below meth c H locs cells slots Q (F0 m pc ls (.long y :: .long x :: rest)) :=
  W.lcmp hx hb h1 (lv_if_le hx hb h2 ht (fun h => kt ((lg_cmp_le _ _).mp h)) (fun h => kf (fun z => h ((lg_cmp_le _ _).mpr z))))
theorem rl_eq (hx : p.tables.exec = Jvm.exec) (hb : c.code = cc) {x y : Int64} {off : Int} {tgt : Nat} (h1 : decode cc pc = .ok (.lcmp, 1)) (h2 : decode cc (pc + 1) = .ok (.ifCond .eq off, 3)) (ht : ((pc + 1 : Nat) : Int) + off = (tgt : Int))
    (kt : x = y → W p l e R s m args below meth c H locs cells slots Q (F0 m tgt ls rest)) (kf : ¬ x = y → W p l e R s m args below meth c H locs cells slots Q (F0 m (pc + 4) ls rest)) : W p l e R s m args below meth c H locs cells slots Q (F0 m pc ls (.long y :: .long x :: rest)) :=
  W.lcmp hx hb h1 (lv_if_eq hx hb h2 ht (fun h => kt ((lg_cmp_eq _ _).mp h)) (fun h => kf (fun z => h ((lg_cmp_eq _ _).mpr z))))
theorem rl_ne (hx : p.tables.exec = Jvm.exec) (hb : c.code = cc) {x y : Int64} {off : Int} {tgt : Nat} (h1 : decode cc pc = .ok (.lcmp, 1)) (h2 : decode cc (pc + 1) = .ok (.ifCond .ne off, 3)) (ht : ((pc + 1 : Nat) : Int) + off = (tgt : Int))
    (kt : ¬ x = y → W p l e R s m args below meth c H locs cells slots Q (F0 m tgt ls rest)) (kf : x = y → W p l e R s m args below meth c H locs cells slots Q (F0 m (pc + 4) ls rest)) : W p l e R s m args below meth c H locs cells slots Q (F0 m pc ls (.long y :: .long x :: rest)) :=
  W.lcmp hx hb h1 (lv_if_ne hx hb h2 ht (fun h => kt (fun z => h ((lg_cmp_eq _ _).mpr z))) (fun h => kf ((lg_cmp_eq _ _).mp h)))
theorem rl_ldcw (hx : p.tables.exec = Jvm.exec) (hb : c.code = cc) {own : String} {index : Nat} {v : Int32} (hown : s.vm.findClass own = some m.cls) (hconst : (Jvm.Cond.constant own index v).before args s = true) (hdg : decode cc pc = .ok (.ldc_w index, 3)) (k : W p l e R s m args below meth c H locs cells slots Q (F0 m (pc + 3) ls (.int v :: rest))) : W p l e R s m args below meth c H locs cells slots Q (F0 m pc ls rest) := by
  intro T hT X
  obtain ⟨t, a, b⟩ := k T hT X
  refine ⟨t, ?_, b⟩
  obtain ⟨k0, cf, bytes, hk, hcf, hcp, hbv⟩ := Cond.constant_spec hown hconst
  obtain ⟨k', hk', he⟩ := X.warmed.alike.2.2 _ _ hk
  jvm_step X.here [hx, hb, hdg, ldc_w.wp_int (s := T) (f := F0 m pc ls rest) X.here.top hk' (by rw [he]; exact hcf) hcp, hbv]
  exact a
theorem jn1 {α1 : Type} {st : List Value} (tgt nL : Nat) (P : α1 → Prop) (L : α1 → List (Nat × Value)) (S : α1 → List Value) (k : ∀ (a1 : α1), P a1 → ∀ ls : Array Slot, lv_has ls nL (L a1) → W p l e R s m args below meth c H locs cells slots Q (F0 m tgt ls (S a1))) (b : (∀ (a1 : α1), P a1 → ∀ ls : Array Slot, lv_has ls nL (L a1) → W p l e R s m args below meth c H locs cells slots Q (F0 m tgt ls (S a1))) → W p l e R s m args below meth c H locs cells slots Q (F0 m pc ls st)) : W p l e R s m args below meth c H locs cells slots Q (F0 m pc ls st) := b k
theorem jn2 {α1 : Type} {α2 : Type} {st : List Value} (tgt nL : Nat) (P : α1 → α2 → Prop) (L : α1 → α2 → List (Nat × Value)) (S : α1 → α2 → List Value) (k : ∀ (a1 : α1) (a2 : α2), P a1 a2 → ∀ ls : Array Slot, lv_has ls nL (L a1 a2) → W p l e R s m args below meth c H locs cells slots Q (F0 m tgt ls (S a1 a2))) (b : (∀ (a1 : α1) (a2 : α2), P a1 a2 → ∀ ls : Array Slot, lv_has ls nL (L a1 a2) → W p l e R s m args below meth c H locs cells slots Q (F0 m tgt ls (S a1 a2))) → W p l e R s m args below meth c H locs cells slots Q (F0 m pc ls st)) : W p l e R s m args below meth c H locs cells slots Q (F0 m pc ls st) := b k
theorem jn3 {α1 : Type} {α2 : Type} {α3 : Type} {st : List Value} (tgt nL : Nat) (P : α1 → α2 → α3 → Prop) (L : α1 → α2 → α3 → List (Nat × Value)) (S : α1 → α2 → α3 → List Value) (k : ∀ (a1 : α1) (a2 : α2) (a3 : α3), P a1 a2 a3 → ∀ ls : Array Slot, lv_has ls nL (L a1 a2 a3) → W p l e R s m args below meth c H locs cells slots Q (F0 m tgt ls (S a1 a2 a3))) (b : (∀ (a1 : α1) (a2 : α2) (a3 : α3), P a1 a2 a3 → ∀ ls : Array Slot, lv_has ls nL (L a1 a2 a3) → W p l e R s m args below meth c H locs cells slots Q (F0 m tgt ls (S a1 a2 a3))) → W p l e R s m args below meth c H locs cells slots Q (F0 m pc ls st)) : W p l e R s m args below meth c H locs cells slots Q (F0 m pc ls st) := b k
theorem jn4 {α1 : Type} {α2 : Type} {α3 : Type} {α4 : Type} {st : List Value} (tgt nL : Nat) (P : α1 → α2 → α3 → α4 → Prop) (L : α1 → α2 → α3 → α4 → List (Nat × Value)) (S : α1 → α2 → α3 → α4 → List Value) (k : ∀ (a1 : α1) (a2 : α2) (a3 : α3) (a4 : α4), P a1 a2 a3 a4 → ∀ ls : Array Slot, lv_has ls nL (L a1 a2 a3 a4) → W p l e R s m args below meth c H locs cells slots Q (F0 m tgt ls (S a1 a2 a3 a4))) (b : (∀ (a1 : α1) (a2 : α2) (a3 : α3) (a4 : α4), P a1 a2 a3 a4 → ∀ ls : Array Slot, lv_has ls nL (L a1 a2 a3 a4) → W p l e R s m args below meth c H locs cells slots Q (F0 m tgt ls (S a1 a2 a3 a4))) → W p l e R s m args below meth c H locs cells slots Q (F0 m pc ls st)) : W p l e R s m args below meth c H locs cells slots Q (F0 m pc ls st) := b k
theorem jn5 {α1 : Type} {α2 : Type} {α3 : Type} {α4 : Type} {α5 : Type} {st : List Value} (tgt nL : Nat) (P : α1 → α2 → α3 → α4 → α5 → Prop) (L : α1 → α2 → α3 → α4 → α5 → List (Nat × Value)) (S : α1 → α2 → α3 → α4 → α5 → List Value) (k : ∀ (a1 : α1) (a2 : α2) (a3 : α3) (a4 : α4) (a5 : α5), P a1 a2 a3 a4 a5 → ∀ ls : Array Slot, lv_has ls nL (L a1 a2 a3 a4 a5) → W p l e R s m args below meth c H locs cells slots Q (F0 m tgt ls (S a1 a2 a3 a4 a5))) (b : (∀ (a1 : α1) (a2 : α2) (a3 : α3) (a4 : α4) (a5 : α5), P a1 a2 a3 a4 a5 → ∀ ls : Array Slot, lv_has ls nL (L a1 a2 a3 a4 a5) → W p l e R s m args below meth c H locs cells slots Q (F0 m tgt ls (S a1 a2 a3 a4 a5))) → W p l e R s m args below meth c H locs cells slots Q (F0 m pc ls st)) : W p l e R s m args below meth c H locs cells slots Q (F0 m pc ls st) := b k
theorem lq1 {α1 : Type} (tgt nL : Nat) (μ : α1 → Nat) (P : α1 → Prop) (L : α1 → List (Nat × Value))
    (body : ∀ (a1 : α1), P a1 → (∀ (b1 : α1), P b1 → μ b1 < μ a1 → ∀ ls : Array Slot, lv_has ls nL (L b1) → W p l e R s m args below meth c H locs cells slots Q (F0 m tgt ls [])) → ∀ ls : Array Slot, lv_has ls nL (L a1) → W p l e R s m args below meth c H locs cells slots Q (F0 m tgt ls [])) : ∀ (a1 : α1), P a1 → ∀ ls : Array Slot, lv_has ls nL (L a1) → W p l e R s m args below meth c H locs cells slots Q (F0 m tgt ls []) := by
  have key : ∀ (n : Nat) (a1 : α1), μ a1 < n → P a1 → ∀ ls : Array Slot, lv_has ls nL (L a1) → W p l e R s m args below meth c H locs cells slots Q (F0 m tgt ls []) := by
    intro n
    induction n with
    | zero => intro a1 h; exact absurd h (Nat.not_lt_zero _)
    | succ n ih => intro a1 h hP; exact body a1 hP (fun b1 hP2 hm => ih b1 (by omega) hP2)
  exact fun a1 => key (μ a1 + 1) a1 (Nat.lt_succ_self _)
theorem lq2 {α1 : Type} {α2 : Type} (tgt nL : Nat) (μ : α1 → α2 → Nat) (P : α1 → α2 → Prop) (L : α1 → α2 → List (Nat × Value))
    (body : ∀ (a1 : α1) (a2 : α2), P a1 a2 → (∀ (b1 : α1) (b2 : α2), P b1 b2 → μ b1 b2 < μ a1 a2 → ∀ ls : Array Slot, lv_has ls nL (L b1 b2) → W p l e R s m args below meth c H locs cells slots Q (F0 m tgt ls [])) → ∀ ls : Array Slot, lv_has ls nL (L a1 a2) → W p l e R s m args below meth c H locs cells slots Q (F0 m tgt ls [])) : ∀ (a1 : α1) (a2 : α2), P a1 a2 → ∀ ls : Array Slot, lv_has ls nL (L a1 a2) → W p l e R s m args below meth c H locs cells slots Q (F0 m tgt ls []) := by
  have key : ∀ (n : Nat) (a1 : α1) (a2 : α2), μ a1 a2 < n → P a1 a2 → ∀ ls : Array Slot, lv_has ls nL (L a1 a2) → W p l e R s m args below meth c H locs cells slots Q (F0 m tgt ls []) := by
    intro n
    induction n with
    | zero => intro a1 a2 h; exact absurd h (Nat.not_lt_zero _)
    | succ n ih => intro a1 a2 h hP; exact body a1 a2 hP (fun b1 b2 hP2 hm => ih b1 b2 (by omega) hP2)
  exact fun a1 a2 => key (μ a1 a2 + 1) a1 a2 (Nat.lt_succ_self _)
theorem lq3 {α1 : Type} {α2 : Type} {α3 : Type} (tgt nL : Nat) (μ : α1 → α2 → α3 → Nat) (P : α1 → α2 → α3 → Prop) (L : α1 → α2 → α3 → List (Nat × Value))
    (body : ∀ (a1 : α1) (a2 : α2) (a3 : α3), P a1 a2 a3 → (∀ (b1 : α1) (b2 : α2) (b3 : α3), P b1 b2 b3 → μ b1 b2 b3 < μ a1 a2 a3 → ∀ ls : Array Slot, lv_has ls nL (L b1 b2 b3) → W p l e R s m args below meth c H locs cells slots Q (F0 m tgt ls [])) → ∀ ls : Array Slot, lv_has ls nL (L a1 a2 a3) → W p l e R s m args below meth c H locs cells slots Q (F0 m tgt ls [])) : ∀ (a1 : α1) (a2 : α2) (a3 : α3), P a1 a2 a3 → ∀ ls : Array Slot, lv_has ls nL (L a1 a2 a3) → W p l e R s m args below meth c H locs cells slots Q (F0 m tgt ls []) := by
  have key : ∀ (n : Nat) (a1 : α1) (a2 : α2) (a3 : α3), μ a1 a2 a3 < n → P a1 a2 a3 → ∀ ls : Array Slot, lv_has ls nL (L a1 a2 a3) → W p l e R s m args below meth c H locs cells slots Q (F0 m tgt ls []) := by
    intro n
    induction n with
    | zero => intro a1 a2 a3 h; exact absurd h (Nat.not_lt_zero _)
    | succ n ih => intro a1 a2 a3 h hP; exact body a1 a2 a3 hP (fun b1 b2 b3 hP2 hm => ih b1 b2 b3 (by omega) hP2)
  exact fun a1 a2 a3 => key (μ a1 a2 a3 + 1) a1 a2 a3 (Nat.lt_succ_self _)
theorem lq4 {α1 : Type} {α2 : Type} {α3 : Type} {α4 : Type} (tgt nL : Nat) (μ : α1 → α2 → α3 → α4 → Nat) (P : α1 → α2 → α3 → α4 → Prop) (L : α1 → α2 → α3 → α4 → List (Nat × Value))
    (body : ∀ (a1 : α1) (a2 : α2) (a3 : α3) (a4 : α4), P a1 a2 a3 a4 → (∀ (b1 : α1) (b2 : α2) (b3 : α3) (b4 : α4), P b1 b2 b3 b4 → μ b1 b2 b3 b4 < μ a1 a2 a3 a4 → ∀ ls : Array Slot, lv_has ls nL (L b1 b2 b3 b4) → W p l e R s m args below meth c H locs cells slots Q (F0 m tgt ls [])) → ∀ ls : Array Slot, lv_has ls nL (L a1 a2 a3 a4) → W p l e R s m args below meth c H locs cells slots Q (F0 m tgt ls [])) : ∀ (a1 : α1) (a2 : α2) (a3 : α3) (a4 : α4), P a1 a2 a3 a4 → ∀ ls : Array Slot, lv_has ls nL (L a1 a2 a3 a4) → W p l e R s m args below meth c H locs cells slots Q (F0 m tgt ls []) := by
  have key : ∀ (n : Nat) (a1 : α1) (a2 : α2) (a3 : α3) (a4 : α4), μ a1 a2 a3 a4 < n → P a1 a2 a3 a4 → ∀ ls : Array Slot, lv_has ls nL (L a1 a2 a3 a4) → W p l e R s m args below meth c H locs cells slots Q (F0 m tgt ls []) := by
    intro n
    induction n with
    | zero => intro a1 a2 a3 a4 h; exact absurd h (Nat.not_lt_zero _)
    | succ n ih => intro a1 a2 a3 a4 h hP; exact body a1 a2 a3 a4 hP (fun b1 b2 b3 b4 hP2 hm => ih b1 b2 b3 b4 (by omega) hP2)
  exact fun a1 a2 a3 a4 => key (μ a1 a2 a3 a4 + 1) a1 a2 a3 a4 (Nat.lt_succ_self _)
theorem lq5 {α1 : Type} {α2 : Type} {α3 : Type} {α4 : Type} {α5 : Type} (tgt nL : Nat) (μ : α1 → α2 → α3 → α4 → α5 → Nat) (P : α1 → α2 → α3 → α4 → α5 → Prop) (L : α1 → α2 → α3 → α4 → α5 → List (Nat × Value))
    (body : ∀ (a1 : α1) (a2 : α2) (a3 : α3) (a4 : α4) (a5 : α5), P a1 a2 a3 a4 a5 → (∀ (b1 : α1) (b2 : α2) (b3 : α3) (b4 : α4) (b5 : α5), P b1 b2 b3 b4 b5 → μ b1 b2 b3 b4 b5 < μ a1 a2 a3 a4 a5 → ∀ ls : Array Slot, lv_has ls nL (L b1 b2 b3 b4 b5) → W p l e R s m args below meth c H locs cells slots Q (F0 m tgt ls [])) → ∀ ls : Array Slot, lv_has ls nL (L a1 a2 a3 a4 a5) → W p l e R s m args below meth c H locs cells slots Q (F0 m tgt ls [])) : ∀ (a1 : α1) (a2 : α2) (a3 : α3) (a4 : α4) (a5 : α5), P a1 a2 a3 a4 a5 → ∀ ls : Array Slot, lv_has ls nL (L a1 a2 a3 a4 a5) → W p l e R s m args below meth c H locs cells slots Q (F0 m tgt ls []) := by
  have key : ∀ (n : Nat) (a1 : α1) (a2 : α2) (a3 : α3) (a4 : α4) (a5 : α5), μ a1 a2 a3 a4 a5 < n → P a1 a2 a3 a4 a5 → ∀ ls : Array Slot, lv_has ls nL (L a1 a2 a3 a4 a5) → W p l e R s m args below meth c H locs cells slots Q (F0 m tgt ls []) := by
    intro n
    induction n with
    | zero => intro a1 a2 a3 a4 a5 h; exact absurd h (Nat.not_lt_zero _)
    | succ n ih => intro a1 a2 a3 a4 a5 h hP; exact body a1 a2 a3 a4 a5 hP (fun b1 b2 b3 b4 b5 hP2 hm => ih b1 b2 b3 b4 b5 (by omega) hP2)
  exact fun a1 a2 a3 a4 a5 => key (μ a1 a2 a3 a4 a5 + 1) a1 a2 a3 a4 a5 (Nat.lt_succ_self _)
theorem lq6 {α1 : Type} {α2 : Type} {α3 : Type} {α4 : Type} {α5 : Type} {α6 : Type} (tgt nL : Nat) (μ : α1 → α2 → α3 → α4 → α5 → α6 → Nat) (P : α1 → α2 → α3 → α4 → α5 → α6 → Prop) (L : α1 → α2 → α3 → α4 → α5 → α6 → List (Nat × Value))
    (body : ∀ (a1 : α1) (a2 : α2) (a3 : α3) (a4 : α4) (a5 : α5) (a6 : α6), P a1 a2 a3 a4 a5 a6 → (∀ (b1 : α1) (b2 : α2) (b3 : α3) (b4 : α4) (b5 : α5) (b6 : α6), P b1 b2 b3 b4 b5 b6 → μ b1 b2 b3 b4 b5 b6 < μ a1 a2 a3 a4 a5 a6 → ∀ ls : Array Slot, lv_has ls nL (L b1 b2 b3 b4 b5 b6) → W p l e R s m args below meth c H locs cells slots Q (F0 m tgt ls [])) → ∀ ls : Array Slot, lv_has ls nL (L a1 a2 a3 a4 a5 a6) → W p l e R s m args below meth c H locs cells slots Q (F0 m tgt ls [])) : ∀ (a1 : α1) (a2 : α2) (a3 : α3) (a4 : α4) (a5 : α5) (a6 : α6), P a1 a2 a3 a4 a5 a6 → ∀ ls : Array Slot, lv_has ls nL (L a1 a2 a3 a4 a5 a6) → W p l e R s m args below meth c H locs cells slots Q (F0 m tgt ls []) := by
  have key : ∀ (n : Nat) (a1 : α1) (a2 : α2) (a3 : α3) (a4 : α4) (a5 : α5) (a6 : α6), μ a1 a2 a3 a4 a5 a6 < n → P a1 a2 a3 a4 a5 a6 → ∀ ls : Array Slot, lv_has ls nL (L a1 a2 a3 a4 a5 a6) → W p l e R s m args below meth c H locs cells slots Q (F0 m tgt ls []) := by
    intro n
    induction n with
    | zero => intro a1 a2 a3 a4 a5 a6 h; exact absurd h (Nat.not_lt_zero _)
    | succ n ih => intro a1 a2 a3 a4 a5 a6 h hP; exact body a1 a2 a3 a4 a5 a6 hP (fun b1 b2 b3 b4 b5 b6 hP2 hm => ih b1 b2 b3 b4 b5 b6 (by omega) hP2)
  exact fun a1 a2 a3 a4 a5 a6 => key (μ a1 a2 a3 a4 a5 a6 + 1) a1 a2 a3 a4 a5 a6 (Nat.lt_succ_self _)
theorem lw1 {α1 : Type} {D : va_G} {cl : List vw_C} {A : Nat → Prop} {H0 : Heap} (tgt nL : Nat) (μ : α1 → Nat) (P : α1 → Prop) (L : α1 → List (Nat × Value)) (ws : α1 → va_W)
    (body : ∀ (a1 : α1), P a1 → (∀ (b1 : α1), P b1 → μ b1 < μ a1 → ∀ (H : Heap) (locs : List Loc), va_P D cl (ws b1) H → va_D A (ws b1) → va_S A H0 H locs → ∀ ls : Array Slot, lv_has ls nL (L b1) → W p l e R s m args below meth c H locs cells slots Q (F0 m tgt ls [])) → ∀ (H : Heap) (locs : List Loc), va_P D cl (ws a1) H → va_D A (ws a1) → va_S A H0 H locs → ∀ ls : Array Slot, lv_has ls nL (L a1) → W p l e R s m args below meth c H locs cells slots Q (F0 m tgt ls [])) : ∀ (a1 : α1), P a1 → ∀ (H : Heap) (locs : List Loc), va_P D cl (ws a1) H → va_D A (ws a1) → va_S A H0 H locs → ∀ ls : Array Slot, lv_has ls nL (L a1) → W p l e R s m args below meth c H locs cells slots Q (F0 m tgt ls []) := by
  have key : ∀ (n : Nat) (a1 : α1), μ a1 < n → P a1 → ∀ (H : Heap) (locs : List Loc), va_P D cl (ws a1) H → va_D A (ws a1) → va_S A H0 H locs → ∀ ls : Array Slot, lv_has ls nL (L a1) → W p l e R s m args below meth c H locs cells slots Q (F0 m tgt ls []) := by
    intro n
    induction n with
    | zero => intro a1 h; exact absurd h (Nat.not_lt_zero _)
    | succ n ih => intro a1 h hP; exact body a1 hP (fun b1 hP2 hm => ih b1 (by omega) hP2)
  exact fun a1 => key (μ a1 + 1) a1 (Nat.lt_succ_self _)
theorem lw2 {α1 : Type} {α2 : Type} {D : va_G} {cl : List vw_C} {A : Nat → Prop} {H0 : Heap} (tgt nL : Nat) (μ : α1 → α2 → Nat) (P : α1 → α2 → Prop) (L : α1 → α2 → List (Nat × Value)) (ws : α1 → α2 → va_W)
    (body : ∀ (a1 : α1) (a2 : α2), P a1 a2 → (∀ (b1 : α1) (b2 : α2), P b1 b2 → μ b1 b2 < μ a1 a2 → ∀ (H : Heap) (locs : List Loc), va_P D cl (ws b1 b2) H → va_D A (ws b1 b2) → va_S A H0 H locs → ∀ ls : Array Slot, lv_has ls nL (L b1 b2) → W p l e R s m args below meth c H locs cells slots Q (F0 m tgt ls [])) → ∀ (H : Heap) (locs : List Loc), va_P D cl (ws a1 a2) H → va_D A (ws a1 a2) → va_S A H0 H locs → ∀ ls : Array Slot, lv_has ls nL (L a1 a2) → W p l e R s m args below meth c H locs cells slots Q (F0 m tgt ls [])) : ∀ (a1 : α1) (a2 : α2), P a1 a2 → ∀ (H : Heap) (locs : List Loc), va_P D cl (ws a1 a2) H → va_D A (ws a1 a2) → va_S A H0 H locs → ∀ ls : Array Slot, lv_has ls nL (L a1 a2) → W p l e R s m args below meth c H locs cells slots Q (F0 m tgt ls []) := by
  have key : ∀ (n : Nat) (a1 : α1) (a2 : α2), μ a1 a2 < n → P a1 a2 → ∀ (H : Heap) (locs : List Loc), va_P D cl (ws a1 a2) H → va_D A (ws a1 a2) → va_S A H0 H locs → ∀ ls : Array Slot, lv_has ls nL (L a1 a2) → W p l e R s m args below meth c H locs cells slots Q (F0 m tgt ls []) := by
    intro n
    induction n with
    | zero => intro a1 a2 h; exact absurd h (Nat.not_lt_zero _)
    | succ n ih => intro a1 a2 h hP; exact body a1 a2 hP (fun b1 b2 hP2 hm => ih b1 b2 (by omega) hP2)
  exact fun a1 a2 => key (μ a1 a2 + 1) a1 a2 (Nat.lt_succ_self _)
theorem lw3 {α1 : Type} {α2 : Type} {α3 : Type} {D : va_G} {cl : List vw_C} {A : Nat → Prop} {H0 : Heap} (tgt nL : Nat) (μ : α1 → α2 → α3 → Nat) (P : α1 → α2 → α3 → Prop) (L : α1 → α2 → α3 → List (Nat × Value)) (ws : α1 → α2 → α3 → va_W)
    (body : ∀ (a1 : α1) (a2 : α2) (a3 : α3), P a1 a2 a3 → (∀ (b1 : α1) (b2 : α2) (b3 : α3), P b1 b2 b3 → μ b1 b2 b3 < μ a1 a2 a3 → ∀ (H : Heap) (locs : List Loc), va_P D cl (ws b1 b2 b3) H → va_D A (ws b1 b2 b3) → va_S A H0 H locs → ∀ ls : Array Slot, lv_has ls nL (L b1 b2 b3) → W p l e R s m args below meth c H locs cells slots Q (F0 m tgt ls [])) → ∀ (H : Heap) (locs : List Loc), va_P D cl (ws a1 a2 a3) H → va_D A (ws a1 a2 a3) → va_S A H0 H locs → ∀ ls : Array Slot, lv_has ls nL (L a1 a2 a3) → W p l e R s m args below meth c H locs cells slots Q (F0 m tgt ls [])) : ∀ (a1 : α1) (a2 : α2) (a3 : α3), P a1 a2 a3 → ∀ (H : Heap) (locs : List Loc), va_P D cl (ws a1 a2 a3) H → va_D A (ws a1 a2 a3) → va_S A H0 H locs → ∀ ls : Array Slot, lv_has ls nL (L a1 a2 a3) → W p l e R s m args below meth c H locs cells slots Q (F0 m tgt ls []) := by
  have key : ∀ (n : Nat) (a1 : α1) (a2 : α2) (a3 : α3), μ a1 a2 a3 < n → P a1 a2 a3 → ∀ (H : Heap) (locs : List Loc), va_P D cl (ws a1 a2 a3) H → va_D A (ws a1 a2 a3) → va_S A H0 H locs → ∀ ls : Array Slot, lv_has ls nL (L a1 a2 a3) → W p l e R s m args below meth c H locs cells slots Q (F0 m tgt ls []) := by
    intro n
    induction n with
    | zero => intro a1 a2 a3 h; exact absurd h (Nat.not_lt_zero _)
    | succ n ih => intro a1 a2 a3 h hP; exact body a1 a2 a3 hP (fun b1 b2 b3 hP2 hm => ih b1 b2 b3 (by omega) hP2)
  exact fun a1 a2 a3 => key (μ a1 a2 a3 + 1) a1 a2 a3 (Nat.lt_succ_self _)
theorem lw4 {α1 : Type} {α2 : Type} {α3 : Type} {α4 : Type} {D : va_G} {cl : List vw_C} {A : Nat → Prop} {H0 : Heap} (tgt nL : Nat) (μ : α1 → α2 → α3 → α4 → Nat) (P : α1 → α2 → α3 → α4 → Prop) (L : α1 → α2 → α3 → α4 → List (Nat × Value)) (ws : α1 → α2 → α3 → α4 → va_W)
    (body : ∀ (a1 : α1) (a2 : α2) (a3 : α3) (a4 : α4), P a1 a2 a3 a4 → (∀ (b1 : α1) (b2 : α2) (b3 : α3) (b4 : α4), P b1 b2 b3 b4 → μ b1 b2 b3 b4 < μ a1 a2 a3 a4 → ∀ (H : Heap) (locs : List Loc), va_P D cl (ws b1 b2 b3 b4) H → va_D A (ws b1 b2 b3 b4) → va_S A H0 H locs → ∀ ls : Array Slot, lv_has ls nL (L b1 b2 b3 b4) → W p l e R s m args below meth c H locs cells slots Q (F0 m tgt ls [])) → ∀ (H : Heap) (locs : List Loc), va_P D cl (ws a1 a2 a3 a4) H → va_D A (ws a1 a2 a3 a4) → va_S A H0 H locs → ∀ ls : Array Slot, lv_has ls nL (L a1 a2 a3 a4) → W p l e R s m args below meth c H locs cells slots Q (F0 m tgt ls [])) : ∀ (a1 : α1) (a2 : α2) (a3 : α3) (a4 : α4), P a1 a2 a3 a4 → ∀ (H : Heap) (locs : List Loc), va_P D cl (ws a1 a2 a3 a4) H → va_D A (ws a1 a2 a3 a4) → va_S A H0 H locs → ∀ ls : Array Slot, lv_has ls nL (L a1 a2 a3 a4) → W p l e R s m args below meth c H locs cells slots Q (F0 m tgt ls []) := by
  have key : ∀ (n : Nat) (a1 : α1) (a2 : α2) (a3 : α3) (a4 : α4), μ a1 a2 a3 a4 < n → P a1 a2 a3 a4 → ∀ (H : Heap) (locs : List Loc), va_P D cl (ws a1 a2 a3 a4) H → va_D A (ws a1 a2 a3 a4) → va_S A H0 H locs → ∀ ls : Array Slot, lv_has ls nL (L a1 a2 a3 a4) → W p l e R s m args below meth c H locs cells slots Q (F0 m tgt ls []) := by
    intro n
    induction n with
    | zero => intro a1 a2 a3 a4 h; exact absurd h (Nat.not_lt_zero _)
    | succ n ih => intro a1 a2 a3 a4 h hP; exact body a1 a2 a3 a4 hP (fun b1 b2 b3 b4 hP2 hm => ih b1 b2 b3 b4 (by omega) hP2)
  exact fun a1 a2 a3 a4 => key (μ a1 a2 a3 a4 + 1) a1 a2 a3 a4 (Nat.lt_succ_self _)
theorem lw5 {α1 : Type} {α2 : Type} {α3 : Type} {α4 : Type} {α5 : Type} {D : va_G} {cl : List vw_C} {A : Nat → Prop} {H0 : Heap} (tgt nL : Nat) (μ : α1 → α2 → α3 → α4 → α5 → Nat) (P : α1 → α2 → α3 → α4 → α5 → Prop) (L : α1 → α2 → α3 → α4 → α5 → List (Nat × Value)) (ws : α1 → α2 → α3 → α4 → α5 → va_W)
    (body : ∀ (a1 : α1) (a2 : α2) (a3 : α3) (a4 : α4) (a5 : α5), P a1 a2 a3 a4 a5 → (∀ (b1 : α1) (b2 : α2) (b3 : α3) (b4 : α4) (b5 : α5), P b1 b2 b3 b4 b5 → μ b1 b2 b3 b4 b5 < μ a1 a2 a3 a4 a5 → ∀ (H : Heap) (locs : List Loc), va_P D cl (ws b1 b2 b3 b4 b5) H → va_D A (ws b1 b2 b3 b4 b5) → va_S A H0 H locs → ∀ ls : Array Slot, lv_has ls nL (L b1 b2 b3 b4 b5) → W p l e R s m args below meth c H locs cells slots Q (F0 m tgt ls [])) → ∀ (H : Heap) (locs : List Loc), va_P D cl (ws a1 a2 a3 a4 a5) H → va_D A (ws a1 a2 a3 a4 a5) → va_S A H0 H locs → ∀ ls : Array Slot, lv_has ls nL (L a1 a2 a3 a4 a5) → W p l e R s m args below meth c H locs cells slots Q (F0 m tgt ls [])) : ∀ (a1 : α1) (a2 : α2) (a3 : α3) (a4 : α4) (a5 : α5), P a1 a2 a3 a4 a5 → ∀ (H : Heap) (locs : List Loc), va_P D cl (ws a1 a2 a3 a4 a5) H → va_D A (ws a1 a2 a3 a4 a5) → va_S A H0 H locs → ∀ ls : Array Slot, lv_has ls nL (L a1 a2 a3 a4 a5) → W p l e R s m args below meth c H locs cells slots Q (F0 m tgt ls []) := by
  have key : ∀ (n : Nat) (a1 : α1) (a2 : α2) (a3 : α3) (a4 : α4) (a5 : α5), μ a1 a2 a3 a4 a5 < n → P a1 a2 a3 a4 a5 → ∀ (H : Heap) (locs : List Loc), va_P D cl (ws a1 a2 a3 a4 a5) H → va_D A (ws a1 a2 a3 a4 a5) → va_S A H0 H locs → ∀ ls : Array Slot, lv_has ls nL (L a1 a2 a3 a4 a5) → W p l e R s m args below meth c H locs cells slots Q (F0 m tgt ls []) := by
    intro n
    induction n with
    | zero => intro a1 a2 a3 a4 a5 h; exact absurd h (Nat.not_lt_zero _)
    | succ n ih => intro a1 a2 a3 a4 a5 h hP; exact body a1 a2 a3 a4 a5 hP (fun b1 b2 b3 b4 b5 hP2 hm => ih b1 b2 b3 b4 b5 (by omega) hP2)
  exact fun a1 a2 a3 a4 a5 => key (μ a1 a2 a3 a4 a5 + 1) a1 a2 a3 a4 a5 (Nat.lt_succ_self _)
theorem lw6 {α1 : Type} {α2 : Type} {α3 : Type} {α4 : Type} {α5 : Type} {α6 : Type} {D : va_G} {cl : List vw_C} {A : Nat → Prop} {H0 : Heap} (tgt nL : Nat) (μ : α1 → α2 → α3 → α4 → α5 → α6 → Nat) (P : α1 → α2 → α3 → α4 → α5 → α6 → Prop) (L : α1 → α2 → α3 → α4 → α5 → α6 → List (Nat × Value)) (ws : α1 → α2 → α3 → α4 → α5 → α6 → va_W)
    (body : ∀ (a1 : α1) (a2 : α2) (a3 : α3) (a4 : α4) (a5 : α5) (a6 : α6), P a1 a2 a3 a4 a5 a6 → (∀ (b1 : α1) (b2 : α2) (b3 : α3) (b4 : α4) (b5 : α5) (b6 : α6), P b1 b2 b3 b4 b5 b6 → μ b1 b2 b3 b4 b5 b6 < μ a1 a2 a3 a4 a5 a6 → ∀ (H : Heap) (locs : List Loc), va_P D cl (ws b1 b2 b3 b4 b5 b6) H → va_D A (ws b1 b2 b3 b4 b5 b6) → va_S A H0 H locs → ∀ ls : Array Slot, lv_has ls nL (L b1 b2 b3 b4 b5 b6) → W p l e R s m args below meth c H locs cells slots Q (F0 m tgt ls [])) → ∀ (H : Heap) (locs : List Loc), va_P D cl (ws a1 a2 a3 a4 a5 a6) H → va_D A (ws a1 a2 a3 a4 a5 a6) → va_S A H0 H locs → ∀ ls : Array Slot, lv_has ls nL (L a1 a2 a3 a4 a5 a6) → W p l e R s m args below meth c H locs cells slots Q (F0 m tgt ls [])) : ∀ (a1 : α1) (a2 : α2) (a3 : α3) (a4 : α4) (a5 : α5) (a6 : α6), P a1 a2 a3 a4 a5 a6 → ∀ (H : Heap) (locs : List Loc), va_P D cl (ws a1 a2 a3 a4 a5 a6) H → va_D A (ws a1 a2 a3 a4 a5 a6) → va_S A H0 H locs → ∀ ls : Array Slot, lv_has ls nL (L a1 a2 a3 a4 a5 a6) → W p l e R s m args below meth c H locs cells slots Q (F0 m tgt ls []) := by
  have key : ∀ (n : Nat) (a1 : α1) (a2 : α2) (a3 : α3) (a4 : α4) (a5 : α5) (a6 : α6), μ a1 a2 a3 a4 a5 a6 < n → P a1 a2 a3 a4 a5 a6 → ∀ (H : Heap) (locs : List Loc), va_P D cl (ws a1 a2 a3 a4 a5 a6) H → va_D A (ws a1 a2 a3 a4 a5 a6) → va_S A H0 H locs → ∀ ls : Array Slot, lv_has ls nL (L a1 a2 a3 a4 a5 a6) → W p l e R s m args below meth c H locs cells slots Q (F0 m tgt ls []) := by
    intro n
    induction n with
    | zero => intro a1 a2 a3 a4 a5 a6 h; exact absurd h (Nat.not_lt_zero _)
    | succ n ih => intro a1 a2 a3 a4 a5 a6 h hP; exact body a1 a2 a3 a4 a5 a6 hP (fun b1 b2 b3 b4 b5 b6 hP2 hm => ih b1 b2 b3 b4 b5 b6 (by omega) hP2)
  exact fun a1 a2 a3 a4 a5 a6 => key (μ a1 a2 a3 a4 a5 a6 + 1) a1 a2 a3 a4 a5 a6 (Nat.lt_succ_self _)
theorem rt_i {post : Int32 → Prop} (hx : p.tables.exec = Jvm.exec) (hb : c.code = cc) (hr : meth.sig.returnType = some .int) (hlk : meth.locks = false) {v : Int32} (hd : decode cc pc = .ok (.ireturn, 1)) (hp : post v) : W p l e R s m args below meth c s.heap [] 0 0 (MQ below (vp_Si post) args s 0 0 (fun _ => False)) (F0 m pc ls [.int v]) :=
  W.iret (free := fun _ => False) (Qc := vp_Si post) hx hb hr (fun t ht _ => ⟨v, rfl, hp, ht⟩) (fun q h => absurd h List.not_mem_nil) hd hlk
theorem rt_l {post : Int64 → Prop} (hx : p.tables.exec = Jvm.exec) (hb : c.code = cc) (hr : meth.sig.returnType = some .long) (hlk : meth.locks = false) {v : Int64} (hd : decode cc pc = .ok (.lreturn, 1)) (hp : post v) : W p l e R s m args below meth c s.heap [] 0 0 (MQ below (vp_Sl post) args s 0 0 (fun _ => False)) (F0 m pc ls [.long v]) :=
  W.lret (free := fun _ => False) (Qc := vp_Sl post) hx hb hr (fun t ht _ => ⟨v, rfl, hp, ht⟩) (fun q h => absurd h List.not_mem_nil) hd hlk
theorem rt_z {post : Int32 → Prop} (hx : p.tables.exec = Jvm.exec) (hb : c.code = cc) (hr : meth.sig.returnType = some .boolean) (hlk : meth.locks = false) {v : Int32} (hn : narrow .boolean (.int v) = .int v) (hd : decode cc pc = .ok (.ireturn, 1)) (hp : post v) : W p l e R s m args below meth c s.heap [] 0 0 (MQ below (vp_Si post) args s 0 0 (fun _ => False)) (F0 m pc ls [.int v]) :=
  W.zret (free := fun _ => False) (Qc := vp_Si post) hx hb hr hn (fun t ht _ => ⟨v, rfl, hp, ht⟩) (fun q h => absurd h List.not_mem_nil) hd hlk
end BR
theorem pm {l : Launch} {y : MethodName} {cc : ByteArray} {maxL : Nat} {ret : Option FieldType} {rm : Room} {B : State → Prop} {Qc : Array Value → State → Outcome → State → Prop} {mc ms : Nat} {free : Addr → Prop} (av : List Value) (hy : plainFor y = true) (hn : (lg_sl av).length ≤ maxL)
    (body : ∀ (p : Program) (e : Env) (s : State) (m : MethodId) (below : List Frame) (meth : Method) (c : Code) (ls : Array Slot), p.tables.exec = Jvm.exec → c.code = cc → meth.sig.returnType = ret → c.maxLocals = maxL → s.vm.findClass y.cls = some m.cls → (∀ w ∈ lw_gd, w.before av.toArray s = true) → meth.locks = false → meth.name = y.name → B s → lv_has ls maxL (lv_args 0 av) →
      W p l e rm s m av.toArray below meth c s.heap [] 0 0 (MQ below Qc av.toArray s mc ms free) (F0 m 0 ls [])) : Met l y (Cond.code y cc maxL ret :: lw_gd) rm (va_Pc av B) Qc mc ms free := by
  refine va_MetF (cc := cc) (maxL := maxL) (ret := ret) hy rfl ?_
  intro p e s m args below meth c s₁ B0 hml hv
  obtain ⟨rfl, hB⟩ := hv
  have hts := atoms_spec (ws := Cond.code y cc maxL ret :: lw_gd) B0.pre
  have hl := lv_entry av (n := maxL) hn
  rw [lg_entry_eq]
  exact body p e s m below meth c _ B0.exec B0.bytes B0.returns hml (findClass_of_methodNamed B0.named) (fun w h => hts w (List.mem_cons_of_mem _ h)) B0.notSynchronized (name_of_methodNamed B0.named B0.method).1 hB hl
theorem gi_S {own : String} {idx : Nat} {y : MethodName} {cw : Cond} (h1 : Cond.methodLink own idx y ∈ lw_gd) (h2 : Cond.static y ∈ lw_gd) (h3 : Cond.initialized y.cls ∈ lw_gd) (h4 : cw ∈ lw_gd) : GoodIn lw_gd (va_wsS own idx y (cw :: lw_gd)) := by
  have key : ∀ w ∈ va_wsS own idx y (cw :: lw_gd), w ∈ lw_gd := by
    intro w hw
    simp only [va_wsS, List.mem_append, List.mem_cons, List.not_mem_nil, or_false] at hw
    rcases hw with (rfl | rfl | rfl) | rfl | h
    · exact h1
    · exact h2
    · exact h3
    · exact h4
    · exact h
  exact fun w hw => ⟨key w hw, gd_good (key w hw)⟩
theorem gi_V {own C : String} {idx : Nat} {y : MethodName} {cw : Cond} (h1 : Cond.methodLink own idx y ∈ lw_gd) (h2 : Cond.instanceMethod y ∈ lw_gd) (h3 : Cond.selects C y y ∈ lw_gd) (h4 : Cond.initialized C ∈ lw_gd) (h5 : cw ∈ lw_gd) : GoodIn lw_gd (wsV own idx C y (cw :: lw_gd)) := by
  have key : ∀ w ∈ wsV own idx C y (cw :: lw_gd), w ∈ lw_gd := by
    intro w hw
    simp only [wsV, List.mem_append, List.mem_cons, List.not_mem_nil, or_false] at hw
    rcases hw with (rfl | rfl | rfl | rfl) | rfl | h
    · exact h1
    · exact h2
    · exact h3
    · exact h4
    · exact h5
    · exact h
  exact fun w hw => ⟨key w hw, gd_good (key w hw)⟩
theorem gi_w {cw : Cond} (h5 : cw ∈ lw_gd) : GoodIn lw_gd (cw :: lw_gd) := by
  have key : ∀ w ∈ cw :: lw_gd, w ∈ lw_gd := by
    intro w hw
    rcases List.mem_cons.mp hw with rfl | h
    · exact h5
    · exact h
  exact fun w hw => ⟨key w hw, gd_good (key w hw)⟩
section BC
variable {p : Program} {l : Launch} {e : Env} {R : Room} {s : State} {m : MethodId} {args : Array Value} {below : List Frame} {meth : Method} {c : Code} {H : Heap} {locs : List Loc} {cells slots : Nat} {Q : State → Prop}
variable {cc : ByteArray} {pc : Nat} {ls : Array Slot} {rest st0 : List Value}
/-- a call of a static method that only computes -/
theorem cs_i {y : MethodName} {bytes : ByteArray} {maxL nL index : Nat} {ret : Option FieldType} {rm : Room} {own : String} {post : Int32 → Prop} (As : List Value) (n : Nat) (hn : As.length = n) (hx : p.tables.exec = Jvm.exec) (hb : c.code = cc) (hml : c.maxLocals = nL) (hown : s.vm.findClass own = some m.cls) (hg : ∀ w ∈ lw_gd, w.before args s = true) (hM : Met l y (Cond.code y bytes maxL ret :: lw_gd) rm (va_Pc As (fun _ => True)) (vp_Si post) 0 0 (fun _ => False))
    (h1 : Cond.methodLink own index y ∈ lw_gd) (h2 : Cond.static y ∈ lw_gd) (h3 : Cond.initialized y.cls ∈ lw_gd) (h4 : Cond.code y bytes maxL ret ∈ lw_gd) (hd : y.cls ≠ "java/lang/invoke/MethodHandle" ∧ y.cls ≠ "java/lang/invoke/VarHandle" ∧ (parseMethodDescriptor y.desc).map (fun d => d.parameters.length) = some n)
    (hsz : ls.size = nL) (hc : rm.cells = 0) (hs : rm.slots = 0) (hR : rm.frames + 1 ≤ R.frames ∧ 8 + (maxL + 11) + rm.locals ≤ R.locals) (hst : st0 = As.reverse ++ rest) (hW : (rest.map fun v => v.category).sum ≤ 8) (hf : cells ≤ R.cells ∧ slots ≤ R.slots) (hdg : decode cc pc = .ok (.invokestatic index, 3))
    (kk : ∀ r : Int32, post r → W p l e R s m args below meth c H locs cells slots Q (F0 m (pc + 3) ls (.int r :: rest))) : W p l e R s m args below meth c H locs cells slots Q (F0 m pc ls st0) := by
  intro T hT X
  obtain ⟨v, st₀, t, T', L, h0, X', hL, e1, ⟨r, hv, hp, hh⟩, st⟩ := W.runS (As := As) (rest := rest) (g := F0 m pc ls st0) ⟨hx, hb, hml, hown, hg⟩ hM (va_cwS n hg (gi_S h1 h2 h3 h4) rfl hc hs hd hR) ⟨fun a U g mk q => ⟨q.1, trivial⟩, fun U hU hW => ⟨rfl, trivial⟩⟩ rfl hn hsz hst (lv_room hW) hdg hf T hT X
  cases hv
  obtain ⟨t2, a1, b1⟩ := kk r hp T' (by rw [e1, hh, h0]) (Stand.forget X' (fun q h => (hL q h).elim))
  exact ⟨t2, st t2 a1, b1⟩
/-- a call of a method of an object that only computes -/
theorem cv_i {y : MethodName} {bytes : ByteArray} {maxL nL index : Nat} {ret : Option FieldType} {rm : Room} {own C : String} {b : Nat} {post : Int32 → Prop} (As : List Value) (n : Nat) (hn : As.length = n) (hx : p.tables.exec = Jvm.exec) (hb : c.code = cc) (hml : c.maxLocals = nL) (hown : s.vm.findClass own = some m.cls) (hg : ∀ w ∈ lw_gd, w.before args s = true) (hM : Met l y (Cond.code y bytes maxL ret :: lw_gd) rm (va_Pc (.ref b :: As) (fun _ => True)) (vp_Si post) 0 0 (fun _ => False))
    (hrc : ∃ cell : Cell, H[b]? = some cell ∧ cell.vm.isStatics = false ∧ s.vm.findClass C = some cell.cls) (h1 : Cond.methodLink own index y ∈ lw_gd) (h2 : Cond.instanceMethod y ∈ lw_gd) (h3 : Cond.selects C y y ∈ lw_gd) (h4 : Cond.initialized C ∈ lw_gd) (h5 : Cond.code y bytes maxL ret ∈ lw_gd) (hd : y.cls = C ∧ y.cls ≠ "java/lang/invoke/MethodHandle" ∧ y.cls ≠ "java/lang/invoke/VarHandle" ∧ (parseMethodDescriptor y.desc).map (fun d => d.parameters.length) = some n)
    (hsz : ls.size = nL) (hc : rm.cells = 0) (hs : rm.slots = 0) (hR : rm.frames + 1 ≤ R.frames ∧ 8 + (maxL + 11) + rm.locals ≤ R.locals) (hst : st0 = As.reverse ++ .ref b :: rest) (hW : (rest.map fun v => v.category).sum ≤ 8) (hf : cells ≤ R.cells ∧ slots ≤ R.slots) (hdg : decode cc pc = .ok (.invokevirtual index, 3))
    (kk : ∀ r : Int32, post r → W p l e R s m args below meth c H locs cells slots Q (F0 m (pc + 3) ls (.int r :: rest))) : W p l e R s m args below meth c H locs cells slots Q (F0 m pc ls st0) := by
  intro T hT X
  obtain ⟨v, st₀, t, T', L, h0, X', hL, e1, ⟨r, hv, hp, hh⟩, st⟩ := W.runV (As := As) (rest := rest) (C := C) (g := F0 m pc ls st0) ⟨hx, hb, hml, hown, hg⟩ hM (cwV n hg (gi_V h1 h2 h3 h4 h5) rfl hc hs hd hR) ⟨fun a U g mk q => ⟨q.1, trivial⟩, hrc, fun U hU hW => ⟨rfl, trivial⟩⟩ rfl hn hsz hst (lv_room hW) hdg hf T hT X
  cases hv
  obtain ⟨t2, a1, b1⟩ := kk r hp T' (by rw [e1, hh, h0]) (Stand.forget X' (fun q h => (hL q h).elim))
  exact ⟨t2, st t2 a1, b1⟩
/-- a call of a static method that only computes -/
theorem cs_l {y : MethodName} {bytes : ByteArray} {maxL nL index : Nat} {ret : Option FieldType} {rm : Room} {own : String} {post : Int64 → Prop} (As : List Value) (n : Nat) (hn : As.length = n) (hx : p.tables.exec = Jvm.exec) (hb : c.code = cc) (hml : c.maxLocals = nL) (hown : s.vm.findClass own = some m.cls) (hg : ∀ w ∈ lw_gd, w.before args s = true) (hM : Met l y (Cond.code y bytes maxL ret :: lw_gd) rm (va_Pc As (fun _ => True)) (vp_Sl post) 0 0 (fun _ => False))
    (h1 : Cond.methodLink own index y ∈ lw_gd) (h2 : Cond.static y ∈ lw_gd) (h3 : Cond.initialized y.cls ∈ lw_gd) (h4 : Cond.code y bytes maxL ret ∈ lw_gd) (hd : y.cls ≠ "java/lang/invoke/MethodHandle" ∧ y.cls ≠ "java/lang/invoke/VarHandle" ∧ (parseMethodDescriptor y.desc).map (fun d => d.parameters.length) = some n)
    (hsz : ls.size = nL) (hc : rm.cells = 0) (hs : rm.slots = 0) (hR : rm.frames + 1 ≤ R.frames ∧ 8 + (maxL + 11) + rm.locals ≤ R.locals) (hst : st0 = As.reverse ++ rest) (hW : (rest.map fun v => v.category).sum ≤ 8) (hf : cells ≤ R.cells ∧ slots ≤ R.slots) (hdg : decode cc pc = .ok (.invokestatic index, 3))
    (kk : ∀ r : Int64, post r → W p l e R s m args below meth c H locs cells slots Q (F0 m (pc + 3) ls (.long r :: rest))) : W p l e R s m args below meth c H locs cells slots Q (F0 m pc ls st0) := by
  intro T hT X
  obtain ⟨v, st₀, t, T', L, h0, X', hL, e1, ⟨r, hv, hp, hh⟩, st⟩ := W.runS (As := As) (rest := rest) (g := F0 m pc ls st0) ⟨hx, hb, hml, hown, hg⟩ hM (va_cwS n hg (gi_S h1 h2 h3 h4) rfl hc hs hd hR) ⟨fun a U g mk q => ⟨q.1, trivial⟩, fun U hU hW => ⟨rfl, trivial⟩⟩ rfl hn hsz hst (lv_room hW) hdg hf T hT X
  cases hv
  obtain ⟨t2, a1, b1⟩ := kk r hp T' (by rw [e1, hh, h0]) (Stand.forget X' (fun q h => (hL q h).elim))
  exact ⟨t2, st t2 a1, b1⟩
/-- a call of a method of an object that only computes -/
theorem cv_l {y : MethodName} {bytes : ByteArray} {maxL nL index : Nat} {ret : Option FieldType} {rm : Room} {own C : String} {b : Nat} {post : Int64 → Prop} (As : List Value) (n : Nat) (hn : As.length = n) (hx : p.tables.exec = Jvm.exec) (hb : c.code = cc) (hml : c.maxLocals = nL) (hown : s.vm.findClass own = some m.cls) (hg : ∀ w ∈ lw_gd, w.before args s = true) (hM : Met l y (Cond.code y bytes maxL ret :: lw_gd) rm (va_Pc (.ref b :: As) (fun _ => True)) (vp_Sl post) 0 0 (fun _ => False))
    (hrc : ∃ cell : Cell, H[b]? = some cell ∧ cell.vm.isStatics = false ∧ s.vm.findClass C = some cell.cls) (h1 : Cond.methodLink own index y ∈ lw_gd) (h2 : Cond.instanceMethod y ∈ lw_gd) (h3 : Cond.selects C y y ∈ lw_gd) (h4 : Cond.initialized C ∈ lw_gd) (h5 : Cond.code y bytes maxL ret ∈ lw_gd) (hd : y.cls = C ∧ y.cls ≠ "java/lang/invoke/MethodHandle" ∧ y.cls ≠ "java/lang/invoke/VarHandle" ∧ (parseMethodDescriptor y.desc).map (fun d => d.parameters.length) = some n)
    (hsz : ls.size = nL) (hc : rm.cells = 0) (hs : rm.slots = 0) (hR : rm.frames + 1 ≤ R.frames ∧ 8 + (maxL + 11) + rm.locals ≤ R.locals) (hst : st0 = As.reverse ++ .ref b :: rest) (hW : (rest.map fun v => v.category).sum ≤ 8) (hf : cells ≤ R.cells ∧ slots ≤ R.slots) (hdg : decode cc pc = .ok (.invokevirtual index, 3))
    (kk : ∀ r : Int64, post r → W p l e R s m args below meth c H locs cells slots Q (F0 m (pc + 3) ls (.long r :: rest))) : W p l e R s m args below meth c H locs cells slots Q (F0 m pc ls st0) := by
  intro T hT X
  obtain ⟨v, st₀, t, T', L, h0, X', hL, e1, ⟨r, hv, hp, hh⟩, st⟩ := W.runV (As := As) (rest := rest) (C := C) (g := F0 m pc ls st0) ⟨hx, hb, hml, hown, hg⟩ hM (cwV n hg (gi_V h1 h2 h3 h4 h5) rfl hc hs hd hR) ⟨fun a U g mk q => ⟨q.1, trivial⟩, hrc, fun U hU hW => ⟨rfl, trivial⟩⟩ rfl hn hsz hst (lv_room hW) hdg hf T hT X
  cases hv
  obtain ⟨t2, a1, b1⟩ := kk r hp T' (by rw [e1, hh, h0]) (Stand.forget X' (fun q h => (hL q h).elim))
  exact ⟨t2, st t2 a1, b1⟩
end BC
end
section
def uN (x : Int64) : Nat := x.toUInt64.toNat
theorem uN_lt (x : Int64) : uN x < 18446744073709551616 := x.toUInt64.toNat_lt
theorem uN_inj {x y : Int64} (h : uN x = uN y) : x = y := congrArg UInt64.toInt64 (UInt64.toNat_inj.mp h)
theorem uN_add (x y : Int64) : uN (x + y) = (uN x + uN y) % 18446744073709551616 := by
  show (x.toUInt64 + y.toUInt64).toNat = _
  exact UInt64.toNat_add _ _
theorem uN_mul (x y : Int64) : uN (x * y) = (uN x * uN y) % 18446744073709551616 := by
  show (x.toUInt64 * y.toUInt64).toNat = _
  exact UInt64.toNat_mul _ _
theorem uN_shl (x : Int64) : uN (x <<< ((1 : Int32).toInt64 &&& 63)) = (2 * uN x) % 18446744073709551616 := by
  have h : (((1 : Int32).toInt64 &&& 63).toBitVec.smod 64).toNat = 1 := by decide
  show (x.toBitVec <<< (((1 : Int32).toInt64 &&& 63).toBitVec.smod 64).toNat).toNat = _
  rw [h, BitVec.toNat_shiftLeft, Nat.shiftLeft_eq, Nat.mul_comm]
  rfl
theorem uN_shr (x : Int64) (s : UInt64) : uN (x.toUInt64 >>> s).toInt64 = uN x / 2 ^ (s.toNat % 64) := by
  show (x.toUInt64 >>> s).toNat = _
  rw [UInt64.toNat_shiftRight, Nat.shiftRight_eq_div_pow]
  rfl
theorem uN_s32 (x : Int64) : uN (x.toUInt64 >>> ((32 : Int32).toInt64.toUInt64 &&& Int64.toUInt64 63)).toInt64 = uN x / 4294967296 := by
  have h : ((32 : Int32).toInt64.toUInt64 &&& Int64.toUInt64 63).toNat % 64 = 32 := by decide
  rw [uN_shr, h]
theorem uN_s63 (x : Int64) : uN (x.toUInt64 >>> ((63 : Int32).toInt64.toUInt64 &&& Int64.toUInt64 63)).toInt64 = uN x / 9223372036854775808 := by
  have h : ((63 : Int32).toInt64.toUInt64 &&& Int64.toUInt64 63).toNat % 64 = 63 := by decide
  rw [uN_shr, h]
theorem uN_lo (x : Int64) : uN (x &&& 4294967295) = uN x % 4294967296 := by
  show (x.toUInt64 &&& Int64.toUInt64 4294967295).toNat = _
  rw [UInt64.toNat_and]
  exact Nat.and_two_pow_sub_one_eq_mod _ 32
theorem uN_bit (x : Int64) : (x &&& 1) = 0 ↔ uN x % 2 = 0 := by
  have h : uN (x &&& 1) = uN x % 2 := by
    show (x.toUInt64 &&& Int64.toUInt64 1).toNat = _
    rw [UInt64.toNat_and]
    exact Nat.and_two_pow_sub_one_eq_mod _ 1
  rw [← h]
  exact ⟨fun z => by rw [z]; rfl, fun z => uN_inj (z.trans rfl)⟩
theorem uN_or {x y : Int64} (hy : uN y < 2) : uN ((x <<< ((1 : Int32).toInt64 &&& 63)) ||| y) = (2 * uN x) % 18446744073709551616 + uN y := by
  have h1 : uN ((x <<< ((1 : Int32).toInt64 &&& 63)) ||| y) = uN (x <<< ((1 : Int32).toInt64 &&& 63)) ||| uN y := UInt64.toNat_or _ _
  have h2 : (2 * uN x) % 18446744073709551616 = 2 ^ 1 * (uN x % 9223372036854775808) := by omega
  rw [h1, uN_shl, h2]
  exact (Nat.two_pow_add_eq_or_of_lt (i := 1) hy _).symm
theorem nat_xor {a : Nat} (h : a < 18446744073709551616) : a ^^^ 2 ^ 63 = (a + 9223372036854775808) % 18446744073709551616 := by
  have h1 : (a ^^^ 2 ^ 63) % 2 ^ 63 = a % 2 ^ 63 := by rw [Nat.xor_mod_two_pow, Nat.mod_self, Nat.xor_zero]
  have h2 : (a ^^^ 2 ^ 63) / 2 ^ 63 = (a / 2 ^ 63) ^^^ 1 := by rw [Nat.xor_div_two_pow, Nat.div_self (Nat.two_pow_pos 63)]
  have h3 : a / 2 ^ 63 = 0 ∨ a / 2 ^ 63 = 1 := by omega
  generalize a ^^^ 2 ^ 63 = t at h1 h2
  rcases h3 with h3 | h3
  · rw [h3] at h2
    have h2 : t / 2 ^ 63 = 1 := h2
    omega
  · rw [h3] at h2
    have h2 : t / 2 ^ 63 = 0 := h2
    omega
theorem uN_xor (x : Int64) : uN (x ^^^ (-9223372036854775808)) = (uN x + 9223372036854775808) % 18446744073709551616 := by
  rw [← nat_xor (uN_lt x)]
  exact UInt64.toNat_xor _ _
theorem uN_int (x : Int64) : x.toInt = if 2 * uN x < 18446744073709551616 then (uN x : Int) else (uN x : Int) - 18446744073709551616 := BitVec.toInt_eq_toNat_cond _
theorem uN_le (x y : Int64) : (x ^^^ (-9223372036854775808)) ≤ (y ^^^ (-9223372036854775808)) ↔ uN x ≤ uN y := by
  have hx := uN_lt x
  have hy := uN_lt y
  rw [Int64.le_iff_toInt_le, uN_int, uN_int, uN_xor, uN_xor]
  omega
theorem uN_sk (x : Int64) {k : Nat} (hk : k < 64) : uN (x.toUInt64 >>> ((nI k).toInt64.toUInt64 &&& Int64.toUInt64 63)).toInt64 = uN x / 2 ^ k := by
  have h : ((nI k).toInt64.toUInt64 &&& Int64.toUInt64 63).toNat % 64 = k := by
    rw [nI_l (by omega), UInt64.toNat_and]
    have e : (lN k).toUInt64.toNat = k % 2 ^ 64 := rfl
    have e2 : (Int64.toUInt64 63).toNat = 2 ^ 6 - 1 := by decide
    rw [e, e2, Nat.and_two_pow_sub_one_eq_mod]
    omega
  rw [uN_shr, h]
theorem bm64 {n : Int} (h1 : -9223372036854775808 ≤ n) (h2 : n < 9223372036854775808) : n.bmod (2 ^ 64) = n := Int.bmod_eq_of_le (by omega) (by omega)
theorem bm32 {n : Int} (h1 : -2147483648 ≤ n) (h2 : n < 2147483648) : n.bmod (2 ^ 32) = n := Int.bmod_eq_of_le (by omega) (by omega)
theorem lb (x : Int64) : -9223372036854775808 ≤ x.toInt ∧ x.toInt < 9223372036854775808 := ⟨x.le_toInt, x.toInt_lt⟩
theorem ib (x : Int32) : -2147483648 ≤ x.toInt ∧ x.toInt < 2147483648 := ⟨x.le_toInt, x.toInt_lt⟩
theorem l_add {x y : Int64} (h1 : -9223372036854775808 ≤ x.toInt + y.toInt) (h2 : x.toInt + y.toInt < 9223372036854775808) : (x + y).toInt = x.toInt + y.toInt := by rw [Int64.toInt_add, bm64 h1 h2]
theorem l_sub {x y : Int64} (h1 : -9223372036854775808 ≤ x.toInt - y.toInt) (h2 : x.toInt - y.toInt < 9223372036854775808) : (x - y).toInt = x.toInt - y.toInt := by rw [Int64.toInt_sub, bm64 h1 h2]
theorem l_mul {x y : Int64} (h1 : -9223372036854775808 ≤ x.toInt * y.toInt) (h2 : x.toInt * y.toInt < 9223372036854775808) : (x * y).toInt = x.toInt * y.toInt := by rw [Int64.toInt_mul, bm64 h1 h2]
theorem l_neg {x : Int64} (h : ¬ x.toInt = -9223372036854775808) : (-x).toInt = -x.toInt := by
  have b := lb x
  rw [Int64.toInt_neg, bm64 (by omega) (by omega)]
theorem i_add {x y : Int32} (h1 : -2147483648 ≤ x.toInt + y.toInt) (h2 : x.toInt + y.toInt < 2147483648) : (x + y).toInt = x.toInt + y.toInt := by rw [Int32.toInt_add, bm32 h1 h2]
theorem i_sub {x y : Int32} (h1 : -2147483648 ≤ x.toInt - y.toInt) (h2 : x.toInt - y.toInt < 2147483648) : (x - y).toInt = x.toInt - y.toInt := by rw [Int32.toInt_sub, bm32 h1 h2]
theorem i_mul {x y : Int32} (h1 : -2147483648 ≤ x.toInt * y.toInt) (h2 : x.toInt * y.toInt < 2147483648) : (x * y).toInt = x.toInt * y.toInt := by rw [Int32.toInt_mul, bm32 h1 h2]
theorem l_i2l (x : Int32) : x.toInt64.toInt = x.toInt := Int32.toInt_toInt64 x
theorem l_l2i {x : Int64} (h1 : -2147483648 ≤ x.toInt) (h2 : x.toInt < 2147483648) : x.toInt32.toInt = x.toInt := by rw [Int64.toInt_toInt32, bm32 h1 h2]
theorem l_lt {x y : Int64} : x < y ↔ x.toInt < y.toInt := Int64.lt_iff_toInt_lt
theorem l_le {x y : Int64} : x ≤ y ↔ x.toInt ≤ y.toInt := Int64.le_iff_toInt_le
theorem l_eq {x y : Int64} : x = y ↔ x.toInt = y.toInt := Int64.toInt_inj.symm
theorem i_lt {x y : Int32} : x < y ↔ x.toInt < y.toInt := Int32.lt_iff_toInt_lt
theorem i_le {x y : Int32} : x ≤ y ↔ x.toInt ≤ y.toInt := Int32.le_iff_toInt_le
theorem i_eq {x y : Int32} : x = y ↔ x.toInt = y.toInt := Int32.toInt_inj.symm
theorem l_div {x y : Int64} (h : ¬ (x.toInt = -9223372036854775808 ∧ y.toInt = -1)) : (x / y).toInt = x.toInt.tdiv y.toInt := by
  by_cases h2 : x.toInt = -9223372036854775808
  · refine Int64.toInt_div_of_ne_right x y (fun z => h ⟨h2, by rw [z]; rfl⟩)
  · refine Int64.toInt_div_of_ne_left x y (fun z => h2 (by rw [z]; rfl))
theorem i_div {x y : Int32} (h : ¬ (x.toInt = -2147483648 ∧ y.toInt = -1)) : (x / y).toInt = x.toInt.tdiv y.toInt := by
  by_cases h2 : x.toInt = -2147483648
  · refine Int32.toInt_div_of_ne_right x y (fun z => h ⟨h2, by rw [z]; rfl⟩)
  · refine Int32.toInt_div_of_ne_left x y (fun z => h2 (by rw [z]; rfl))
/-! unsigned view, more rows -/
theorem uN_i (x : Int64) : (uN x : Int) = x.toInt % 18446744073709551616 := by
  have h := uN_lt x
  rw [uN_int]
  split <;> omega
theorem uN_pos {x : Int64} (h : 0 ≤ x.toInt) : (uN x : Int) = x.toInt := by
  have b := lb x
  rw [uN_i]; omega
theorem uN_neg0 (x : Int64) : x < 0 ↔ 9223372036854775808 ≤ uN x := by
  have h := uN_lt x
  rw [l_lt, uN_int x]
  have z : (0 : Int64).toInt = 0 := rfl
  rw [z]
  split <;> omega
theorem uN_ge0 (x : Int64) : 0 ≤ x ↔ uN x < 9223372036854775808 := by
  have h := uN_lt x
  rw [l_le, uN_int x]
  have z : (0 : Int64).toInt = 0 := rfl
  rw [z]
  split <;> omega
theorem uN_eq {x y : Int64} : x = y ↔ uN x = uN y := ⟨fun h => by rw [h], uN_inj⟩
theorem uN_sub (x y : Int64) : uN (x - y) = (uN x + (18446744073709551616 - uN y)) % 18446744073709551616 := by
  have h1 := uN_lt x
  have h2 := uN_lt y
  have h3 : (uN (x - y) : Int) = (uN x + (18446744073709551616 - uN y)) % 18446744073709551616 := by
    rw [uN_i, Int64.toInt_sub, uN_i x, uN_i y, Int.bmod_def]
    have b1 := lb x
    have b2 := lb y
    split <;> omega
  omega
theorem uN_ng (x : Int64) : uN (-x) = (18446744073709551616 - uN x) % 18446744073709551616 := by
  have h1 := uN_lt x
  have h3 : (uN (-x) : Int) = (18446744073709551616 - uN x) % 18446744073709551616 := by
    rw [uN_i, Int64.toInt_neg, uN_i x, Int.bmod_def]
    have b1 := lb x
    split <;> omega
  omega
theorem uN_lor (x y : Int64) : uN (x ||| y) = uN x ||| uN y := UInt64.toNat_or _ _
theorem uN_land (x y : Int64) : uN (x &&& y) = uN x &&& uN y := UInt64.toNat_and _ _
theorem uN_lN {n : Nat} (h : n < 18446744073709551616) : uN (lN n) = n := by
  show (lN n).toUInt64.toNat = n
  have e : (lN n).toUInt64.toNat = n % 2 ^ 64 := rfl
  rw [e]; omega
theorem lN_uN (x : Int64) : x = lN (uN x) := uN_inj (by rw [uN_lN (uN_lt x)])
theorem lT {n : Nat} (h : n < 9223372036854775808) : (lN n).toInt = (n : Int) := pk_lT (by omega)
/-! shifts -/
theorem sl_u (x : Int64) {k : Int32} (n : Nat) (h : ((k.toInt64 &&& 63).toBitVec.smod 64).toNat = n) : uN (x <<< (k.toInt64 &&& 63)) = uN x * 2 ^ n % 18446744073709551616 := by
  show (x.toBitVec <<< ((k.toInt64 &&& 63).toBitVec.smod 64).toNat).toNat = _
  rw [h, BitVec.toNat_shiftLeft, Nat.shiftLeft_eq]
  rfl
theorem sr_i (x : Int64) {k : Int32} (n : Nat) (h : ((k.toInt64 &&& 63).toBitVec.smod 64).toNat = n) : (x >>> (k.toInt64 &&& 63)).toInt = x.toInt / 2 ^ n := by
  show (x.toBitVec.sshiftRight ((k.toInt64 &&& 63).toBitVec.smod 64).toNat).toInt = _
  rw [h, BitVec.toInt_sshiftRight, Int.shiftRight_eq_div_pow]
  rfl
theorem su_u (x : Int64) {k : Int32} (n : Nat) (h : (k.toInt64.toUInt64 &&& Int64.toUInt64 63).toNat % 64 = n) : uN (x.toUInt64 >>> (k.toInt64.toUInt64 &&& Int64.toUInt64 63)).toInt64 = uN x / 2 ^ n := by
  rw [uN_shr, h]
theorem sk_l : ∀ j, j < 64 → (((nI j).toInt64 &&& 63).toBitVec.smod 64).toNat = j := by decide +kernel
theorem sk_u : ∀ j, j < 64 → ((nI j).toInt64.toUInt64 &&& Int64.toUInt64 63).toNat % 64 = j := by decide +kernel
theorem sk_i : ∀ j, j < 32 → ((nI j &&& 31).toBitVec.smod 32).toNat = j := by decide +kernel
theorem sl_i (x : Int64) {k : Int32} (n : Nat) (h : ((k.toInt64 &&& 63).toBitVec.smod 64).toNat = n) (h1 : -9223372036854775808 ≤ x.toInt * 2 ^ n) (h2 : x.toInt * 2 ^ n < 9223372036854775808) : (x <<< (k.toInt64 &&& 63)).toInt = x.toInt * 2 ^ n := by
  have hu := uN_lt x
  have e : (x <<< (k.toInt64 &&& 63)).toInt = ((uN x : Int) * 2 ^ n).bmod (2 ^ 64) := by
    show (x.toBitVec <<< ((k.toInt64 &&& 63).toBitVec.smod 64).toNat).toInt = _
    rw [h, BitVec.toInt_shiftLeft, Nat.shiftLeft_eq]
    congr 1
  rw [e]
  have e2 : (uN x : Int) * 2 ^ n = x.toInt * 2 ^ n + (if 2 * uN x < 18446744073709551616 then 0 else 2 ^ n) * ((2 ^ 64 : Nat) : Int) := by
    rw [uN_int x]
    split
    · omega
    · rw [Int.sub_mul]
      have : (18446744073709551616 : Int) * 2 ^ n = 2 ^ n * ((2 ^ 64 : Nat) : Int) := by rw [Int.mul_comm]; rfl
      omega
  rw [e2, Int.add_mul_bmod_self_right, bm64 h1 h2]
/-! floor quotients -/
def FD (X Y q : Int) : Prop := (0 < Y ∧ q * Y ≤ X ∧ X < q * Y + Y) ∨ (Y < 0 ∧ X ≤ q * Y ∧ q * Y + Y < X)
theorem FD_pos {X Y q : Int} (hY : 0 < Y) : FD X Y q ↔ q = X / Y := by
  unfold FD
  constructor
  · rintro (⟨_, h1, h2⟩ | ⟨h, _⟩)
    · have a := Int.ediv_mul_le X (Int.ne_of_gt hY)
      have b := Int.lt_ediv_add_one_mul_self X hY
      have h2' : X < (q + 1) * Y := by rw [Int.add_mul, Int.one_mul]; exact h2
      have u1 : q ≤ X / Y := (Int.le_ediv_iff_mul_le hY).mpr h1
      have u2 : X / Y < q + 1 := (Int.ediv_lt_iff_lt_mul hY).mpr h2'
      omega
    · omega
  · rintro rfl
    refine Or.inl ⟨hY, Int.ediv_mul_le X (Int.ne_of_gt hY), ?_⟩
    have b := Int.lt_ediv_add_one_mul_self X hY
    rw [Int.add_mul, Int.one_mul] at b
    exact b
theorem FD_neg {X Y q : Int} : FD X Y q ↔ FD (-X) (-Y) q := by
  unfold FD
  have e : q * -Y = -(q * Y) := Int.mul_neg q Y
  rw [e]
  constructor
  · rintro (⟨h0, h1, h2⟩ | ⟨h0, h1, h2⟩)
    · exact Or.inr ⟨by omega, by omega, by omega⟩
    · exact Or.inl ⟨by omega, by omega, by omega⟩
  · rintro (⟨h0, h1, h2⟩ | ⟨h0, h1, h2⟩)
    · exact Or.inr ⟨by omega, by omega, by omega⟩
    · exact Or.inl ⟨by omega, by omega, by omega⟩
theorem FD_uniq {X Y q r : Int} (h1 : FD X Y q) (h2 : FD X Y r) : q = r := by
  rcases Int.lt_trichotomy Y 0 with h | h | h
  · have a := (FD_pos (X := -X) (Y := -Y) (by omega)).mp (FD_neg.mp h1)
    have b := (FD_pos (X := -X) (Y := -Y) (by omega)).mp (FD_neg.mp h2)
    omega
  · unfold FD at h1; omega
  · have a := (FD_pos h).mp h1
    have b := (FD_pos h).mp h2
    omega
/-- from sizes: the quotient of sizes, and the rest -/
theorem FD_size {X Y : Int} {n d q r : Nat} (hd : 0 < d) (hq : q * d + r = n) (hr : r < d) (hX : X = n ∨ X = -n) (hY : Y = d ∨ Y = -d) :
    FD X Y (if (X < 0) = (Y < 0) ∨ n = 0 then (q : Int) else if r = 0 then -(q : Int) else -(q : Int) - 1) := by
  have e : (q : Int) * d + r = n := by exact_mod_cast hq
  have en : -(q : Int) * d = -(q * d) := Int.neg_mul _ _
  have e1 : (-(q : Int) - 1) * d = -(q * d) - d := by rw [Int.sub_mul, Int.one_mul, Int.neg_mul]
  have f0 : (q : Int) * -d = -(q * d) := Int.mul_neg _ _
  have f1 : -(q : Int) * -d = q * d := Int.neg_mul_neg _ _
  have f2 : (-(q : Int) - 1) * -d = q * d + d := by rw [Int.mul_neg, e1]; omega
  have p0 : 0 ≤ (q : Int) * d := Int.mul_nonneg (by omega) (by omega)
  unfold FD
  by_cases hn : n = 0
  · rw [if_pos (Or.inr hn)]
    have : (q : Int) * d = 0 := by omega
    rcases hX with rfl | rfl <;> rcases hY with rfl | rfl
    · exact Or.inl ⟨by omega, by omega, by omega⟩
    · exact Or.inr ⟨by omega, by omega, by omega⟩
    · exact Or.inl ⟨by omega, by omega, by omega⟩
    · exact Or.inr ⟨by omega, by omega, by omega⟩
  · rcases hX with rfl | rfl <;> rcases hY with rfl | rfl
    · rw [if_pos (Or.inl (by apply propext; constructor <;> intro h <;> omega))]
      exact Or.inl ⟨by omega, by omega, by omega⟩
    · rw [if_neg (fun z => z.elim (fun h => absurd (Eq.mpr h (show -(d : Int) < 0 by omega)) (by omega)) hn)]
      split
      · exact Or.inr ⟨by omega, by omega, by omega⟩
      · exact Or.inr ⟨by omega, by omega, by omega⟩
    · rw [if_neg (fun z => z.elim (fun h => absurd (Eq.mp h (show -(n : Int) < 0 by omega)) (by omega)) hn)]
      split
      · exact Or.inl ⟨by omega, by omega, by omega⟩
      · exact Or.inl ⟨by omega, by omega, by omega⟩
    · rw [if_pos (Or.inl (by apply propext; constructor <;> intro h <;> omega))]
      exact Or.inr ⟨by omega, by omega, by omega⟩
end
section
theorem xor_sg (x y : Int64) : 0 ≤ x ^^^ y ↔ (x.toInt < 0 ↔ y.toInt < 0) := by
  have hx := uN_lt x
  have hy := uN_lt y
  have e : uN (x ^^^ y) = uN x ^^^ uN y := UInt64.toNat_xor _ _
  have hz := uN_lt (x ^^^ y)
  have d : uN (x ^^^ y) / 2 ^ 63 = (uN x / 2 ^ 63) ^^^ (uN y / 2 ^ 63) := by rw [e, Nat.xor_div_two_pow]
  have ix := uN_int x
  have iy := uN_int y
  rw [uN_ge0]
  have h1 : uN x / 2 ^ 63 = 0 ∨ uN x / 2 ^ 63 = 1 := by omega
  have h2 : uN y / 2 ^ 63 = 0 ∨ uN y / 2 ^ 63 = 1 := by omega
  rcases h1 with h1 | h1 <;> rcases h2 with h2 | h2 <;> rw [h1, h2] at d
  · have d : uN (x ^^^ y) / 2 ^ 63 = 0 := d
    rw [if_pos (by omega)] at ix iy
    omega
  · have d : uN (x ^^^ y) / 2 ^ 63 = 1 := d
    rw [if_pos (by omega)] at ix
    rw [if_neg (by omega)] at iy
    omega
  · have d : uN (x ^^^ y) / 2 ^ 63 = 1 := d
    rw [if_pos (by omega)] at iy
    rw [if_neg (by omega)] at ix
    omega
  · have d : uN (x ^^^ y) / 2 ^ 63 = 0 := d
    rw [if_neg (by omega)] at ix iy
    omega
theorem fd_tdiv {X Y : Int} (hY : ¬ Y = 0) : FD X Y (if (X < 0 ↔ Y < 0) ∨ X.tdiv Y * Y = X then X.tdiv Y else X.tdiv Y - 1) := by
  obtain ⟨n, hX⟩ := Int.eq_nat_or_neg X
  obtain ⟨d, hd⟩ := Int.eq_nat_or_neg Y
  have d0 : 0 < d := by omega
  have e : n / d * d + n % d = n := Nat.div_add_mod' n d
  have r := Nat.mod_lt n d0
  have key := FD_size (X := X) (Y := Y) d0 e r hX hd
  have t : ((n : Int)).tdiv d = ((n / d : Nat) : Int) := (Int.ofNat_tdiv n d).symm
  generalize n / d = q at *
  generalize n % d = r0 at *
  have ee : (q : Int) * d + r0 = n := by exact_mod_cast e
  have m1 : -(q : Int) * d = -(q * d) := Int.neg_mul _ _
  have m2 : (q : Int) * -d = -(q * d) := Int.mul_neg _ _
  have m3 : -(q : Int) * -d = q * d := Int.neg_mul_neg _ _
  have p0 : 0 ≤ (q : Int) * d := Int.mul_nonneg (by omega) (by omega)
  have z0 : n = 0 → q = 0 := by
    intro h
    have : q * d = 0 := by omega
    rcases Nat.mul_eq_zero.mp this with h | h
    · exact h
    · omega
  simp only [eq_iff_iff] at key
  rcases hX with rfl | rfl <;> rcases hd with rfl | rfl
  · rw [t]
    split <;> split at key <;> first | exact key | (exfalso; omega)
  · rw [Int.tdiv_neg, t, m3]
    split at key
    · split
      · rw [show -(q : Int) = q by have := z0 (by omega); omega]; exact key
      · exfalso; omega
    · split <;> split at key <;> first | exact key | (exfalso; omega)
  · rw [Int.neg_tdiv, t, m1]
    split at key
    · split
      · rw [show -(q : Int) = q by have := z0 (by omega); omega]; exact key
      · exfalso; omega
    · split <;> split at key <;> first | exact key | (exfalso; omega)
  · rw [Int.neg_tdiv, Int.tdiv_neg, t, Int.neg_neg, m2]
    split <;> split at key <;> first | exact key | (exfalso; omega)
theorem td_mul (X Y : Int) : (0 ≤ X → 0 ≤ X.tdiv Y * Y ∧ X.tdiv Y * Y ≤ X) ∧ (X ≤ 0 → X ≤ X.tdiv Y * Y ∧ X.tdiv Y * Y ≤ 0) := by
  have e := Int.tdiv_mul_self X Y
  have a : (X.tmod Y).natAbs ≤ X.natAbs := by rw [Int.natAbs_tmod]; exact Nat.mod_le _ _
  refine ⟨fun h => ?_, fun h => ?_⟩
  · have b := Int.tmod_nonneg Y h
    omega
  · have b := Int.tmod_nonneg Y (show 0 ≤ -X by omega)
    rw [Int.neg_tmod] at b
    omega
/-- Math.floorDiv's three ends -/
theorem fd_mul {x y : Int64} (hx : ¬ x.toInt = -9223372036854775808) : (x / y).toInt = x.toInt.tdiv y.toInt ∧ ((x / y) * y).toInt = x.toInt.tdiv y.toInt * y.toInt := by
  have e : (x / y).toInt = x.toInt.tdiv y.toInt := l_div (fun h => hx h.1)
  refine ⟨e, ?_⟩
  have b := lb x
  have q := td_mul x.toInt y.toInt
  rw [l_mul, e]
  · rw [e]; omega
  · rw [e]; omega
theorem fd_1 {x y : Int64} (h0 : ¬ y = 0) (hx : ¬ x.toInt = -9223372036854775808) (c : 0 ≤ x ^^^ y ∨ (x / y) * y = x) : FD x.toInt y.toInt (x / y).toInt := by
  have hy : ¬ y.toInt = 0 := fun h => h0 (l_eq.mpr (h.trans rfl))
  have k := fd_tdiv (X := x.toInt) hy
  obtain ⟨e, e2⟩ := fd_mul (y := y) hx
  rw [if_pos] at k
  · rw [e]; exact k
  · rcases c with c | c
    · exact Or.inl ((xor_sg x y).mp c)
    · exact Or.inr (by rw [← e2, c])
theorem fd_3 {x y : Int64} (h0 : ¬ y = 0) (hx : ¬ x.toInt = -9223372036854775808) (c1 : ¬ 0 ≤ x ^^^ y) (c2 : ¬ (x / y) * y = x) : FD x.toInt y.toInt ((x / y) - 1).toInt := by
  have hy : ¬ y.toInt = 0 := fun h => h0 (l_eq.mpr (h.trans rfl))
  have k := fd_tdiv (X := x.toInt) hy
  obtain ⟨e, e2⟩ := fd_mul (y := y) hx
  have b := lb x
  rw [if_neg] at k
  · have z : (1 : Int64).toInt = 1 := rfl
    have b2 := lb (x / y)
    by_cases hm : (x / y).toInt = -9223372036854775808
    · exfalso
      rw [e] at hm
      have q := td_mul x.toInt y.toInt
      have e3 := Int.natAbs_tdiv_le_natAbs x.toInt y.toInt
      omega
    · rw [l_sub (by omega) (by omega), e, z]; exact k
  · rintro (h | h)
    · exact c1 ((xor_sg x y).mpr h)
    · exact c2 (l_eq.mpr (by rw [e2, h]))
/-! unsigned compare by adding the least long -/
theorem uN_amin (x : Int64) : (x + (-9223372036854775808)).toInt = (uN x : Int) - 9223372036854775808 := by
  have h := uN_lt x
  have e := uN_add x (-9223372036854775808)
  have z : uN (-9223372036854775808) = 9223372036854775808 := by decide +kernel
  rw [z] at e
  rw [uN_int, e]
  split <;> omega
/-! number of leading zeros -/
def LZ (w n r : Nat) : Prop := r ≤ w ∧ n < 2 ^ (w - r) ∧ (r = w ∨ 2 ^ (w - r - 1) ≤ n)
def uI (x : Int32) : Nat := x.toUInt32.toNat
theorem uI_lt (x : Int32) : uI x < 4294967296 := x.toUInt32.toNat_lt
theorem uI_nI {n : Nat} (h : n < 4294967296) : uI (nI n) = n := pk_tn (by omega)
theorem uI_int (x : Int32) : x.toInt = if 2 * uI x < 4294967296 then (uI x : Int) else (uI x : Int) - 4294967296 := BitVec.toInt_eq_toNat_cond _
theorem nI_uI (x : Int32) : x = nI (uI x) := by
  apply Int32.toBitVec_inj.mp
  apply BitVec.eq_of_toNat_eq
  show uI x = uI (nI (uI x))
  rw [uI_nI (uI_lt x)]
theorem uI_l2i (x : Int64) : uI x.toInt32 = uN x % 4294967296 := by
  show (x.toBitVec.signExtend 32).toNat = _
  first
    | (rw [BitVec.signExtend_eq_setWidth_of_le _ (by decide), BitVec.toNat_setWidth]; rfl)
    | (simp [BitVec.toNat_signExtend]; rfl)
def NZ (X w : Nat) (i n : Int32) : Prop := ∃ s : Nat, s + w ≤ 32 ∧ n = nI (31 - s) ∧ i = nI (X / 2 ^ s) ∧ 0 < X / 2 ^ s ∧ X / 2 ^ s < 2 ^ w
theorem nz_0 {x : Int32} (h : 0 < x) : NZ (uI x) 32 x 31 := by
  have b := uI_lt x
  have e := uI_int x
  rw [i_lt] at h
  have z : (0 : Int32).toInt = 0 := rfl
  rw [z] at h
  refine ⟨0, by omega, rfl, ?_, ?_, ?_⟩
  · rw [Nat.pow_zero, Nat.div_one]; exact nI_uI x
  · rw [Nat.pow_zero, Nat.div_one]; split at e <;> omega
  · rw [Nat.pow_zero, Nat.div_one]; omega
theorem nz_lt {X w v : Nat} {i n c : Int32} (hX : X < 2147483648) (h : NZ X (v + w) i n) (hw : v + w ≤ 32) (hc : c = nI (2 ^ w)) (hw2 : w ≤ 16) (hl : i < c) : NZ X w i n := by
  obtain ⟨s, h1, h2, h3, h4, h5⟩ := h
  refine ⟨s, by omega, h2, h3, h4, ?_⟩
  have hp : 2 ^ w ≤ 2 ^ 16 := Nat.pow_le_pow_right (by decide) hw2
  have hd := Nat.div_le_self X (2 ^ s)
  rw [h3, hc, nI_ltI (by omega) (by omega)] at hl
  exact hl
theorem nz_ge {X w v : Nat} {i n c k : Int32} (hX : X < 2147483648) (h : NZ X (v + w) i n) (hv : v = w) (hw0 : 0 < w) (hc : c = nI (2 ^ w)) (hw2 : w ≤ 16) (hk : ((k.toUInt32 &&& Int32.toUInt32 31).toBitVec % 32).toNat = w) (hl : ¬ i < c) {m : Int32} (hm : m = -nI w) :
    NZ X w (i.toUInt32 >>> (k.toUInt32 &&& Int32.toUInt32 31)).toInt32 (n + m) := by
  obtain ⟨s, h1, h2, h3, h4, h5⟩ := h
  subst hv
  have hp : 2 ^ v ≤ 2 ^ 16 := Nat.pow_le_pow_right (by decide) hw2
  have hd := Nat.div_le_self X (2 ^ s)
  rw [h3, hc, nI_ltI (by omega) (by omega)] at hl
  have e : X / 2 ^ (s + v) = X / 2 ^ s / 2 ^ v := by rw [Nat.pow_add, Nat.div_div_eq_div_mul]
  refine ⟨s + v, by omega, ?_, ?_, ?_, ?_⟩
  · rw [h2, hm]
    have : nI (31 - s) = nI (31 - (s + v)) + nI v := by rw [nI_add]; congr 1; omega
    rw [this, Int32.add_assoc, Int32.add_right_neg, Int32.add_zero]
  · rw [h3, pk_ushrN (by omega) k v hk, e]
  · rw [e]; exact Nat.div_pos (by omega) (Nat.two_pow_pos v)
  · rw [e, Nat.div_lt_iff_lt_mul (Nat.two_pow_pos v), ← Nat.pow_add]; exact h5
theorem nz_end {X : Nat} {i n : Int32} (hX : X < 2147483648) (h : NZ X 2 i n) : ∃ r, LZ 32 X r ∧ n - (i.toUInt32 >>> ((1 : Int32).toUInt32 &&& Int32.toUInt32 31)).toInt32 = nI r := by
  obtain ⟨s, h1, h2, h3, h4, h5⟩ := h
  have hd := Nat.div_le_self X (2 ^ s)
  have hp := Nat.two_pow_pos s
  have a1 := Nat.div_mul_le_self X (2 ^ s)
  have a3 : X < (X / 2 ^ s + 1) * 2 ^ s := by
    have := Nat.div_add_mod X (2 ^ s)
    have := Nat.mod_lt X hp
    rw [Nat.add_mul, Nat.one_mul, Nat.mul_comm (X / 2 ^ s)]; omega
  rw [h2, h3, pk_ushrN (by omega) 1 1 (by decide)]
  generalize X / 2 ^ s = v at *
  have e1 : 2 ^ (s + 1) = 2 ^ s * 2 := Nat.pow_succ 2 s
  have e2 : 2 ^ (s + 1 + 1) = 2 ^ (s + 1) * 2 := Nat.pow_succ 2 (s + 1)
  have hv : v = 1 ∨ v = 2 ∨ v = 3 := by omega
  have sb : ∀ a b : Nat, b ≤ a → nI a - nI b = nI (a - b) := fun a b h => pk_sub h
  refine ⟨31 - s - v / 2 ^ 1, ⟨by omega, ?_, ?_⟩, sb _ _ (by rcases hv with rfl | rfl | rfl <;> omega)⟩
  · rcases hv with rfl | rfl | rfl
    · rw [show 32 - (31 - s - 1 / 2 ^ 1) = s + 1 by omega]; omega
    · rw [show 32 - (31 - s - 2 / 2 ^ 1) = s + 1 + 1 by omega]; omega
    · rw [show 32 - (31 - s - 3 / 2 ^ 1) = s + 1 + 1 by omega]; omega
  · right
    rcases hv with rfl | rfl | rfl
    · rw [show 32 - (31 - s - 1 / 2 ^ 1) - 1 = s by omega]; omega
    · rw [show 32 - (31 - s - 2 / 2 ^ 1) - 1 = s + 1 by omega]; omega
    · rw [show 32 - (31 - s - 3 / 2 ^ 1) - 1 = s + 1 by omega]; omega
theorem lz_hi {N n : Nat} (h : LZ 32 (N / 4294967296) n) (h0 : ¬ N / 4294967296 = 0) : LZ 64 N n := by
  obtain ⟨h1, h2, h3⟩ := h
  have hn : ¬ n = 32 := by
    rintro rfl
    have : N / 4294967296 < 2 ^ 0 := h2
    omega
  have h3 : 2 ^ (32 - n - 1) ≤ N / 4294967296 := by omega
  have e1 : 2 ^ (64 - n) = 2 ^ (32 - n) * 4294967296 := by rw [show 64 - n = (32 - n) + 32 by omega, Nat.pow_add]
  have e2 : 2 ^ (64 - n - 1) = 2 ^ (32 - n - 1) * 4294967296 := by rw [show 64 - n - 1 = (32 - n - 1) + 32 by omega, Nat.pow_add]
  exact ⟨by omega, by omega, Or.inr (by omega)⟩
theorem lz_lo {N n : Nat} (h : LZ 32 (N % 4294967296) n) (h0 : N / 4294967296 = 0) : LZ 64 N (32 + n) := by
  obtain ⟨h1, h2, h3⟩ := h
  have e : N % 4294967296 = N := by omega
  rw [e] at h2 h3
  refine ⟨by omega, by rw [show 64 - (32 + n) = 32 - n by omega]; exact h2, ?_⟩
  rcases h3 with h3 | h3
  · exact Or.inl (by omega)
  · exact Or.inr (by rw [show 64 - (32 + n) - 1 = 32 - n - 1 by omega]; exact h3)
/-! unsigned quotient and rest -/
theorem uN_cpl (x : Int64) : uN (x ^^^ (-1)) = 18446744073709551615 - uN x := by
  have h := uN_lt x
  have e : x ^^^ (-1) = -x - 1 := by
    rw [← Int64.not_eq_neg_sub]
    apply Int64.toBitVec_inj.mp
    rw [Int64.toBitVec_xor, Int64.toBitVec_not, show (-1 : Int64).toBitVec = BitVec.allOnes 64 from rfl, BitVec.xor_allOnes]
  rw [e, uN_sub, uN_ng]
  have z : uN 1 = 1 := rfl
  rw [z]
  omega
theorem top_or {a b : Nat} : (a ||| b) / 2 ^ 63 = (a / 2 ^ 63) ||| (b / 2 ^ 63) := Nat.or_div_two_pow
theorem du_0 {x y q r : Int64} (hy : 0 < y) (hq : q = ((Int64.toUInt64 x >>> ((Int32.toInt64 1).toUInt64 &&& Int64.toUInt64 63)).toInt64 / y) <<< ((Int32.toInt64 1) &&& 63)) (hr : r = x - q * y) :
    uN y < 9223372036854775808 ∧ 0 < uN y ∧ uN q = 2 * (uN x / 2 / uN y) ∧ uN q * uN y + uN r = uN x ∧ uN r < 2 * uN y := by
  have hN := uN_lt x
  have y1 : 0 < y.toInt := by rw [l_lt] at hy; exact hy
  have y2 := uN_pos (x := y) (by omega)
  have yb := lb y
  have d1 : uN y < 9223372036854775808 := by omega
  have d0 : 0 < uN y := by omega
  generalize hh : (Int64.toUInt64 x >>> ((Int32.toInt64 1).toUInt64 &&& Int64.toUInt64 63)).toInt64 = h at hq
  have uh : uN h = uN x / 2 := by rw [← hh, su_u x 1 (by decide)]
  have ih := uN_int h
  rw [if_pos (by omega)] at ih
  have dv : (h / y).toInt = ((uN h / uN y : Nat) : Int) := by
    rw [l_div (by omega), ih, ← y2, Int.ofNat_tdiv]
  have le1 : uN h / uN y ≤ uN h := Nat.div_le_self _ _
  have uq0 : uN (h / y) = uN h / uN y := by
    have nn : 0 ≤ (h / y).toInt := by rw [dv]; exact Int.natCast_nonneg _
    have t := uN_pos nn
    rw [dv] at t
    exact_mod_cast t
  have dm := Nat.div_add_mod (uN h) (uN y)
  have ml := Nat.mod_lt (uN h) d0
  have uq : uN q = 2 * (uN x / 2 / uN y) := by
    rw [hq, sl_u _ 1 (by decide), uq0, ← uh]
    omega
  have um : uN (q * y) = (uN q * uN y) % 18446744073709551616 := uN_mul q y
  have ee : uN q * uN y = 2 * (uN y * (uN h / uN y)) := by
    rw [uq, ← uh, Nat.mul_assoc, Nat.mul_comm (uN h / uN y)]
  have ur : uN r = (uN x + (18446744073709551616 - uN (q * y))) % 18446744073709551616 := by rw [hr, uN_sub]
  generalize uN y * (uN h / uN y) = z at *
  rw [ee] at um
  refine ⟨d1, d0, uq, ?_, ?_⟩
  · rw [ee]; omega
  · omega
theorem du_1 {x y q r : Int64} (hy : 0 < y) (hq : q = ((Int64.toUInt64 x >>> ((Int32.toInt64 1).toUInt64 &&& Int64.toUInt64 63)).toInt64 / y) <<< ((Int32.toInt64 1) &&& 63)) (hr : r = x - q * y) :
    uN (q + (Int64.toUInt64 (r ||| ((r - y) ^^^ (-1))) >>> ((Int32.toInt64 63).toUInt64 &&& Int64.toUInt64 63)).toInt64) = uN x / uN y := by
  obtain ⟨d1, d0, uq, e, lt⟩ := du_0 hy hq hr
  have hN := uN_lt x
  have hr1 := uN_lt r
  have hs := uN_lt (r - y)
  have tb : uN (Int64.toUInt64 (r ||| ((r - y) ^^^ (-1))) >>> ((Int32.toInt64 63).toUInt64 &&& Int64.toUInt64 63)).toInt64 = if uN y ≤ uN r then 1 else 0 := by
    rw [su_u _ 63 (by decide), uN_lor, top_or, uN_cpl, uN_sub]
    have a : uN r / 2 ^ 63 = 0 ∨ uN r / 2 ^ 63 = 1 := by omega
    have b : (18446744073709551615 - (uN r + (18446744073709551616 - uN y)) % 18446744073709551616) / 2 ^ 63 = 0 ∨ (18446744073709551615 - (uN r + (18446744073709551616 - uN y)) % 18446744073709551616) / 2 ^ 63 = 1 := by omega
    split
    · rcases a with a | a <;> rcases b with b | b
      · exfalso; omega
      · rw [a, b]; rfl
      · rw [a, b]; rfl
      · rw [a, b]; rfl
    · rcases a with a | a <;> rcases b with b | b
      · rw [a, b]; rfl
      · exfalso; omega
      · exfalso; omega
      · exfalso; omega
  rw [uN_add, tb]
  have n0 : uN x / uN y ≤ uN x := Nat.div_le_self _ _
  split
  · have : uN x / uN y = uN q + 1 := Nat.div_eq_of_lt_le (by rw [Nat.add_mul, Nat.one_mul]; omega) (by rw [Nat.add_mul, Nat.add_mul, Nat.one_mul]; omega)
    omega
  · have : uN x / uN y = uN q := Nat.div_eq_of_lt_le (by omega) (by rw [Nat.add_mul, Nat.one_mul]; omega)
    omega
theorem sg63 (x : Int64) : x >>> ((Int32.toInt64 63) &&& 63) = if x < 0 then -1 else 0 := by
  have b := lb x
  apply Int64.toInt_inj.mp
  rw [sr_i x 63 (by decide)]
  have e : x < 0 ↔ x.toInt < 0 := l_lt
  split <;> rename_i h
  · rw [e] at h
    show x.toInt / 2 ^ 63 = -1
    omega
  · rw [e] at h
    show x.toInt / 2 ^ 63 = 0
    omega
theorem ru_1 {x y q r : Int64} (hy : 0 < y) (hq : q = ((Int64.toUInt64 x >>> ((Int32.toInt64 1).toUInt64 &&& Int64.toUInt64 63)).toInt64 / y) <<< ((Int32.toInt64 1) &&& 63)) (hr : r = x - q * y) :
    uN (r - ((((r - y) ^^^ (-1)) >>> ((Int32.toInt64 63) &&& 63)) &&& y)) = uN x % uN y := by
  obtain ⟨d1, d0, uq, e, lt⟩ := du_0 hy hq hr
  have hN := uN_lt x
  have hr1 := uN_lt r
  have hs := uN_lt (r - y)
  have yl := uN_lt y
  have us := uN_sub r y
  have uc := uN_cpl (r - y)
  rw [sg63]
  by_cases h : uN y ≤ uN r
  · have m : uN x % uN y = uN r - uN y := by
      have : uN x = (uN r - uN y) + uN y * (uN q + 1) := by rw [Nat.mul_add, Nat.mul_one, Nat.mul_comm]; omega
      rw [this, Nat.add_mul_mod_self_left]
      exact Nat.mod_eq_of_lt (by omega)
    rw [if_pos ((uN_neg0 _).mpr (by omega)), Int64.neg_one_and, m, us]
    omega
  · have m : uN x % uN y = uN r := by
      have : uN x = uN r + uN y * uN q := by rw [Nat.mul_comm]; omega
      rw [this, Nat.add_mul_mod_self_left]
      exact Nat.mod_eq_of_lt (by omega)
    rw [if_neg (fun z => by have := (uN_neg0 _).mp z; omega), Int64.zero_and, m, uN_sub]
    have z : uN 0 = 0 := rfl
    rw [z]
    omega
/-! the upper half of a product -/
theorem mul_bd {a b A A2 B : Int} (h1 : -A ≤ a) (h2 : a ≤ A2) (h3 : 0 ≤ b) (h4 : b ≤ B) (hA : 0 ≤ A) (hA2 : 0 ≤ A2) : -(A * B) ≤ a * b ∧ a * b ≤ A2 * B := by
  have u1 : a * b ≤ A2 * b := Int.mul_le_mul_of_nonneg_right h2 h3
  have u2 : A2 * b ≤ A2 * B := Int.mul_le_mul_of_nonneg_left h4 hA2
  have v1 : -A * b ≤ a * b := Int.mul_le_mul_of_nonneg_right h1 h3
  have v2 : A * b ≤ A * B := Int.mul_le_mul_of_nonneg_left h4 hA
  rw [Int.neg_mul] at v1
  omega
theorem mul_sq {a b : Int} (h1 : -2147483648 ≤ a ∧ a ≤ 2147483647) (h2 : -2147483648 ≤ b ∧ b ≤ 2147483647) : -4611686018427387904 ≤ a * b ∧ a * b ≤ 4611686018427387904 := by
  have m : (a * b).natAbs = a.natAbs * b.natAbs := Int.natAbs_mul a b
  have l : a.natAbs * b.natAbs ≤ 2147483648 * 2147483648 := Nat.mul_le_mul (by omega) (by omega)
  omega
theorem mask32 (x : Int64) : (x &&& 4294967295).toInt = x.toInt % 4294967296 := by
  have e := uN_lo x
  have i := uN_i x
  have p := uN_int (x &&& 4294967295)
  rw [if_pos (by omega)] at p
  omega
theorem mh_1 {x y x1 x2 y1 y2 z2 t z1 z0 z3 : Int64} (h1 : x1 = x >>> ((Int32.toInt64 32) &&& 63)) (h2 : x2 = x &&& 4294967295) (h3 : y1 = y >>> ((Int32.toInt64 32) &&& 63)) (h4 : y2 = y &&& 4294967295) (h5 : z2 = x2 * y2)
    (h6 : t = x1 * y2 + (Int64.toUInt64 z2 >>> ((Int32.toInt64 32).toUInt64 &&& Int64.toUInt64 63)).toInt64) (h7 : z1 = t &&& 4294967295) (h8 : z0 = t >>> ((Int32.toInt64 32) &&& 63)) (h9 : z3 = z1 + x2 * y1) :
    (x1 * y1 + z0 + (z3 >>> ((Int32.toInt64 32) &&& 63))).toInt = x.toInt * y.toInt / 18446744073709551616 := by
  have bx := lb x
  have by_ := lb y
  have a1 : x1.toInt = x.toInt / 4294967296 := by rw [h1, sr_i x 32 (by decide)]; rfl
  have a2 : x2.toInt = x.toInt % 4294967296 := by rw [h2, mask32]
  have a3 : y1.toInt = y.toInt / 4294967296 := by rw [h3, sr_i y 32 (by decide)]; rfl
  have a4 : y2.toInt = y.toInt % 4294967296 := by rw [h4, mask32]
  generalize hX : x.toInt = X at *
  generalize hY : y.toInt = Y at *
  have eX : X = x1.toInt * 4294967296 + x2.toInt := by omega
  have eY : Y = y1.toInt * 4294967296 + y2.toInt := by omega
  have hx1 : -2147483648 ≤ x1.toInt ∧ x1.toInt ≤ 2147483647 := by omega
  have hy1 : -2147483648 ≤ y1.toInt ∧ y1.toInt ≤ 2147483647 := by omega
  have hx2 : 0 ≤ x2.toInt ∧ x2.toInt ≤ 4294967295 := by omega
  have hy2 : 0 ≤ y2.toInt ∧ y2.toInt ≤ 4294967295 := by omega
  have ux := uN_pos hx2.1
  have uy := uN_pos hy2.1
  have bP := mul_sq hx1 hy1
  have bQ := mul_bd hx1.1 hx1.2 hy2.1 hy2.2 (by decide) (by decide)
  have bR := mul_bd hy1.1 hy1.2 hx2.1 hx2.2 (by decide) (by decide)
  have bS := mul_bd (A := 0) (a := x2.toInt) (b := y2.toInt) (by omega) hx2.2 hy2.1 hy2.2 (by decide) (by decide)
  have us : (uN z2 : Int) = x2.toInt * y2.toInt := by
    have m := uN_mul x2 y2
    have c : ((uN x2 * uN y2 : Nat) : Int) = x2.toInt * y2.toInt := by rw [Int.natCast_mul, ux, uy]
    rw [h5]
    omega
  have zh : (Int64.toUInt64 z2 >>> ((Int32.toInt64 32).toUInt64 &&& Int64.toUInt64 63)).toInt64.toInt = x2.toInt * y2.toInt / 4294967296 := by
    have m := su_u z2 (k := 32) 32 (by decide)
    have l := uN_lt z2
    have i := uN_int (Int64.toUInt64 z2 >>> ((Int32.toInt64 32).toUInt64 &&& Int64.toUInt64 63)).toInt64
    rw [if_pos (by omega)] at i
    omega
  generalize (Int64.toUInt64 z2 >>> ((Int32.toInt64 32).toUInt64 &&& Int64.toUInt64 63)).toInt64 = zz at *
  have q1 : (x1 * y2).toInt = x1.toInt * y2.toInt := l_mul (by omega) (by omega)
  have q2 : (x2 * y1).toInt = y1.toInt * x2.toInt := by rw [l_mul, Int.mul_comm] <;> rw [Int.mul_comm] <;> omega
  have q3 : (x1 * y1).toInt = x1.toInt * y1.toInt := l_mul (by omega) (by omega)
  have et : t.toInt = x1.toInt * y2.toInt + x2.toInt * y2.toInt / 4294967296 := by
    rw [h6, l_add, q1, zh] <;> rw [q1, zh] <;> omega
  have ez1 : z1.toInt = t.toInt % 4294967296 := by rw [h7, mask32]
  have ez0 : z0.toInt = t.toInt / 4294967296 := by rw [h8, sr_i t 32 (by decide)]; rfl
  have ez3 : z3.toInt = z1.toInt + y1.toInt * x2.toInt := by
    rw [h9, l_add, q2] <;> rw [q2] <;> omega
  have e3 : (z3 >>> ((Int32.toInt64 32) &&& 63)).toInt = z3.toInt / 4294967296 := by rw [sr_i z3 32 (by decide)]; rfl
  generalize z3 >>> ((Int32.toInt64 32) &&& 63) = w at *
  have s1 : (x1 * y1 + z0).toInt = x1.toInt * y1.toInt + z0.toInt := by
    rw [l_add, q3] <;> rw [q3] <;> omega
  have s2 : (x1 * y1 + z0 + w).toInt = x1.toInt * y1.toInt + z0.toInt + w.toInt := by
    rw [l_add, s1] <;> rw [s1] <;> omega
  rw [s2]
  have big : X * Y = x1.toInt * y1.toInt * 18446744073709551616 + (x1.toInt * y2.toInt + y1.toInt * x2.toInt) * 4294967296 + x2.toInt * y2.toInt := by
    rw [eX, eY]
    generalize x1.toInt = a
    generalize x2.toInt = b
    generalize y1.toInt = c
    generalize y2.toInt = d
    rw [Int.add_mul, Int.mul_add, Int.mul_add]
    have r1 : a * 4294967296 * (c * 4294967296) = a * c * 18446744073709551616 := by
      rw [Int.mul_assoc, Int.mul_comm 4294967296, Int.mul_assoc c, ← Int.mul_assoc a]; rfl
    have r2 : a * 4294967296 * d = a * d * 4294967296 := by rw [Int.mul_assoc, Int.mul_comm 4294967296 d, ← Int.mul_assoc]
    have r3 : b * (c * 4294967296) = c * b * 4294967296 := by rw [← Int.mul_assoc, Int.mul_comm b c]
    rw [r1, r2, r3]
    omega
  rw [big]
  omega
theorem cu_end (x y : Int64) : (if x + (-9223372036854775808) < y + (-9223372036854775808) then (-1 : Int32) else if x + (-9223372036854775808) = y + (-9223372036854775808) then 0 else 1) = if uN x < uN y then -1 else if uN x = uN y then 0 else 1 := by
  have h1 : x + (-9223372036854775808) < y + (-9223372036854775808) ↔ uN x < uN y := by rw [l_lt, uN_amin, uN_amin]; omega
  have h2 : x + (-9223372036854775808) = y + (-9223372036854775808) ↔ uN x = uN y := by rw [l_eq, uN_amin, uN_amin]; omega
  simp only [h1, h2]
theorem nz_X {x : Int32} (h : 0 < x) : uI x < 2147483648 := by
  have b := uI_lt x
  have e := uI_int x
  rw [i_lt] at h
  have z : (0 : Int32).toInt = 0 := rfl
  rw [z] at h
  split at e <;> omega
theorem nz_neg {x : Int32} (h : ¬ 0 < x) (h2 : ¬ x = 0) : LZ 32 (uI x) 0 := by
  have b := uI_lt x
  have e := uI_int x
  rw [i_lt] at h
  rw [i_eq] at h2
  have z : (0 : Int32).toInt = 0 := rfl
  rw [z] at h h2
  refine ⟨by decide, by omega, Or.inr ?_⟩
  split at e <;> omega
theorem nz_zero {x : Int32} (h2 : x = 0) : LZ 32 (uI x) 32 := by
  rw [h2]
  exact ⟨by decide, by decide, Or.inl rfl⟩
theorem lnz_hi {x : Int64} {v r : Int32} (c : ¬ v = 0) (e : v = (Int64.toInt32 (Int64.toUInt64 x >>> ((Int32.toInt64 32).toUInt64 &&& Int64.toUInt64 63)).toInt64)) (h : ∃ n, LZ 32 (uI v) n ∧ r = nI n) : ∃ n, LZ 64 (uN x) n ∧ r = nI n := by
  obtain ⟨n, h1, h2⟩ := h
  have l := uN_lt x
  have u : uI v = uN x / 4294967296 := by rw [e, uI_l2i, su_u x 32 (by decide)]; omega
  rw [u] at h1
  refine ⟨n, lz_hi h1 (fun z => c ?_), h2⟩
  rw [nI_uI v, u, z]; rfl
theorem lnz_lo {x : Int64} {v w r : Int32} (c : v = 0) (e : v = (Int64.toInt32 (Int64.toUInt64 x >>> ((Int32.toInt64 32).toUInt64 &&& Int64.toUInt64 63)).toInt64)) (ew : w = x.toInt32) (h : ∃ n, LZ 32 (uI w) n ∧ r = nI n) : ∃ n, LZ 64 (uN x) n ∧ 32 + r = nI n := by
  obtain ⟨n, h1, h2⟩ := h
  have l := uN_lt x
  have u : uI v = uN x / 4294967296 := by rw [e, uI_l2i, su_u x 32 (by decide)]; omega
  rw [ew, uI_l2i] at h1
  have z : uI v = 0 := by rw [c]; rfl
  refine ⟨32 + n, lz_lo h1 (by omega), ?_⟩
  rw [h2, ← nI_add]; rfl
theorem nz_of {y : Int64} (h : 0 < y) : ¬ y = 0 := fun z => by rw [z] at h; exact absurd h Int64.lt_irrefl
end
section
set_option maxHeartbeats 4000000 in
set_option maxRecDepth 100000 in
theorem c_J_fd (l : Launch) (x : Int64) (y : Int64) (h0 : ¬ y = 0) (h1 : ¬ x.toInt = -9223372036854775808) : Met l y_J_fd w_J_fd ({ frames := 0, cells := 0, slots := 0, locals := 0 } : Room) (va_Pc [.long x, .long y] (fun _ => True)) (vp_Sl (fun r => FD x.toInt y.toInt r.toInt)) 0 0 (fun _ => False) := by
  refine pm [.long x, .long y] (by decide +kernel) (Nat.le_of_ble_eq_true rfl) (fun p e s m below meth c ls hx hb hr hml hown hg hlk hnm hB hl => ?_)
  have hl : lv_has ls 6 [(0, .long x), (2, .long y)] := hl
  refine lv_lload_n hx hb d_J_fd_0 rfl (lv_at hl 0 rfl) ?_
  refine lv_lload_n hx hb d_J_fd_1 rfl (lv_at hl 1 rfl) ?_
  refine lv_ldiv hx hb d_J_fd_2 h0 ?_
  refine lv_topl (fun v_3 e_3 => ?_)
  refine lv_lstore (lv' := [(4, .long v_3), (0, .long x), (2, .long y)]) hx hb d_J_fd_3 hl (by decide) rfl (fun ls hl => ?_)
  refine lv_lload_n hx hb d_J_fd_5 rfl (lv_at hl 1 rfl) ?_
  refine lv_lload_n hx hb d_J_fd_6 rfl (lv_at hl 2 rfl) ?_
  refine lv_lxor hx hb d_J_fd_7 ?_
  refine lv_lconst (v := 0) hx hb d_J_fd_8 (by decide) ?_
  refine rl_ge (tgt := 27) hx hb d_J_fd_9 d_J_fd_10 (by decide) (fun c_9 => ?_) (fun c_9 => ?_)
  · refine lv_lload hx hb d_J_fd_27 (lv_at hl 0 rfl) ?_
    exact rt_l hx hb hr hlk d_J_fd_29 (by rw [e_3]; exact fd_1 h0 h1 (Or.inl c_9))
  · refine lv_lload hx hb d_J_fd_13 (lv_at hl 0 rfl) ?_
    refine lv_lload_n hx hb d_J_fd_15 rfl (lv_at hl 2 rfl) ?_
    refine lv_lmul hx hb d_J_fd_16 ?_
    refine lv_lload_n hx hb d_J_fd_17 rfl (lv_at hl 1 rfl) ?_
    refine rl_eq (tgt := 27) hx hb d_J_fd_18 d_J_fd_19 (by decide) (fun c_18 => ?_) (fun c_18 => ?_)
    · refine lv_lload hx hb d_J_fd_27 (lv_at hl 0 rfl) ?_
      exact rt_l hx hb hr hlk d_J_fd_29 (by rw [e_3] at c_18 ⊢; exact fd_1 h0 h1 (Or.inr c_18))
    · refine lv_lload hx hb d_J_fd_22 (lv_at hl 0 rfl) ?_
      refine lv_lconst (v := 1) hx hb d_J_fd_24 (by decide) ?_
      refine lv_lsub hx hb d_J_fd_25 ?_
      exact rt_l hx hb hr hlk d_J_fd_26 (by rw [e_3] at c_18 ⊢; exact fd_3 h0 h1 c_9 c_18)
set_option maxHeartbeats 4000000 in
set_option maxRecDepth 100000 in
theorem c_J_minl (l : Launch) (x : Int64) (y : Int64) : Met l y_J_minl w_J_minl ({ frames := 0, cells := 0, slots := 0, locals := 0 } : Room) (va_Pc [.long x, .long y] (fun _ => True)) (vp_Sl (fun r => r = if y < x then y else x)) 0 0 (fun _ => False) := by
  refine pm [.long x, .long y] (by decide +kernel) (Nat.le_of_ble_eq_true rfl) (fun p e s m below meth c ls hx hb hr hml hown hg hlk hnm hB hl => ?_)
  have hl : lv_has ls 4 [(0, .long x), (2, .long y)] := hl
  refine lv_lload_n hx hb d_J_minl_0 rfl (lv_at hl 0 rfl) ?_
  refine lv_lload_n hx hb d_J_minl_1 rfl (lv_at hl 1 rfl) ?_
  refine rl_gt (tgt := 10) hx hb d_J_minl_2 d_J_minl_3 (by decide) (fun c_2 => ?_) (fun c_2 => ?_)
  · refine lv_lload_n hx hb d_J_minl_10 rfl (lv_at hl 1 rfl) ?_
    exact rt_l hx hb hr hlk d_J_minl_11 (by rw [if_pos c_2])
  · refine lv_lload_n hx hb d_J_minl_6 rfl (lv_at hl 0 rfl) ?_
    refine lv_goto (tgt := 11) hx hb d_J_minl_7 (by decide) ?_
    exact rt_l hx hb hr hlk d_J_minl_11 (by rw [if_neg c_2])
set_option maxHeartbeats 4000000 in
set_option maxRecDepth 100000 in
theorem c_J_maxl (l : Launch) (x : Int64) (y : Int64) : Met l y_J_maxl w_J_maxl ({ frames := 0, cells := 0, slots := 0, locals := 0 } : Room) (va_Pc [.long x, .long y] (fun _ => True)) (vp_Sl (fun r => r = if x < y then y else x)) 0 0 (fun _ => False) := by
  refine pm [.long x, .long y] (by decide +kernel) (Nat.le_of_ble_eq_true rfl) (fun p e s m below meth c ls hx hb hr hml hown hg hlk hnm hB hl => ?_)
  have hl : lv_has ls 4 [(0, .long x), (2, .long y)] := hl
  refine lv_lload_n hx hb d_J_maxl_0 rfl (lv_at hl 0 rfl) ?_
  refine lv_lload_n hx hb d_J_maxl_1 rfl (lv_at hl 1 rfl) ?_
  refine rl_lt (tgt := 10) hx hb d_J_maxl_2 d_J_maxl_3 (by decide) (fun c_2 => ?_) (fun c_2 => ?_)
  · refine lv_lload_n hx hb d_J_maxl_10 rfl (lv_at hl 1 rfl) ?_
    exact rt_l hx hb hr hlk d_J_maxl_11 (by rw [if_pos c_2])
  · refine lv_lload_n hx hb d_J_maxl_6 rfl (lv_at hl 0 rfl) ?_
    refine lv_goto (tgt := 11) hx hb d_J_maxl_7 (by decide) ?_
    exact rt_l hx hb hr hlk d_J_maxl_11 (by rw [if_neg c_2])
set_option maxHeartbeats 4000000 in
set_option maxRecDepth 100000 in
theorem c_J_mini (l : Launch) (x : Int32) (y : Int32) : Met l y_J_mini w_J_mini ({ frames := 0, cells := 0, slots := 0, locals := 0 } : Room) (va_Pc [.int x, .int y] (fun _ => True)) (vp_Si (fun r => r = if y < x then y else x)) 0 0 (fun _ => False) := by
  refine pm [.int x, .int y] (by decide +kernel) (Nat.le_of_ble_eq_true rfl) (fun p e s m below meth c ls hx hb hr hml hown hg hlk hnm hB hl => ?_)
  have hl : lv_has ls 2 [(0, .int x), (1, .int y)] := hl
  refine lv_iload_n hx hb d_J_mini_0 rfl (lv_at hl 0 rfl) ?_
  refine lv_iload_n hx hb d_J_mini_1 rfl (lv_at hl 1 rfl) ?_
  refine lv_icmp_gt (tgt := 9) hx hb d_J_mini_2 (by decide) (fun c_2 => ?_) (fun c_2 => ?_)
  · refine lv_iload_n hx hb d_J_mini_9 rfl (lv_at hl 1 rfl) ?_
    exact rt_i hx hb hr hlk d_J_mini_10 (by rw [if_pos c_2])
  · refine lv_iload_n hx hb d_J_mini_5 rfl (lv_at hl 0 rfl) ?_
    refine lv_goto (tgt := 10) hx hb d_J_mini_6 (by decide) ?_
    exact rt_i hx hb hr hlk d_J_mini_10 (by rw [if_neg c_2])
set_option maxHeartbeats 4000000 in
set_option maxRecDepth 100000 in
theorem c_J_maxi (l : Launch) (x : Int32) (y : Int32) : Met l y_J_maxi w_J_maxi ({ frames := 0, cells := 0, slots := 0, locals := 0 } : Room) (va_Pc [.int x, .int y] (fun _ => True)) (vp_Si (fun r => r = if x < y then y else x)) 0 0 (fun _ => False) := by
  refine pm [.int x, .int y] (by decide +kernel) (Nat.le_of_ble_eq_true rfl) (fun p e s m below meth c ls hx hb hr hml hown hg hlk hnm hB hl => ?_)
  have hl : lv_has ls 2 [(0, .int x), (1, .int y)] := hl
  refine lv_iload_n hx hb d_J_maxi_0 rfl (lv_at hl 0 rfl) ?_
  refine lv_iload_n hx hb d_J_maxi_1 rfl (lv_at hl 1 rfl) ?_
  refine lv_icmp_lt (tgt := 9) hx hb d_J_maxi_2 (by decide) (fun c_2 => ?_) (fun c_2 => ?_)
  · refine lv_iload_n hx hb d_J_maxi_9 rfl (lv_at hl 1 rfl) ?_
    exact rt_i hx hb hr hlk d_J_maxi_10 (by rw [if_pos c_2])
  · refine lv_iload_n hx hb d_J_maxi_5 rfl (lv_at hl 0 rfl) ?_
    refine lv_goto (tgt := 10) hx hb d_J_maxi_6 (by decide) ?_
    exact rt_i hx hb hr hlk d_J_maxi_10 (by rw [if_neg c_2])
set_option maxHeartbeats 4000000 in
set_option maxRecDepth 100000 in
theorem c_J_cmp (l : Launch) (x : Int64) (y : Int64) : Met l y_J_cmp w_J_cmp ({ frames := 0, cells := 0, slots := 0, locals := 0 } : Room) (va_Pc [.long x, .long y] (fun _ => True)) (vp_Si (fun r => r = if x < y then -1 else if x = y then 0 else 1)) 0 0 (fun _ => False) := by
  refine pm [.long x, .long y] (by decide +kernel) (Nat.le_of_ble_eq_true rfl) (fun p e s m below meth c ls hx hb hr hml hown hg hlk hnm hB hl => ?_)
  have hl : lv_has ls 4 [(0, .long x), (2, .long y)] := hl
  refine lv_lload_n hx hb d_J_cmp_0 rfl (lv_at hl 0 rfl) ?_
  refine lv_lload_n hx hb d_J_cmp_1 rfl (lv_at hl 1 rfl) ?_
  refine rl_ge (tgt := 10) hx hb d_J_cmp_2 d_J_cmp_3 (by decide) (fun c_2 => ?_) (fun c_2 => ?_)
  · refine lv_lload_n hx hb d_J_cmp_10 rfl (lv_at hl 0 rfl) ?_
    refine lv_lload_n hx hb d_J_cmp_11 rfl (lv_at hl 1 rfl) ?_
    refine rl_ne (tgt := 20) hx hb d_J_cmp_12 d_J_cmp_13 (by decide) (fun c_12 => ?_) (fun c_12 => ?_)
    · refine lv_iconst (v := 1) hx hb d_J_cmp_20 (by decide) ?_
      exact rt_i hx hb hr hlk d_J_cmp_21 (by rw [if_neg (Int64.not_lt.mpr c_2), if_neg c_12])
    · refine lv_iconst (v := 0) hx hb d_J_cmp_16 (by decide) ?_
      refine lv_goto (tgt := 21) hx hb d_J_cmp_17 (by decide) ?_
      exact rt_i hx hb hr hlk d_J_cmp_21 (by rw [if_neg (Int64.not_lt.mpr c_2), if_pos c_12])
  · refine lv_iconst (v := -1) hx hb d_J_cmp_6 (by decide) ?_
    refine lv_goto (tgt := 21) hx hb d_J_cmp_7 (by decide) ?_
    exact rt_i hx hb hr hlk d_J_cmp_21 (by rw [if_pos (Int64.not_le.mp c_2)])
set_option maxHeartbeats 4000000 in
set_option maxRecDepth 100000 in
theorem c_J_cu (l : Launch) (x : Int64) (y : Int64) : Met l y_J_cu w_J_cu ({ frames := 1, cells := 0, slots := 0, locals := 23 } : Room) (va_Pc [.long x, .long y] (fun _ => True)) (vp_Si (fun r => r = if uN x < uN y then -1 else if uN x = uN y then 0 else 1)) 0 0 (fun _ => False) := by
  refine pm [.long x, .long y] (by decide +kernel) (Nat.le_of_ble_eq_true rfl) (fun p e s m below meth c ls hx hb hr hml hown hg hlk hnm hB hl => ?_)
  have hl : lv_has ls 4 [(0, .long x), (2, .long y)] := hl
  refine lv_lload_n hx hb d_J_cu_0 rfl (lv_at hl 0 rfl) ?_
  refine lv_ldc2 (v := -9223372036854775808) hx hb hown (hg _ k_195) d_J_cu_1 ?_
  refine lv_ladd hx hb d_J_cu_4 ?_
  refine lv_topl (fun x2 ex => ?_)
  refine lv_lload_n hx hb d_J_cu_5 rfl (lv_at hl 1 rfl) ?_
  refine lv_ldc2 (v := -9223372036854775808) hx hb hown (hg _ k_195) d_J_cu_6 ?_
  refine lv_ladd hx hb d_J_cu_9 ?_
  refine lv_topl (fun y2 ey => ?_)
  refine cs_i [.long x2, .long y2] 2 rfl (rest := []) hx hb hml hown hg (c_J_cmp l x2 y2) k_196 k_197 k_5 k_198 (by decide +kernel) hl.1 rfl rfl ⟨Nat.le_of_ble_eq_true rfl, Nat.le_of_ble_eq_true rfl⟩ rfl (Nat.le_of_ble_eq_true rfl) ⟨Nat.zero_le _, Nat.zero_le _⟩ d_J_cu_10 (fun r_10 h_10 => ?_)
  exact rt_i hx hb hr hlk d_J_cu_13 (by rw [h_10, ex, ey]; exact cu_end x y)
set_option maxHeartbeats 4000000 in
set_option maxRecDepth 100000 in
theorem c_J_inz (l : Launch) (x : Int32) : Met l y_J_inz w_J_inz ({ frames := 0, cells := 0, slots := 0, locals := 0 } : Room) (va_Pc [.int x] (fun _ => True)) (vp_Si (fun r => ∃ n, LZ 32 (uI x) n ∧ r = nI n)) 0 0 (fun _ => False) := by
  refine pm [.int x] (by decide +kernel) (Nat.le_of_ble_eq_true rfl) (fun p e s m below meth c ls hx hb hr hml hown hg hlk hnm hB hl => ?_)
  have hl : lv_has ls 2 [(0, .int x)] := hl
  refine lv_iload_n hx hb d_J_inz_0 rfl (lv_at hl 0 rfl) ?_
  refine lv_if_gt (tgt := 15) hx hb d_J_inz_1 (by decide) (fun c_1 => ?_) (fun c_1 => ?_)
  · have hX : uI x < 2147483648 := nz_X c_1
    refine lv_bipush (v := 31) hx hb d_J_inz_15 (by decide) ?_
    refine lv_istore_n (lv' := [(1, .int 31), (0, .int x)]) hx hb d_J_inz_17 rfl hl (by decide) rfl (fun ls hl => ?_)
    refine jn2 (α1 := Int32) (α2 := Int32) 33 2 (fun i n => NZ (uI x) 16 i n) (fun i n => [(0, .int i), (1, .int n)]) (fun i n => []) (fun i n hj_33 ls hl => ?_) (fun K_33 => ?_)
    · have hl : lv_has ls 2 [(0, .int i), (1, .int n)] := hl
      refine jn2 (α1 := Int32) (α2 := Int32) 48 2 (fun i n => NZ (uI x) 8 i n) (fun i n => [(0, .int i), (1, .int n)]) (fun i n => []) (fun i n hj_48 ls hl => ?_) (fun K_48 => ?_)
      · have hl : lv_has ls 2 [(0, .int i), (1, .int n)] := hl
        refine jn2 (α1 := Int32) (α2 := Int32) 61 2 (fun i n => NZ (uI x) 4 i n) (fun i n => [(0, .int i), (1, .int n)]) (fun i n => []) (fun i n hj_61 ls hl => ?_) (fun K_61 => ?_)
        · have hl : lv_has ls 2 [(0, .int i), (1, .int n)] := hl
          refine jn2 (α1 := Int32) (α2 := Int32) 73 2 (fun i n => NZ (uI x) 2 i n) (fun i n => [(0, .int i), (1, .int n)]) (fun i n => []) (fun i n hj_73 ls hl => ?_) (fun K_73 => ?_)
          · have hl : lv_has ls 2 [(0, .int i), (1, .int n)] := hl
            refine lv_iload_n hx hb d_J_inz_73 rfl (lv_at hl 1 rfl) ?_
            refine lv_iload_n hx hb d_J_inz_74 rfl (lv_at hl 0 rfl) ?_
            refine lv_iconst (v := 1) hx hb d_J_inz_75 (by decide) ?_
            refine lv_iushr hx hb d_J_inz_76 rfl ?_
            refine lv_isub hx hb d_J_inz_77 ?_
            exact rt_i hx hb hr hlk d_J_inz_78 (nz_end hX hj_73)
          · refine lv_iload_n hx hb d_J_inz_61 rfl (lv_at hl 0 rfl) ?_
            refine lv_iconst (v := 4) hx hb d_J_inz_62 (by decide) ?_
            refine lv_icmp_lt (tgt := 73) hx hb d_J_inz_63 (by decide) (fun c_63 => ?_) (fun c_63 => ?_)
            · exact K_73 _ _ (nz_lt (v := 2) hX hj_61 (by decide) (by decide) (by decide) c_63) ls (lv_sub hl [0, 1] rfl)
            · obtain ⟨v_66, e_66⟩ : ∃ y : Int32, y = n + (-2) := ⟨_, rfl⟩
              refine lv_iinc (v := v_66) (lv' := [(1, .int v_66), (0, .int i)]) hx hb d_J_inz_66 hl (k := 1) rfl (by rw [e_66]; rfl) (by decide) rfl (fun ls hl => ?_)
              refine lv_iload_n hx hb d_J_inz_69 rfl (lv_at hl 1 rfl) ?_
              refine lv_iconst (v := 2) hx hb d_J_inz_70 (by decide) ?_
              refine lv_iushr hx hb d_J_inz_71 rfl ?_
              refine lv_topi (fun v_72 e_72 => ?_)
              refine lv_istore_n (lv' := [(0, .int v_72), (1, .int v_66)]) hx hb d_J_inz_72 rfl hl (by decide) rfl (fun ls hl => ?_)
              exact K_73 _ _ (by rw [e_72, e_66]; exact nz_ge (v := 2) hX hj_61 rfl (by decide) (by decide) (by decide) (by decide) c_63 (by decide)) ls (lv_sub hl [0, 1] rfl)
        · refine lv_iload_n hx hb d_J_inz_48 rfl (lv_at hl 0 rfl) ?_
          refine lv_bipush (v := 16) hx hb d_J_inz_49 (by decide) ?_
          refine lv_icmp_lt (tgt := 61) hx hb d_J_inz_51 (by decide) (fun c_51 => ?_) (fun c_51 => ?_)
          · exact K_61 _ _ (nz_lt (v := 4) hX hj_48 (by decide) (by decide) (by decide) c_51) ls (lv_sub hl [0, 1] rfl)
          · obtain ⟨v_54, e_54⟩ : ∃ y : Int32, y = n + (-4) := ⟨_, rfl⟩
            refine lv_iinc (v := v_54) (lv' := [(1, .int v_54), (0, .int i)]) hx hb d_J_inz_54 hl (k := 1) rfl (by rw [e_54]; rfl) (by decide) rfl (fun ls hl => ?_)
            refine lv_iload_n hx hb d_J_inz_57 rfl (lv_at hl 1 rfl) ?_
            refine lv_iconst (v := 4) hx hb d_J_inz_58 (by decide) ?_
            refine lv_iushr hx hb d_J_inz_59 rfl ?_
            refine lv_topi (fun v_60 e_60 => ?_)
            refine lv_istore_n (lv' := [(0, .int v_60), (1, .int v_54)]) hx hb d_J_inz_60 rfl hl (by decide) rfl (fun ls hl => ?_)
            exact K_61 _ _ (by rw [e_60, e_54]; exact nz_ge (v := 4) hX hj_48 rfl (by decide) (by decide) (by decide) (by decide) c_51 (by decide)) ls (lv_sub hl [0, 1] rfl)
      · refine lv_iload_n hx hb d_J_inz_33 rfl (lv_at hl 0 rfl) ?_
        refine lv_sipush (v := 256) hx hb d_J_inz_34 (by decide) ?_
        refine lv_icmp_lt (tgt := 48) hx hb d_J_inz_37 (by decide) (fun c_37 => ?_) (fun c_37 => ?_)
        · exact K_48 _ _ (nz_lt (v := 8) hX hj_33 (by decide) (by decide) (by decide) c_37) ls (lv_sub hl [0, 1] rfl)
        · obtain ⟨v_40, e_40⟩ : ∃ y : Int32, y = n + (-8) := ⟨_, rfl⟩
          refine lv_iinc (v := v_40) (lv' := [(1, .int v_40), (0, .int i)]) hx hb d_J_inz_40 hl (k := 1) rfl (by rw [e_40]; rfl) (by decide) rfl (fun ls hl => ?_)
          refine lv_iload_n hx hb d_J_inz_43 rfl (lv_at hl 1 rfl) ?_
          refine lv_bipush (v := 8) hx hb d_J_inz_44 (by decide) ?_
          refine lv_iushr hx hb d_J_inz_46 rfl ?_
          refine lv_topi (fun v_47 e_47 => ?_)
          refine lv_istore_n (lv' := [(0, .int v_47), (1, .int v_40)]) hx hb d_J_inz_47 rfl hl (by decide) rfl (fun ls hl => ?_)
          exact K_48 _ _ (by rw [e_47, e_40]; exact nz_ge (v := 8) hX hj_33 rfl (by decide) (by decide) (by decide) (by decide) c_37 (by decide)) ls (lv_sub hl [0, 1] rfl)
    · refine lv_iload_n hx hb d_J_inz_18 rfl (lv_at hl 1 rfl) ?_
      refine rl_ldcw (v := 65536) hx hb hown (hg _ k_78) d_J_inz_19 ?_
      refine lv_icmp_lt (tgt := 33) hx hb d_J_inz_22 (by decide) (fun c_22 => ?_) (fun c_22 => ?_)
      · exact K_33 _ _ (nz_lt (v := 16) hX (nz_0 c_1) (by decide) (by decide) (by decide) c_22) ls (lv_sub hl [1, 0] rfl)
      · obtain ⟨v_25, e_25⟩ : ∃ y : Int32, y = 31 + (-16) := ⟨_, rfl⟩
        refine lv_iinc (v := v_25) (lv' := [(1, .int v_25), (0, .int x)]) hx hb d_J_inz_25 hl (k := 0) rfl (by rw [e_25]; rfl) (by decide) rfl (fun ls hl => ?_)
        refine lv_iload_n hx hb d_J_inz_28 rfl (lv_at hl 1 rfl) ?_
        refine lv_bipush (v := 16) hx hb d_J_inz_29 (by decide) ?_
        refine lv_iushr hx hb d_J_inz_31 rfl ?_
        refine lv_topi (fun v_32 e_32 => ?_)
        refine lv_istore_n (lv' := [(0, .int v_32), (1, .int v_25)]) hx hb d_J_inz_32 rfl hl (by decide) rfl (fun ls hl => ?_)
        exact K_33 _ _ (by rw [e_32, e_25]; exact nz_ge (v := 16) hX (nz_0 c_1) rfl (by decide) (by decide) (by decide) (by decide) c_22 (by decide)) ls (lv_sub hl [0, 1] rfl)
  · refine lv_iload_n hx hb d_J_inz_4 rfl (lv_at hl 0 rfl) ?_
    refine lv_if_ne (tgt := 13) hx hb d_J_inz_5 (by decide) (fun c_5 => ?_) (fun c_5 => ?_)
    · refine lv_iconst (v := 0) hx hb d_J_inz_13 (by decide) ?_
      exact rt_i hx hb hr hlk d_J_inz_14 ⟨0, nz_neg c_1 c_5, rfl⟩
    · refine lv_bipush (v := 32) hx hb d_J_inz_8 (by decide) ?_
      refine lv_goto (tgt := 14) hx hb d_J_inz_10 (by decide) ?_
      exact rt_i hx hb hr hlk d_J_inz_14 ⟨32, nz_zero c_5, rfl⟩
set_option maxHeartbeats 4000000 in
set_option maxRecDepth 100000 in
theorem c_J_lnz (l : Launch) (x : Int64) : Met l y_J_lnz w_J_lnz ({ frames := 1, cells := 0, slots := 0, locals := 21 } : Room) (va_Pc [.long x] (fun _ => True)) (vp_Si (fun r => ∃ n, LZ 64 (uN x) n ∧ r = nI n)) 0 0 (fun _ => False) := by
  refine pm [.long x] (by decide +kernel) (Nat.le_of_ble_eq_true rfl) (fun p e s m below meth c ls hx hb hr hml hown hg hlk hnm hB hl => ?_)
  have hl : lv_has ls 3 [(0, .long x)] := hl
  refine lv_lload_n hx hb d_J_lnz_0 rfl (lv_at hl 0 rfl) ?_
  refine lv_bipush (v := 32) hx hb d_J_lnz_1 (by decide) ?_
  refine lv_lushr hx hb d_J_lnz_3 rfl ?_
  refine lv_l2i hx hb d_J_lnz_4 rfl ?_
  refine lv_topi (fun v_5 e_5 => ?_)
  refine lv_istore_n (lv' := [(2, .int v_5), (0, .long x)]) hx hb d_J_lnz_5 rfl hl (by decide) rfl (fun ls hl => ?_)
  refine lv_iload_n hx hb d_J_lnz_6 rfl (lv_at hl 0 rfl) ?_
  refine lv_if_ne (tgt := 21) hx hb d_J_lnz_7 (by decide) (fun c_7 => ?_) (fun c_7 => ?_)
  · refine lv_iload_n hx hb d_J_lnz_21 rfl (lv_at hl 0 rfl) ?_
    refine cs_i [.int v_5] 1 rfl (rest := []) hx hb hml hown hg (c_J_inz l v_5) k_75 k_76 k_6 k_77 (by decide +kernel) hl.1 rfl rfl ⟨Nat.le_of_ble_eq_true rfl, Nat.le_of_ble_eq_true rfl⟩ rfl (Nat.le_of_ble_eq_true rfl) ⟨Nat.zero_le _, Nat.zero_le _⟩ d_J_lnz_22 (fun r_22 h_22 => ?_)
    exact rt_i hx hb hr hlk d_J_lnz_25 (lnz_hi c_7 e_5 h_22)
  · refine lv_bipush (v := 32) hx hb d_J_lnz_10 (by decide) ?_
    refine lv_lload_n hx hb d_J_lnz_12 rfl (lv_at hl 1 rfl) ?_
    refine lv_l2i hx hb d_J_lnz_13 rfl ?_
    refine lv_topi (fun xl exl => ?_)
    refine cs_i [.int xl] 1 rfl (rest := [.int 32]) hx hb hml hown hg (c_J_inz l xl) k_75 k_76 k_6 k_77 (by decide +kernel) hl.1 rfl rfl ⟨Nat.le_of_ble_eq_true rfl, Nat.le_of_ble_eq_true rfl⟩ rfl (Nat.le_of_ble_eq_true rfl) ⟨Nat.zero_le _, Nat.zero_le _⟩ d_J_lnz_14 (fun r_14 h_14 => ?_)
    refine lv_iadd hx hb d_J_lnz_17 ?_
    refine lv_goto (tgt := 25) hx hb d_J_lnz_18 (by decide) ?_
    exact rt_i hx hb hr hlk d_J_lnz_25 (lnz_lo c_7 e_5 exl h_14)
set_option maxHeartbeats 4000000 in
set_option maxRecDepth 100000 in
theorem c_J_du (l : Launch) (x : Int64) (y : Int64) (h0 : 0 < y) : Met l y_J_du w_J_du ({ frames := 0, cells := 0, slots := 0, locals := 0 } : Room) (va_Pc [.long x, .long y] (fun _ => True)) (vp_Sl (fun r => uN r = uN x / uN y)) 0 0 (fun _ => False) := by
  refine pm [.long x, .long y] (by decide +kernel) (Nat.le_of_ble_eq_true rfl) (fun p e s m below meth c ls hx hb hr hml hown hg hlk hnm hB hl => ?_)
  have hl : lv_has ls 8 [(0, .long x), (2, .long y)] := hl
  refine lv_lload_n hx hb d_J_du_0 rfl (lv_at hl 1 rfl) ?_
  refine lv_lconst (v := 0) hx hb d_J_du_1 (by decide) ?_
  refine rl_lt (tgt := 41) hx hb d_J_du_2 d_J_du_3 (by decide) (fun c_2 => ?_) (fun c_2 => ?_)
  · exact absurd (Int64.lt_trans h0 c_2) Int64.lt_irrefl
  · refine lv_lload_n hx hb d_J_du_6 rfl (lv_at hl 0 rfl) ?_
    refine lv_iconst (v := 1) hx hb d_J_du_7 (by decide) ?_
    refine lv_lushr hx hb d_J_du_8 rfl ?_
    refine lv_lload_n hx hb d_J_du_9 rfl (lv_at hl 1 rfl) ?_
    refine lv_ldiv hx hb d_J_du_10 (nz_of h0) ?_
    refine lv_iconst (v := 1) hx hb d_J_du_11 (by decide) ?_
    refine lv_lshl hx hb d_J_du_12 rfl ?_
    refine lv_topl (fun v_13 e_13 => ?_)
    refine lv_lstore (lv' := [(4, .long v_13), (0, .long x), (2, .long y)]) hx hb d_J_du_13 hl (by decide) rfl (fun ls hl => ?_)
    refine lv_lload_n hx hb d_J_du_15 rfl (lv_at hl 1 rfl) ?_
    refine lv_lload hx hb d_J_du_16 (lv_at hl 0 rfl) ?_
    refine lv_lload_n hx hb d_J_du_18 rfl (lv_at hl 2 rfl) ?_
    refine lv_lmul hx hb d_J_du_19 ?_
    refine lv_lsub hx hb d_J_du_20 ?_
    refine lv_topl (fun v_21 e_21 => ?_)
    refine lv_lstore (lv' := [(6, .long v_21), (4, .long v_13), (0, .long x), (2, .long y)]) hx hb d_J_du_21 hl (by decide) rfl (fun ls hl => ?_)
    refine lv_lload hx hb d_J_du_23 (lv_at hl 1 rfl) ?_
    refine lv_lload hx hb d_J_du_25 (lv_at hl 0 rfl) ?_
    refine lv_lload hx hb d_J_du_27 (lv_at hl 0 rfl) ?_
    refine lv_lload_n hx hb d_J_du_29 rfl (lv_at hl 3 rfl) ?_
    refine lv_lsub hx hb d_J_du_30 ?_
    refine lv_ldc2 (v := -1) hx hb hown (hg _ k_223) d_J_du_31 ?_
    refine lv_lxor hx hb d_J_du_34 ?_
    refine lv_lor hx hb d_J_du_35 ?_
    refine lv_bipush (v := 63) hx hb d_J_du_36 (by decide) ?_
    refine lv_lushr hx hb d_J_du_38 rfl ?_
    refine lv_ladd hx hb d_J_du_39 ?_
    exact rt_l hx hb hr hlk d_J_du_40 (du_1 h0 e_13 e_21)
set_option maxHeartbeats 4000000 in
set_option maxRecDepth 100000 in
theorem c_J_ru (l : Launch) (x : Int64) (y : Int64) (h0 : 0 < y) : Met l y_J_ru w_J_ru ({ frames := 0, cells := 0, slots := 0, locals := 0 } : Room) (va_Pc [.long x, .long y] (fun _ => True)) (vp_Sl (fun r => uN r = uN x % uN y)) 0 0 (fun _ => False) := by
  refine pm [.long x, .long y] (by decide +kernel) (Nat.le_of_ble_eq_true rfl) (fun p e s m below meth c ls hx hb hr hml hown hg hlk hnm hB hl => ?_)
  have hl : lv_has ls 8 [(0, .long x), (2, .long y)] := hl
  refine lv_lload_n hx hb d_J_ru_0 rfl (lv_at hl 1 rfl) ?_
  refine lv_lconst (v := 0) hx hb d_J_ru_1 (by decide) ?_
  refine rl_lt (tgt := 40) hx hb d_J_ru_2 d_J_ru_3 (by decide) (fun c_2 => ?_) (fun c_2 => ?_)
  · exact absurd (Int64.lt_trans h0 c_2) Int64.lt_irrefl
  · refine lv_lload_n hx hb d_J_ru_6 rfl (lv_at hl 0 rfl) ?_
    refine lv_iconst (v := 1) hx hb d_J_ru_7 (by decide) ?_
    refine lv_lushr hx hb d_J_ru_8 rfl ?_
    refine lv_lload_n hx hb d_J_ru_9 rfl (lv_at hl 1 rfl) ?_
    refine lv_ldiv hx hb d_J_ru_10 (nz_of h0) ?_
    refine lv_iconst (v := 1) hx hb d_J_ru_11 (by decide) ?_
    refine lv_lshl hx hb d_J_ru_12 rfl ?_
    refine lv_topl (fun v_13 e_13 => ?_)
    refine lv_lstore (lv' := [(4, .long v_13), (0, .long x), (2, .long y)]) hx hb d_J_ru_13 hl (by decide) rfl (fun ls hl => ?_)
    refine lv_lload_n hx hb d_J_ru_15 rfl (lv_at hl 1 rfl) ?_
    refine lv_lload hx hb d_J_ru_16 (lv_at hl 0 rfl) ?_
    refine lv_lload_n hx hb d_J_ru_18 rfl (lv_at hl 2 rfl) ?_
    refine lv_lmul hx hb d_J_ru_19 ?_
    refine lv_lsub hx hb d_J_ru_20 ?_
    refine lv_topl (fun v_21 e_21 => ?_)
    refine lv_lstore (lv' := [(6, .long v_21), (4, .long v_13), (0, .long x), (2, .long y)]) hx hb d_J_ru_21 hl (by decide) rfl (fun ls hl => ?_)
    refine lv_lload hx hb d_J_ru_23 (lv_at hl 0 rfl) ?_
    refine lv_lload hx hb d_J_ru_25 (lv_at hl 0 rfl) ?_
    refine lv_lload_n hx hb d_J_ru_27 rfl (lv_at hl 3 rfl) ?_
    refine lv_lsub hx hb d_J_ru_28 ?_
    refine lv_ldc2 (v := -1) hx hb hown (hg _ k_223) d_J_ru_29 ?_
    refine lv_lxor hx hb d_J_ru_32 ?_
    refine lv_bipush (v := 63) hx hb d_J_ru_33 (by decide) ?_
    refine lv_lshr hx hb d_J_ru_35 rfl ?_
    refine lv_lload_n hx hb d_J_ru_36 rfl (lv_at hl 3 rfl) ?_
    refine lv_land hx hb d_J_ru_37 ?_
    refine lv_lsub hx hb d_J_ru_38 ?_
    exact rt_l hx hb hr hlk d_J_ru_39 (ru_1 h0 e_13 e_21)
set_option maxHeartbeats 4000000 in
set_option maxRecDepth 100000 in
theorem c_J_mh (l : Launch) (x : Int64) (y : Int64) : Met l y_J_mh w_J_mh ({ frames := 0, cells := 0, slots := 0, locals := 0 } : Room) (va_Pc [.long x, .long y] (fun _ => True)) (vp_Sl (fun r => r.toInt = x.toInt * y.toInt / 18446744073709551616)) 0 0 (fun _ => False) := by
  refine pm [.long x, .long y] (by decide +kernel) (Nat.le_of_ble_eq_true rfl) (fun p e s m below meth c ls hx hb hr hml hown hg hlk hnm hB hl => ?_)
  have hl : lv_has ls 20 [(0, .long x), (2, .long y)] := hl
  refine lv_lload_n hx hb d_J_mh_0 rfl (lv_at hl 0 rfl) ?_
  refine lv_bipush (v := 32) hx hb d_J_mh_1 (by decide) ?_
  refine lv_lshr hx hb d_J_mh_3 rfl ?_
  refine lv_topl (fun v_4 e_4 => ?_)
  refine lv_lstore (lv' := [(4, .long v_4), (0, .long x), (2, .long y)]) hx hb d_J_mh_4 hl (by decide) rfl (fun ls hl => ?_)
  refine lv_lload_n hx hb d_J_mh_6 rfl (lv_at hl 1 rfl) ?_
  refine lv_ldc2 (v := 4294967295) hx hb hown (hg _ k_191) d_J_mh_7 ?_
  refine lv_land hx hb d_J_mh_10 ?_
  refine lv_topl (fun v_11 e_11 => ?_)
  refine lv_lstore (lv' := [(6, .long v_11), (4, .long v_4), (0, .long x), (2, .long y)]) hx hb d_J_mh_11 hl (by decide) rfl (fun ls hl => ?_)
  refine lv_lload_n hx hb d_J_mh_13 rfl (lv_at hl 3 rfl) ?_
  refine lv_bipush (v := 32) hx hb d_J_mh_14 (by decide) ?_
  refine lv_lshr hx hb d_J_mh_16 rfl ?_
  refine lv_topl (fun v_17 e_17 => ?_)
  refine lv_lstore (lv' := [(8, .long v_17), (6, .long v_11), (4, .long v_4), (0, .long x), (2, .long y)]) hx hb d_J_mh_17 hl (by decide) rfl (fun ls hl => ?_)
  refine lv_lload_n hx hb d_J_mh_19 rfl (lv_at hl 4 rfl) ?_
  refine lv_ldc2 (v := 4294967295) hx hb hown (hg _ k_191) d_J_mh_20 ?_
  refine lv_land hx hb d_J_mh_23 ?_
  refine lv_topl (fun v_24 e_24 => ?_)
  refine lv_lstore (lv' := [(10, .long v_24), (8, .long v_17), (6, .long v_11), (4, .long v_4), (0, .long x), (2, .long y)]) hx hb d_J_mh_24 hl (by decide) rfl (fun ls hl => ?_)
  refine lv_lload hx hb d_J_mh_26 (lv_at hl 2 rfl) ?_
  refine lv_lload hx hb d_J_mh_28 (lv_at hl 0 rfl) ?_
  refine lv_lmul hx hb d_J_mh_30 ?_
  refine lv_topl (fun v_31 e_31 => ?_)
  refine lv_lstore (lv' := [(12, .long v_31), (10, .long v_24), (8, .long v_17), (6, .long v_11), (4, .long v_4), (0, .long x), (2, .long y)]) hx hb d_J_mh_31 hl (by decide) rfl (fun ls hl => ?_)
  refine lv_lload hx hb d_J_mh_33 (lv_at hl 4 rfl) ?_
  refine lv_lload hx hb d_J_mh_35 (lv_at hl 1 rfl) ?_
  refine lv_lmul hx hb d_J_mh_37 ?_
  refine lv_lload hx hb d_J_mh_38 (lv_at hl 0 rfl) ?_
  refine lv_bipush (v := 32) hx hb d_J_mh_40 (by decide) ?_
  refine lv_lushr hx hb d_J_mh_42 rfl ?_
  refine lv_ladd hx hb d_J_mh_43 ?_
  refine lv_topl (fun v_44 e_44 => ?_)
  refine lv_lstore (lv' := [(14, .long v_44), (12, .long v_31), (10, .long v_24), (8, .long v_17), (6, .long v_11), (4, .long v_4), (0, .long x), (2, .long y)]) hx hb d_J_mh_44 hl (by decide) rfl (fun ls hl => ?_)
  refine lv_lload hx hb d_J_mh_46 (lv_at hl 0 rfl) ?_
  refine lv_ldc2 (v := 4294967295) hx hb hown (hg _ k_191) d_J_mh_48 ?_
  refine lv_land hx hb d_J_mh_51 ?_
  refine lv_topl (fun v_52 e_52 => ?_)
  refine lv_lstore (lv' := [(16, .long v_52), (14, .long v_44), (12, .long v_31), (10, .long v_24), (8, .long v_17), (6, .long v_11), (4, .long v_4), (0, .long x), (2, .long y)]) hx hb d_J_mh_52 hl (by decide) rfl (fun ls hl => ?_)
  refine lv_lload hx hb d_J_mh_54 (lv_at hl 1 rfl) ?_
  refine lv_bipush (v := 32) hx hb d_J_mh_56 (by decide) ?_
  refine lv_lshr hx hb d_J_mh_58 rfl ?_
  refine lv_topl (fun v_59 e_59 => ?_)
  refine lv_lstore (lv' := [(18, .long v_59), (16, .long v_52), (14, .long v_44), (12, .long v_31), (10, .long v_24), (8, .long v_17), (6, .long v_11), (4, .long v_4), (0, .long x), (2, .long y)]) hx hb d_J_mh_59 hl (by decide) rfl (fun ls hl => ?_)
  refine lv_lload hx hb d_J_mh_61 (lv_at hl 1 rfl) ?_
  refine lv_lload hx hb d_J_mh_63 (lv_at hl 6 rfl) ?_
  refine lv_lload hx hb d_J_mh_65 (lv_at hl 5 rfl) ?_
  refine lv_lmul hx hb d_J_mh_67 ?_
  refine lv_ladd hx hb d_J_mh_68 ?_
  refine lv_topl (fun v_69 e_69 => ?_)
  refine lv_lstore (lv' := [(16, .long v_69), (18, .long v_59), (14, .long v_44), (12, .long v_31), (10, .long v_24), (8, .long v_17), (6, .long v_11), (4, .long v_4), (0, .long x), (2, .long y)]) hx hb d_J_mh_69 hl (by decide) rfl (fun ls hl => ?_)
  refine lv_lload hx hb d_J_mh_71 (lv_at hl 7 rfl) ?_
  refine lv_lload hx hb d_J_mh_73 (lv_at hl 5 rfl) ?_
  refine lv_lmul hx hb d_J_mh_75 ?_
  refine lv_lload hx hb d_J_mh_76 (lv_at hl 1 rfl) ?_
  refine lv_ladd hx hb d_J_mh_78 ?_
  refine lv_lload hx hb d_J_mh_79 (lv_at hl 0 rfl) ?_
  refine lv_bipush (v := 32) hx hb d_J_mh_81 (by decide) ?_
  refine lv_lshr hx hb d_J_mh_83 rfl ?_
  refine lv_ladd hx hb d_J_mh_84 ?_
  exact rt_l hx hb hr hlk d_J_mh_85 (mh_1 e_4 e_11 e_17 e_24 e_31 e_44 e_52 e_59 e_69)
end
section
/-- to the nearest int -/
def cl (v : Int) : Int32 := if v < -2147483648 then -2147483648 else if 2147483647 < v then 2147483647 else Int32.ofInt v
theorem l2i_of (x : Int64) : x.toInt32 = Int32.ofInt x.toInt := Int32.toInt_inj.mp (by rw [Int64.toInt_toInt32, Int32.toInt_ofInt])
theorem cut_end {v w r : Int64} (hw : w = if v < 2147483647 then v else 2147483647) (hr : r = if (-2147483648 : Int64) < w then w else -2147483648) : r.toInt32 = cl v.toInt := by
  have a : (2147483647 : Int64).toInt = 2147483647 := rfl
  have b : (-2147483648 : Int64).toInt = -2147483648 := rfl
  have h1 : v < 2147483647 ↔ v.toInt < 2147483647 := by rw [l_lt, a]
  have h2 : (-2147483648 : Int64) < w ↔ -2147483648 < w.toInt := by rw [l_lt, b]
  rw [l2i_of]
  unfold cl
  by_cases c1 : v.toInt < 2147483647
  · rw [if_pos (h1.mpr c1)] at hw
    subst hw
    by_cases c2 : -2147483648 < w.toInt
    · rw [hr, if_pos (h2.mpr c2), if_neg (by omega), if_neg (by omega)]
    · rw [hr, if_neg (fun z => c2 (h2.mp z))]
      split
      · rfl
      · rw [if_neg (by omega), show w.toInt = -2147483648 by omega]; rfl
  · rw [if_neg (fun z => c1 (h1.mp z))] at hw
    rw [hr, hw, if_pos (by decide +kernel), if_neg (by omega)]
    split
    · rfl
    · rw [show v.toInt = 2147483647 by omega]; rfl
theorem sz_neg {v : Int64} (c : ¬ 0 ≤ v) : uN (-v) = v.toInt.natAbs := by
  have z : (0 : Int64).toInt = 0 := rfl
  have h := uN_lt v
  have i := uN_int v
  rw [l_le, z] at c
  rw [uN_ng]
  split at i <;> omega
theorem sz_pos {v : Int64} (c : 0 ≤ v) : uN v = v.toInt.natAbs := by
  have z : (0 : Int64).toInt = 0 := rfl
  rw [l_le, z] at c
  have := uN_pos c
  omega
theorem px_1 (a b : Int32) : Int64.toInt32 ((Int32.toInt64 a * Int32.toInt64 b) >>> ((Int32.toInt64 16) &&& 63)) = Int32.ofInt (a.toInt * b.toInt / 65536) := by
  have h1 := ib a
  have h2 := ib b
  have m := mul_sq (a := a.toInt) (b := b.toInt) (by omega) (by omega)
  rw [l2i_of, sr_i _ 16 (by decide), l_mul (by rw [l_i2l, l_i2l]; omega) (by rw [l_i2l, l_i2l]; omega), l_i2l, l_i2l]
  rfl
def QS (a b r : Int32) : Prop := (b = 0 ∧ r = if 0 < a then 2147483647 else if a < 0 then -2147483648 else 0) ∨ (¬ b = 0 ∧ ∃ q : Int, FD (a.toInt * 65536) b.toInt q ∧ r = cl q)
theorem QS_uniq {a b r s : Int32} (h1 : QS a b r) (h2 : QS a b s) : r = s := by
  rcases h1 with ⟨h, h1⟩ | ⟨h, q, h1, e1⟩ <;> rcases h2 with ⟨k, h2⟩ | ⟨k, q2, h2, e2⟩
  · rw [h1, h2]
  · exact absurd h k
  · exact absurd k h
  · rw [e1, e2, FD_uniq h1 h2]
theorem qx_v {a : Int32} {v : Int64} (e : v = (Int32.toInt64 a) <<< ((Int32.toInt64 16) &&& 63)) : v.toInt = a.toInt * 65536 := by
  have h := ib a
  rw [e, sl_i _ 16 (by decide) (by rw [l_i2l]; omega) (by rw [l_i2l]; omega), l_i2l]; rfl
theorem qx_end {a b : Int32} {v w q : Int64} {r : Int32} (c : ¬ b = 0) (e : v = (Int32.toInt64 a) <<< ((Int32.toInt64 16) &&& 63)) (ew : w = Int32.toInt64 b) (h : FD v.toInt w.toInt q.toInt) (hr : r = cl q.toInt) : QS a b r := by
  rw [qx_v e, ew, l_i2l] at h
  exact Or.inr ⟨c, q.toInt, h, hr⟩
/-! roots -/
def RT (M : Nat) (r : Int32) : Prop := ∃ R : Nat, r = nI R ∧ R * R ≤ M ∧ M < (R + 1) * (R + 1)
def RL (M : Nat) (r : Int64) : Prop := ∃ R : Nat, r = lN R ∧ R * R ≤ M ∧ M < (R + 1) * (R + 1)
theorem rt_un {M R S : Nat} (h1 : R * R ≤ M) (h2 : M < (R + 1) * (R + 1)) (h3 : S * S ≤ M) (h4 : M < (S + 1) * (S + 1)) : R = S := by
  rcases Nat.lt_trichotomy R S with h | h | h
  · have : (R + 1) * (R + 1) ≤ S * S := Nat.mul_le_mul h h
    omega
  · exact h
  · have : (S + 1) * (S + 1) ≤ R * R := Nat.mul_le_mul h h
    omega
theorem RT_uniq {M : Nat} {r s : Int32} (h1 : RT M r) (h2 : RT M s) : r = s := by
  obtain ⟨R, e1, a1, a2⟩ := h1
  obtain ⟨S, e2, b1, b2⟩ := h2
  rw [e1, e2, rt_un a1 a2 b1 b2]
theorem RL_i {M : Nat} {r : Int64} (h : RL M r) : RT M r.toInt32 := by
  obtain ⟨R, e, a, b⟩ := h
  exact ⟨R, by rw [e, lN_i], a, b⟩
theorem four (a b : Nat) : 4 * (a * b) ≤ (a + b) * (a + b) := by
  rcases Nat.le_total a b with h | h
  · obtain ⟨d, rfl⟩ := Nat.le.dest h
    simp only [Nat.add_mul, Nat.mul_add]
    have e : d * a = a * d := Nat.mul_comm d a
    rw [e]
    omega
  · obtain ⟨d, rfl⟩ := Nat.le.dest h
    simp only [Nat.add_mul, Nat.mul_add]
    have e : d * b = b * d := Nat.mul_comm d b
    rw [e]
    omega
theorem am {N R : Nat} (hR : 0 < R) : N < ((R + N / R) / 2 + 1) * ((R + N / R) / 2 + 1) := by
  have h1 : N < R * (N / R + 1) := Nat.lt_mul_div_succ N hR
  generalize N / R = q at *
  have h2 : R + (q + 1) ≤ 2 * ((R + q) / 2 + 1) := by omega
  generalize (R + q) / 2 + 1 = s at *
  have h3 := four R (q + 1)
  have h4 : (R + (q + 1)) * (R + (q + 1)) ≤ 2 * s * (2 * s) := Nat.mul_le_mul h2 h2
  have h5 : 2 * s * (2 * s) = 4 * (s * s) := by rw [Nat.mul_mul_mul_comm]
  omega
def RI (N : Nat) (r nx : Int64) : Prop := ∃ R : Nat, r = lN R ∧ 0 < R ∧ R ≤ 2147483648 ∧ N < (R + 1) * (R + 1) ∧ nx = lN ((R + N / R) / 2)
theorem ri_nx {N R : Nat} {n r : Int64} (hn : n = lN N) (hN : N < 4611686018427387904) (hr : r = lN R) (h0 : 0 < R) (h1 : R ≤ 2147483648) : (r + n / r) >>> ((Int32.toInt64 1) &&& 63) = lN ((R + N / R) / 2) := by
  have d : N / R ≤ N := Nat.div_le_self N R
  rw [hr, hn, pk_lDiv (by omega) h0 (by omega), lN_add]
  apply Int64.toInt_inj.mp
  rw [sr_i _ 1 (by decide), lT (by omega), lT (by omega)]
  rw [Int.natCast_ediv]; rfl
theorem ri_0 {N : Nat} {n v : Int64} {z : Int32} (hn : n = lN N) (hN : N < 4611686018427387904) (c : 2 ≤ n) (hz : ∃ k, LZ 64 (uN n) k ∧ z = nI k) (e : v = 1 <<< ((Int32.toInt64 ((65 - z) >>> ((1 : Int32) &&& 31))) &&& 63)) :
    ∃ R : Nat, v = lN R ∧ 0 < R ∧ R ≤ 2147483648 ∧ N < (R + 1) * (R + 1) := by
  obtain ⟨k, ⟨h1, h2, h3⟩, hk⟩ := hz
  rw [hn, uN_lN (by omega)] at h2 h3
  have hc : 2 ≤ N := by
    rw [hn, show (2 : Int64) = lN 2 from rfl, pk_lLE (by omega) (by omega)] at c
    exact c
  have k1 : k ≤ 62 := by
    rcases Nat.lt_or_ge 62 k with h | h
    · have : 2 ^ (64 - k) ≤ 2 ^ 1 := Nat.pow_le_pow_right (by decide) (by omega)
      omega
    · exact h
  have k2 : 2 ≤ k := by
    rcases Nat.lt_or_ge k 2 with h | h
    · have : 2 ^ 62 ≤ 2 ^ (64 - k - 1) := Nat.pow_le_pow_right (by decide) (by omega)
      omega
    · exact h
  have s1 : (65 - z) >>> ((1 : Int32) &&& 31) = nI ((65 - k) / 2) := by
    rw [hk, show (65 : Int32) = nI 65 from rfl, pk_sub (by omega), pk_shrN (by omega) _ 1 (by decide)]
  have kk : (65 - k) / 2 ≤ 31 := by omega
  have pw : 2 ^ ((65 - k) / 2) ≤ 2 ^ 31 := Nat.pow_le_pow_right (by decide) kk
  refine ⟨2 ^ ((65 - k) / 2), ?_, Nat.two_pow_pos _, by omega, ?_⟩
  · apply uN_inj
    rw [e, s1, sl_u _ _ (sk_l _ (by omega)), uN_lN (by omega)]
    have : uN 1 = 1 := rfl
    rw [this]
    omega
  · have a : 2 ^ (64 - k) ≤ 2 ^ ((65 - k) / 2 + (65 - k) / 2) := Nat.pow_le_pow_right (by decide) (by omega)
    rw [Nat.pow_add] at a
    generalize 2 ^ ((65 - k) / 2) = x at *
    simp only [Nat.add_mul, Nat.mul_add]
    omega
theorem ri_ne {N : Nat} {r nx : Int64} (h : RI N r nx) : ¬ r = 0 := by
  obtain ⟨R, e, h0, h1, -⟩ := h
  rw [e, show (0 : Int64) = lN 0 from rfl, pk_lEQ (by omega) (by omega)]
  omega
theorem ri_st {N : Nat} {n v nx : Int64} (hn : n = lN N) (hN : N < 4611686018427387904) (h : ∃ R : Nat, v = lN R ∧ 0 < R ∧ R ≤ 2147483648 ∧ N < (R + 1) * (R + 1)) (e : nx = (v + n / v) >>> ((Int32.toInt64 1) &&& 63)) : RI N v nx := by
  obtain ⟨R, h1, h2, h3, h4⟩ := h
  exact ⟨R, h1, h2, h3, h4, by rw [e, ri_nx hn hN h1 h2 h3]⟩
theorem ri_end {N : Nat} {r nx : Int64} (hN : N < 4611686018427387904) (h : RI N r nx) (c : r ≤ nx) : RL N r := by
  obtain ⟨R, h1, h2, h3, h4, h5⟩ := h
  refine ⟨R, h1, ?_, h4⟩
  have d : N / R ≤ N := Nat.div_le_self N R
  rw [h1, h5, pk_lLE (by omega) (by omega)] at c
  have : R ≤ N / R := by omega
  have t := Nat.mul_le_mul_left R this
  have u := Nat.mul_div_le N R
  omega
theorem ri_go {N : Nat} {r nx : Int64} (hN : N < 4611686018427387904) (h2 : 2 ≤ N) (h : RI N r nx) (c : ¬ r ≤ nx) : (∃ R : Nat, nx = lN R ∧ 0 < R ∧ R ≤ 2147483648 ∧ N < (R + 1) * (R + 1)) ∧ uN nx < uN r := by
  obtain ⟨R, h1, h0, h3, h4, h5⟩ := h
  have d : N / R ≤ N := Nat.div_le_self N R
  rw [h1, h5, pk_lLE (by omega) (by omega)] at c
  refine ⟨⟨_, h5, ?_, by omega, am h0⟩, by rw [h1, h5, uN_lN (by omega), uN_lN (by omega)]; omega⟩
  rcases Nat.lt_or_ge 1 R with h | h
  · generalize N / R = q
    omega
  · have : R = 1 := by omega
    subst this
    rw [Nat.div_one]
    omega
theorem ri_sm {N : Nat} {n : Int64} (hn : n = lN N) (hN : N < 4611686018427387904) (c : ¬ 2 ≤ n) : RL N n := by
  rw [hn, show (2 : Int64) = lN 2 from rfl, pk_lLE (by omega) (by omega)] at c
  refine ⟨N, hn, ?_, ?_⟩
  · have : N = 0 ∨ N = 1 := by omega
    rcases this with rfl | rfl <;> decide
  · have : N = 0 ∨ N = 1 := by omega
    rcases this with rfl | rfl <;> decide
theorem ri_2 {N : Nat} {n : Int64} (hn : n = lN N) (hN : N < 4611686018427387904) (c : 2 ≤ n) : 2 ≤ N := by
  rw [hn, show (2 : Int64) = lN 2 from rfl, pk_lLE (by omega) (by omega)] at c
  exact c
theorem rx_v {a : Int32} {v : Int64} (c : 0 ≤ a) (e : v = (Int32.toInt64 a) <<< ((Int32.toInt64 16) &&& 63)) : v = lN (a.toInt.toNat * 65536) ∧ a.toInt.toNat * 65536 < 4611686018427387904 := by
  have h := ib a
  have z : (0 : Int32).toInt = 0 := rfl
  rw [i_le, z] at c
  refine ⟨?_, by omega⟩
  apply Int64.toInt_inj.mp
  rw [qx_v e, lT (by omega)]
  omega
theorem rx_0 {a : Int32} (c : ¬ 0 ≤ a) : RT (a.toInt.toNat * 65536) 0 := by
  have z : (0 : Int32).toInt = 0 := rfl
  rw [i_le, z] at c
  rw [show a.toInt.toNat = 0 by omega]
  exact ⟨0, rfl, by decide, by decide⟩
theorem ox_v {a : Int32} {v : Int64} (c : 0 < a) (e : v = 281474976710656 / Int32.toInt64 a) : v = lN (281474976710656 / a.toInt.toNat) ∧ 281474976710656 / a.toInt.toNat < 4611686018427387904 := by
  have h := ib a
  have z : (0 : Int32).toInt = 0 := rfl
  rw [i_lt, z] at c
  have d : 281474976710656 / a.toInt.toNat ≤ 281474976710656 := Nat.div_le_self _ _
  refine ⟨?_, by omega⟩
  have ea : Int32.toInt64 a = lN a.toInt.toNat := Int64.toInt_inj.mp (by rw [l_i2l, lT (by omega)]; omega)
  rw [e, ea, show (281474976710656 : Int64) = lN 281474976710656 from rfl, pk_lDiv (by omega) (by omega) (by omega)]
theorem ox_ne {a : Int32} (c : 0 < a) : ¬ Int32.toInt64 a = 0 := by
  have z : (0 : Int32).toInt = 0 := rfl
  have z2 : (0 : Int64).toInt = 0 := rfl
  rw [i_lt, z] at c
  rw [l_eq, l_i2l, z2]
  omega
/-! the upper half, unsigned -/
theorem up_end {a b m u v : Int64} (h : m.toInt = a.toInt * b.toInt / 18446744073709551616) (hu : u = if 0 ≤ a then 0 else b) (hv : v = if 0 ≤ b then 0 else a) : uN (m + u + v) = uN a * uN b / 18446744073709551616 := by
  have la := uN_lt a
  have lb2 := uN_lt b
  have ia := uN_int a
  have ib2 := uN_int b
  have im := uN_i m
  have ca := uN_ge0 a
  have cb := uN_ge0 b
  have z : uN 0 = 0 := rfl
  have mb : uN a * uN b ≤ 18446744073709551615 * 18446744073709551615 := Nat.mul_le_mul (by omega) (by omega)
  have c0 : ((uN a * uN b : Nat) : Int) = (uN a : Int) * (uN b : Int) := Int.natCast_mul _ _
  rw [uN_add, uN_add]
  by_cases h1 : 0 ≤ a
  · rw [if_pos h1] at hu
    have := ca.mp h1
    rw [if_pos (by omega)] at ia
    by_cases h2 : 0 ≤ b
    · rw [if_pos h2] at hv
      have := cb.mp h2
      rw [if_pos (by omega)] at ib2
      rw [hu, hv, z]
      rw [ia, ib2] at h
      omega
    · rw [if_neg h2] at hv
      have : ¬ uN b < 9223372036854775808 := fun q => h2 (cb.mpr q)
      rw [if_neg (by omega)] at ib2
      rw [hu, hv, z]
      rw [ia, ib2, Int.mul_sub] at h
      omega
  · rw [if_neg h1] at hu
    have : ¬ uN a < 9223372036854775808 := fun q => h1 (ca.mpr q)
    rw [if_neg (by omega)] at ia
    by_cases h2 : 0 ≤ b
    · rw [if_pos h2] at hv
      have := cb.mp h2
      rw [if_pos (by omega)] at ib2
      rw [hu, hv, z]
      rw [ia, ib2, Int.sub_mul] at h
      omega
    · rw [if_neg h2] at hv
      have : ¬ uN b < 9223372036854775808 := fun q => h2 (cb.mpr q)
      rw [if_neg (by omega)] at ib2
      rw [hu, hv]
      rw [ia, ib2, Int.sub_mul, Int.mul_sub] at h
      omega
/-! bytes -/
def CH (a : Int32) (r : Int32) : Prop := r.toInt = ((if a.toInt < 0 then 0 else if 65536 < a.toInt then 65536 else a.toInt) * 255 + 32768) / 65536
theorem ch_x {a w v : Int32} (hw : w = if a < 65536 then a else 65536) (hv : v = if 0 < w then w else 0) : CH a ((v * 255 + 32768) >>> ((16 : Int32) &&& 31)) := by
  have h := ib a
  have z : (0 : Int32).toInt = 0 := rfl
  have z1 : (65536 : Int32).toInt = 65536 := rfl
  have z2 : (255 : Int32).toInt = 255 := rfl
  have z3 : (32768 : Int32).toInt = 32768 := rfl
  have c1 : a < 65536 ↔ a.toInt < 65536 := by rw [i_lt, z1]
  have c2 : 0 < w ↔ 0 < w.toInt := by rw [i_lt, z]
  have ew : w.toInt = if a.toInt < 65536 then a.toInt else 65536 := by
    by_cases q : a < 65536
    · rw [if_pos q] at hw; rw [hw, if_pos (c1.mp q)]
    · rw [if_neg q] at hw; rw [hw, if_neg (fun t => q (c1.mpr t)), z1]
  have ev : v.toInt = if 0 < w.toInt then w.toInt else 0 := by
    by_cases q : 0 < w
    · rw [if_pos q] at hv; rw [hv, if_pos (c2.mp q)]
    · rw [if_neg q] at hv; rw [hv, if_neg (fun t => q (c2.mpr t)), z]
  have bv : 0 ≤ v.toInt ∧ v.toInt ≤ 65536 := by rw [ev]; split <;> split at ew <;> omega
  have m : (v * 255).toInt = v.toInt * 255 := by rw [i_mul, z2] <;> rw [z2] <;> omega
  have s : (v * 255 + 32768).toInt = v.toInt * 255 + 32768 := by rw [i_add, m, z3] <;> rw [m, z3] <;> omega
  unfold CH
  rw [pk_shr _ _ 16 (by decide), Int.shiftRight_eq_div_pow, s]
  show (v.toInt * 255 + 32768) / 65536 = _
  have : v.toInt = if a.toInt < 0 then 0 else if 65536 < a.toInt then 65536 else a.toInt := by
    rw [ev]
    split <;> split at ew <;> split <;> omega
  rw [← this]
theorem qx_ne {b : Int32} {w : Int64} (c : ¬ b = 0) (e : w = Int32.toInt64 b) : ¬ w = 0 := by
  have z : (0 : Int32).toInt = 0 := rfl
  have z2 : (0 : Int64).toInt = 0 := rfl
  rw [e, l_eq, l_i2l, z2]
  rw [i_eq, z] at c
  exact c
theorem qx_mn {a : Int32} {v : Int64} (e : v = (Int32.toInt64 a) <<< ((Int32.toInt64 16) &&& 63)) : ¬ v.toInt = -9223372036854775808 := by
  have h := ib a
  rw [qx_v e]
  omega
theorem ri_n0 {N : Nat} {v : Int64} (h : ∃ R : Nat, v = lN R ∧ 0 < R ∧ R ≤ 2147483648 ∧ N < (R + 1) * (R + 1)) : ¬ v = 0 := by
  obtain ⟨R, e, h0, h1, -⟩ := h
  rw [e, show (0 : Int64) = lN 0 from rfl, pk_lEQ (by omega) (by omega)]
  omega
end
section
set_option maxHeartbeats 4000000 in
set_option maxRecDepth 100000 in
theorem c_X_cut (l : Launch) (v : Int64) : Met l y_X_cut w_X_cut ({ frames := 1, cells := 0, slots := 0, locals := 23 } : Room) (va_Pc [.long v] (fun _ => True)) (vp_Si (fun r => r = cl v.toInt)) 0 0 (fun _ => False) := by
  refine pm [.long v] (by decide +kernel) (Nat.le_of_ble_eq_true rfl) (fun p e s m below meth c ls hx hb hr hml hown hg hlk hnm hB hl => ?_)
  have hl : lv_has ls 2 [(0, .long v)] := hl
  refine lv_ldc2 (v := -2147483648) hx hb hown (hg _ k_56) d_X_cut_0 ?_
  refine lv_ldc2 (v := 2147483647) hx hb hown (hg _ k_57) d_X_cut_3 ?_
  refine lv_lload_n hx hb d_X_cut_6 rfl (lv_at hl 0 rfl) ?_
  refine cs_l [.long 2147483647, .long v] 2 rfl (rest := [.long (-2147483648)]) hx hb hml hown hg (c_J_minl l 2147483647 v) k_58 k_59 k_4 k_60 (by decide +kernel) hl.1 rfl rfl ⟨Nat.le_of_ble_eq_true rfl, Nat.le_of_ble_eq_true rfl⟩ rfl (Nat.le_of_ble_eq_true rfl) ⟨Nat.zero_le _, Nat.zero_le _⟩ d_X_cut_7 (fun r_7 h_7 => ?_)
  refine cs_l [.long (-2147483648), .long r_7] 2 rfl (rest := []) hx hb hml hown hg (c_J_maxl l (-2147483648) r_7) k_61 k_62 k_4 k_63 (by decide +kernel) hl.1 rfl rfl ⟨Nat.le_of_ble_eq_true rfl, Nat.le_of_ble_eq_true rfl⟩ rfl (Nat.le_of_ble_eq_true rfl) ⟨Nat.zero_le _, Nat.zero_le _⟩ d_X_cut_10 (fun r_10 h_10 => ?_)
  refine lv_l2i hx hb d_X_cut_13 rfl ?_
  exact rt_i hx hb hr hlk d_X_cut_14 (cut_end h_7 h_10)
set_option maxHeartbeats 4000000 in
set_option maxRecDepth 100000 in
theorem c_X_size (l : Launch) (v : Int64) : Met l y_X_size w_X_size ({ frames := 0, cells := 0, slots := 0, locals := 0 } : Room) (va_Pc [.long v] (fun _ => True)) (vp_Sl (fun r => uN r = v.toInt.natAbs)) 0 0 (fun _ => False) := by
  refine pm [.long v] (by decide +kernel) (Nat.le_of_ble_eq_true rfl) (fun p e s m below meth c ls hx hb hr hml hown hg hlk hnm hB hl => ?_)
  have hl : lv_has ls 2 [(0, .long v)] := hl
  refine lv_lload_n hx hb d_X_size_0 rfl (lv_at hl 0 rfl) ?_
  refine lv_lconst (v := 0) hx hb d_X_size_1 (by decide) ?_
  refine rl_ge (tgt := 11) hx hb d_X_size_2 d_X_size_3 (by decide) (fun c_2 => ?_) (fun c_2 => ?_)
  · refine lv_lload_n hx hb d_X_size_11 rfl (lv_at hl 0 rfl) ?_
    exact rt_l hx hb hr hlk d_X_size_12 (sz_pos c_2)
  · refine lv_lload_n hx hb d_X_size_6 rfl (lv_at hl 0 rfl) ?_
    refine lv_lneg hx hb d_X_size_7 ?_
    refine lv_goto (tgt := 12) hx hb d_X_size_8 (by decide) ?_
    exact rt_l hx hb hr hlk d_X_size_12 (sz_neg c_2)
set_option maxHeartbeats 4000000 in
set_option maxRecDepth 100000 in
theorem c_X_product (l : Launch) (h0 : Nat) (a : Int32) (b : Int32) : Met l y_X_product w_X_product ({ frames := 0, cells := 0, slots := 0, locals := 0 } : Room) (va_Pc [.ref h0, .int a, .int b] (fun _ => True)) (vp_Si (fun r => r = Int32.ofInt (a.toInt * b.toInt / 65536))) 0 0 (fun _ => False) := by
  refine pm [.ref h0, .int a, .int b] (by decide +kernel) (Nat.le_of_ble_eq_true rfl) (fun p e s m below meth c ls hx hb hr hml hown hg hlk hnm hB hl => ?_)
  have hl : lv_has ls 3 [(0, .ref h0), (1, .int a), (2, .int b)] := hl
  refine lv_iload_n hx hb d_X_product_0 rfl (lv_at hl 1 rfl) ?_
  refine lv_i2l hx hb d_X_product_1 rfl ?_
  refine lv_iload_n hx hb d_X_product_2 rfl (lv_at hl 2 rfl) ?_
  refine lv_i2l hx hb d_X_product_3 rfl ?_
  refine lv_lmul hx hb d_X_product_4 ?_
  refine lv_bipush (v := 16) hx hb d_X_product_5 (by decide) ?_
  refine lv_lshr hx hb d_X_product_7 rfl ?_
  refine lv_l2i hx hb d_X_product_8 rfl ?_
  exact rt_i hx hb hr hlk d_X_product_9 (px_1 a b)
set_option maxHeartbeats 4000000 in
set_option maxRecDepth 100000 in
theorem c_X_quotient (l : Launch) (h0 : Nat) (a : Int32) (b : Int32) : Met l y_X_quotient w_X_quotient ({ frames := 2, cells := 0, slots := 0, locals := 44 } : Room) (va_Pc [.ref h0, .int a, .int b] (fun _ => True)) (vp_Si (fun r => QS a b r)) 0 0 (fun _ => False) := by
  refine pm [.ref h0, .int a, .int b] (by decide +kernel) (Nat.le_of_ble_eq_true rfl) (fun p e s m below meth c ls hx hb hr hml hown hg hlk hnm hB hl => ?_)
  have hl : lv_has ls 3 [(0, .ref h0), (1, .int a), (2, .int b)] := hl
  refine lv_iload_n hx hb d_X_quotient_0 rfl (lv_at hl 2 rfl) ?_
  refine lv_if_ne (tgt := 24) hx hb d_X_quotient_1 (by decide) (fun c_1 => ?_) (fun c_1 => ?_)
  · refine lv_iload_n hx hb d_X_quotient_24 rfl (lv_at hl 1 rfl) ?_
    refine lv_i2l hx hb d_X_quotient_25 rfl ?_
    refine lv_bipush (v := 16) hx hb d_X_quotient_26 (by decide) ?_
    refine lv_lshl hx hb d_X_quotient_28 rfl ?_
    refine lv_topl (fun v ev => ?_)
    refine lv_iload_n hx hb d_X_quotient_29 rfl (lv_at hl 2 rfl) ?_
    refine lv_i2l hx hb d_X_quotient_30 rfl ?_
    refine lv_topl (fun w ew => ?_)
    refine cs_l [.long v, .long w] 2 rfl (rest := []) hx hb hml hown hg (c_J_fd l v w (qx_ne c_1 ew) (qx_mn ev)) k_50 k_51 k_4 k_52 (by decide +kernel) hl.1 rfl rfl ⟨Nat.le_of_ble_eq_true rfl, Nat.le_of_ble_eq_true rfl⟩ rfl (Nat.le_of_ble_eq_true rfl) ⟨Nat.zero_le _, Nat.zero_le _⟩ d_X_quotient_31 (fun r_31 h_31 => ?_)
    refine cs_i [.long r_31] 1 rfl (rest := []) hx hb hml hown hg (c_X_cut l r_31) k_53 k_54 k_1 k_55 (by decide +kernel) hl.1 rfl rfl ⟨Nat.le_of_ble_eq_true rfl, Nat.le_of_ble_eq_true rfl⟩ rfl (Nat.le_of_ble_eq_true rfl) ⟨Nat.zero_le _, Nat.zero_le _⟩ d_X_quotient_34 (fun r_34 h_34 => ?_)
    exact rt_i hx hb hr hlk d_X_quotient_37 (qx_end c_1 ev ew h_31 h_34)
  · refine lv_iload_n hx hb d_X_quotient_4 rfl (lv_at hl 1 rfl) ?_
    refine lv_if_le (tgt := 13) hx hb d_X_quotient_5 (by decide) (fun c_5 => ?_) (fun c_5 => ?_)
    · refine lv_iload_n hx hb d_X_quotient_13 rfl (lv_at hl 1 rfl) ?_
      refine lv_if_ge (tgt := 22) hx hb d_X_quotient_14 (by decide) (fun c_14 => ?_) (fun c_14 => ?_)
      · refine lv_iconst (v := 0) hx hb d_X_quotient_22 (by decide) ?_
        exact rt_i hx hb hr hlk d_X_quotient_23 (Or.inl ⟨c_1, by rw [if_neg (Int32.not_lt.mpr c_5), if_neg (Int32.not_lt.mpr c_14)]⟩)
      · refine lv_ldc (v := -2147483648) hx hb hown (hg _ k_49) d_X_quotient_17 ?_
        refine lv_goto (tgt := 23) hx hb d_X_quotient_19 (by decide) ?_
        exact rt_i hx hb hr hlk d_X_quotient_23 (Or.inl ⟨c_1, by rw [if_neg (Int32.not_lt.mpr c_5), if_pos (Int32.not_le.mp c_14)]⟩)
    · refine lv_ldc (v := 2147483647) hx hb hown (hg _ k_48) d_X_quotient_8 ?_
      refine lv_goto (tgt := 23) hx hb d_X_quotient_10 (by decide) ?_
      exact rt_i hx hb hr hlk d_X_quotient_23 (Or.inl ⟨c_1, by rw [if_pos (Int32.not_le.mp c_5)]⟩)
set_option maxHeartbeats 4000000 in
set_option maxRecDepth 100000 in
theorem c_X_rootOf (l : Launch) (n : Int64) (N : Nat) (hn : n = lN N) (hN : N < 4611686018427387904) : Met l y_X_rootOf w_X_rootOf ({ frames := 2, cells := 0, slots := 0, locals := 44 } : Room) (va_Pc [.long n] (fun _ => True)) (vp_Sl (fun r => RL N r)) 0 0 (fun _ => False) := by
  refine pm [.long n] (by decide +kernel) (Nat.le_of_ble_eq_true rfl) (fun p e s m below meth c ls hx hb hr hml hown hg hlk hnm hB hl => ?_)
  have hl : lv_has ls 6 [(0, .long n)] := hl
  refine lv_lload_n hx hb d_X_rootOf_0 rfl (lv_at hl 0 rfl) ?_
  refine lv_ldc2 (v := 2) hx hb hown (hg _ k_71) d_X_rootOf_1 ?_
  refine rl_ge (tgt := 10) hx hb d_X_rootOf_4 d_X_rootOf_5 (by decide) (fun c_4 => ?_) (fun c_4 => ?_)
  · refine lv_lconst (v := 1) hx hb d_X_rootOf_10 (by decide) ?_
    refine lv_bipush (v := 65) hx hb d_X_rootOf_11 (by decide) ?_
    refine lv_lload_n hx hb d_X_rootOf_13 rfl (lv_at hl 0 rfl) ?_
    refine cs_i [.long n] 1 rfl (rest := [.int 65, .long 1]) hx hb hml hown hg (c_J_lnz l n) k_72 k_73 k_5 k_74 (by decide +kernel) hl.1 rfl rfl ⟨Nat.le_of_ble_eq_true rfl, Nat.le_of_ble_eq_true rfl⟩ rfl (Nat.le_of_ble_eq_true rfl) ⟨Nat.zero_le _, Nat.zero_le _⟩ d_X_rootOf_14 (fun r_14 h_14 => ?_)
    refine lv_isub hx hb d_X_rootOf_17 ?_
    refine lv_iconst (v := 1) hx hb d_X_rootOf_18 (by decide) ?_
    refine lv_ishr hx hb d_X_rootOf_19 ?_
    refine lv_lshl hx hb d_X_rootOf_20 rfl ?_
    refine lv_topl (fun v_21 e_21 => ?_)
    refine lv_lstore_n (lv' := [(2, .long v_21), (0, .long n)]) hx hb d_X_rootOf_21 rfl hl (by decide) rfl (fun ls hl => ?_)
    refine lv_lload_n hx hb d_X_rootOf_22 rfl (lv_at hl 0 rfl) ?_
    refine lv_lload_n hx hb d_X_rootOf_23 rfl (lv_at hl 1 rfl) ?_
    refine lv_lload_n hx hb d_X_rootOf_24 rfl (lv_at hl 0 rfl) ?_
    refine lv_ldiv hx hb d_X_rootOf_25 (ri_n0 (ri_0 hn hN c_4 h_14 e_21)) ?_
    refine lv_ladd hx hb d_X_rootOf_26 ?_
    refine lv_iconst (v := 1) hx hb d_X_rootOf_27 (by decide) ?_
    refine lv_lshr hx hb d_X_rootOf_28 rfl ?_
    refine lv_topl (fun v_29 e_29 => ?_)
    refine lv_lstore (lv' := [(4, .long v_29), (2, .long v_21), (0, .long n)]) hx hb d_X_rootOf_29 hl (by decide) rfl (fun ls hl => ?_)
    refine lq2 (α1 := Int64) (α2 := Int64) 31 6 (fun r _ => uN r) (fun r nx => RI N r nx) (fun r nx => [(0, .long n), (2, .long r), (4, .long nx)]) (fun r nx hi ih ls hl => ?_) v_21 v_29 (ri_st hn hN (ri_0 hn hN c_4 h_14 e_21) e_29) ls (lv_sub hl [2, 1, 0] rfl)
    have hl : lv_has ls 6 [(0, .long n), (2, .long r), (4, .long nx)] := hl
    refine lv_lload hx hb d_X_rootOf_31 (lv_at hl 2 rfl) ?_
    refine lv_lload_n hx hb d_X_rootOf_33 rfl (lv_at hl 1 rfl) ?_
    refine rl_ge (tgt := 53) hx hb d_X_rootOf_34 d_X_rootOf_35 (by decide) (fun c_34 => ?_) (fun c_34 => ?_)
    · refine lv_lload_n hx hb d_X_rootOf_53 rfl (lv_at hl 1 rfl) ?_
      exact rt_l hx hb hr hlk d_X_rootOf_54 (ri_end hN hi c_34)
    · refine lv_lload hx hb d_X_rootOf_38 (lv_at hl 2 rfl) ?_
      refine lv_lstore_n (lv' := [(2, .long nx), (0, .long n), (4, .long nx)]) hx hb d_X_rootOf_40 rfl hl (by decide) rfl (fun ls hl => ?_)
      refine lv_lload_n hx hb d_X_rootOf_41 rfl (lv_at hl 0 rfl) ?_
      refine lv_lload_n hx hb d_X_rootOf_42 rfl (lv_at hl 1 rfl) ?_
      refine lv_lload_n hx hb d_X_rootOf_43 rfl (lv_at hl 0 rfl) ?_
      refine lv_ldiv hx hb d_X_rootOf_44 (ri_n0 (ri_go hN (ri_2 hn hN c_4) hi c_34).1) ?_
      refine lv_ladd hx hb d_X_rootOf_45 ?_
      refine lv_iconst (v := 1) hx hb d_X_rootOf_46 (by decide) ?_
      refine lv_lshr hx hb d_X_rootOf_47 rfl ?_
      refine lv_topl (fun v_48 e_48 => ?_)
      refine lv_lstore (lv' := [(4, .long v_48), (2, .long nx), (0, .long n)]) hx hb d_X_rootOf_48 hl (by decide) rfl (fun ls hl => ?_)
      refine lv_goto (tgt := 31) hx hb d_X_rootOf_50 (by decide) ?_
      exact ih _ _ (ri_st hn hN (ri_go hN (ri_2 hn hN c_4) hi c_34).1 e_48) (ri_go hN (ri_2 hn hN c_4) hi c_34).2 ls (lv_sub hl [2, 1, 0] rfl)
  · refine lv_lload_n hx hb d_X_rootOf_8 rfl (lv_at hl 0 rfl) ?_
    exact rt_l hx hb hr hlk d_X_rootOf_9 (ri_sm hn hN c_4)
set_option maxHeartbeats 4000000 in
set_option maxRecDepth 100000 in
theorem c_X_root (l : Launch) (h0 : Nat) (a : Int32) : Met l y_X_root w_X_root ({ frames := 3, cells := 0, slots := 0, locals := 69 } : Room) (va_Pc [.ref h0, .int a] (fun _ => True)) (vp_Si (fun r => RT (a.toInt.toNat * 65536) r)) 0 0 (fun _ => False) := by
  refine pm [.ref h0, .int a] (by decide +kernel) (Nat.le_of_ble_eq_true rfl) (fun p e s m below meth c ls hx hb hr hml hown hg hlk hnm hB hl => ?_)
  have hl : lv_has ls 2 [(0, .ref h0), (1, .int a)] := hl
  refine lv_iload_n hx hb d_X_root_0 rfl (lv_at hl 1 rfl) ?_
  refine lv_if_ge (tgt := 8) hx hb d_X_root_1 (by decide) (fun c_1 => ?_) (fun c_1 => ?_)
  · refine lv_iload_n hx hb d_X_root_8 rfl (lv_at hl 1 rfl) ?_
    refine lv_i2l hx hb d_X_root_9 rfl ?_
    refine lv_bipush (v := 16) hx hb d_X_root_10 (by decide) ?_
    refine lv_lshl hx hb d_X_root_12 rfl ?_
    refine lv_topl (fun v ev => ?_)
    refine cs_l [.long v] 1 rfl (rest := []) hx hb hml hown hg (c_X_rootOf l v _ (rx_v c_1 ev).1 (rx_v c_1 ev).2) k_68 k_69 k_1 k_70 (by decide +kernel) hl.1 rfl rfl ⟨Nat.le_of_ble_eq_true rfl, Nat.le_of_ble_eq_true rfl⟩ rfl (Nat.le_of_ble_eq_true rfl) ⟨Nat.zero_le _, Nat.zero_le _⟩ d_X_root_13 (fun r_13 h_13 => ?_)
    refine lv_l2i hx hb d_X_root_16 rfl ?_
    exact rt_i hx hb hr hlk d_X_root_17 (RL_i h_13)
  · refine lv_iconst (v := 0) hx hb d_X_root_4 (by decide) ?_
    refine lv_goto (tgt := 17) hx hb d_X_root_5 (by decide) ?_
    exact rt_i hx hb hr hlk d_X_root_17 (rx_0 c_1)
set_option maxHeartbeats 4000000 in
set_option maxRecDepth 100000 in
theorem c_X_oneByRoot (l : Launch) (h0 : Nat) (a : Int32) : Met l y_X_oneByRoot w_X_oneByRoot ({ frames := 3, cells := 0, slots := 0, locals := 69 } : Room) (va_Pc [.ref h0, .int a] (fun _ => True)) (vp_Si (fun r => (¬ 0 < a ∧ r = 2147483647) ∨ (0 < a ∧ RT (281474976710656 / a.toInt.toNat) r))) 0 0 (fun _ => False) := by
  refine pm [.ref h0, .int a] (by decide +kernel) (Nat.le_of_ble_eq_true rfl) (fun p e s m below meth c ls hx hb hr hml hown hg hlk hnm hB hl => ?_)
  have hl : lv_has ls 2 [(0, .ref h0), (1, .int a)] := hl
  refine lv_iload_n hx hb d_X_oneByRoot_0 rfl (lv_at hl 1 rfl) ?_
  refine lv_if_gt (tgt := 9) hx hb d_X_oneByRoot_1 (by decide) (fun c_1 => ?_) (fun c_1 => ?_)
  · refine lv_ldc2 (v := 281474976710656) hx hb hown (hg _ k_83) d_X_oneByRoot_9 ?_
    refine lv_iload_n hx hb d_X_oneByRoot_12 rfl (lv_at hl 1 rfl) ?_
    refine lv_i2l hx hb d_X_oneByRoot_13 rfl ?_
    refine lv_ldiv hx hb d_X_oneByRoot_14 (ox_ne c_1) ?_
    refine lv_topl (fun v ev => ?_)
    refine cs_l [.long v] 1 rfl (rest := []) hx hb hml hown hg (c_X_rootOf l v _ (ox_v c_1 ev).1 (ox_v c_1 ev).2) k_68 k_69 k_1 k_70 (by decide +kernel) hl.1 rfl rfl ⟨Nat.le_of_ble_eq_true rfl, Nat.le_of_ble_eq_true rfl⟩ rfl (Nat.le_of_ble_eq_true rfl) ⟨Nat.zero_le _, Nat.zero_le _⟩ d_X_oneByRoot_15 (fun r_15 h_15 => ?_)
    refine lv_l2i hx hb d_X_oneByRoot_18 rfl ?_
    exact rt_i hx hb hr hlk d_X_oneByRoot_19 (Or.inr ⟨c_1, RL_i h_15⟩)
  · refine lv_ldc (v := 2147483647) hx hb hown (hg _ k_48) d_X_oneByRoot_4 ?_
    refine lv_goto (tgt := 19) hx hb d_X_oneByRoot_6 (by decide) ?_
    exact rt_i hx hb hr hlk d_X_oneByRoot_19 (Or.inl ⟨c_1, rfl⟩)
set_option maxHeartbeats 4000000 in
set_option maxRecDepth 100000 in
theorem c_X_upper (l : Launch) (a : Int64) (b : Int64) : Met l y_X_upper w_X_upper ({ frames := 1, cells := 0, slots := 0, locals := 39 } : Room) (va_Pc [.long a, .long b] (fun _ => True)) (vp_Sl (fun r => uN r = uN a * uN b / 18446744073709551616)) 0 0 (fun _ => False) := by
  refine pm [.long a, .long b] (by decide +kernel) (Nat.le_of_ble_eq_true rfl) (fun p e s m below meth c ls hx hb hr hml hown hg hlk hnm hB hl => ?_)
  have hl : lv_has ls 4 [(0, .long a), (2, .long b)] := hl
  refine lv_lload_n hx hb d_X_upper_0 rfl (lv_at hl 0 rfl) ?_
  refine lv_lload_n hx hb d_X_upper_1 rfl (lv_at hl 1 rfl) ?_
  refine cs_l [.long a, .long b] 2 rfl (rest := []) hx hb hml hown hg (c_J_mh l a b) k_188 k_189 k_4 k_190 (by decide +kernel) hl.1 rfl rfl ⟨Nat.le_of_ble_eq_true rfl, Nat.le_of_ble_eq_true rfl⟩ rfl (Nat.le_of_ble_eq_true rfl) ⟨Nat.zero_le _, Nat.zero_le _⟩ d_X_upper_2 (fun r_2 h_2 => ?_)
  refine lv_lload_n hx hb d_X_upper_5 rfl (lv_at hl 0 rfl) ?_
  refine lv_lconst (v := 0) hx hb d_X_upper_6 (by decide) ?_
  refine jn1 (α1 := Int64) 16 4 (fun u => u = if 0 ≤ a then 0 else b) (fun u => [(0, .long a), (2, .long b)]) (fun u => [.long u, .long r_2]) (fun u hj_16 ls hl => ?_) (fun K_16 => ?_)
  · have hl : lv_has ls 4 [(0, .long a), (2, .long b)] := hl
    refine lv_ladd hx hb d_X_upper_16 ?_
    refine lv_lload_n hx hb d_X_upper_17 rfl (lv_at hl 1 rfl) ?_
    refine lv_lconst (v := 0) hx hb d_X_upper_18 (by decide) ?_
    refine jn1 (α1 := Int64) 28 4 (fun v => v = if 0 ≤ b then 0 else a) (fun v => [(0, .long a), (2, .long b)]) (fun v => [.long v, .long (r_2 + u)]) (fun v hj_28 ls hl => ?_) (fun K_28 => ?_)
    · have hl : lv_has ls 4 [(0, .long a), (2, .long b)] := hl
      refine lv_ladd hx hb d_X_upper_28 ?_
      exact rt_l hx hb hr hlk d_X_upper_29 (up_end h_2 hj_16 hj_28)
    · refine rl_ge (tgt := 27) hx hb d_X_upper_19 d_X_upper_20 (by decide) (fun c_19 => ?_) (fun c_19 => ?_)
      · refine lv_lconst (v := 0) hx hb d_X_upper_27 (by decide) ?_
        exact K_28 0 (by rw [if_pos c_19]) ls (lv_sub hl [0, 1] rfl)
      · refine lv_lload_n hx hb d_X_upper_23 rfl (lv_at hl 0 rfl) ?_
        refine lv_goto (tgt := 28) hx hb d_X_upper_24 (by decide) ?_
        exact K_28 a (by rw [if_neg c_19]) ls (lv_sub hl [0, 1] rfl)
  · refine rl_ge (tgt := 15) hx hb d_X_upper_7 d_X_upper_8 (by decide) (fun c_7 => ?_) (fun c_7 => ?_)
    · refine lv_lconst (v := 0) hx hb d_X_upper_15 (by decide) ?_
      exact K_16 0 (by rw [if_pos c_7]) ls (lv_sub hl [0, 1] rfl)
    · refine lv_lload_n hx hb d_X_upper_11 rfl (lv_at hl 1 rfl) ?_
      refine lv_goto (tgt := 16) hx hb d_X_upper_12 (by decide) ?_
      exact K_16 b (by rw [if_neg c_7]) ls (lv_sub hl [0, 1] rfl)
set_option maxHeartbeats 4000000 in
set_option maxRecDepth 100000 in
theorem c_X_channel (l : Launch) (h0 : Nat) (a : Int32) : Met l y_X_channel w_X_channel ({ frames := 1, cells := 0, slots := 0, locals := 21 } : Room) (va_Pc [.ref h0, .int a] (fun _ => True)) (vp_Si (fun r => CH a r)) 0 0 (fun _ => False) := by
  refine pm [.ref h0, .int a] (by decide +kernel) (Nat.le_of_ble_eq_true rfl) (fun p e s m below meth c ls hx hb hr hml hown hg hlk hnm hB hl => ?_)
  have hl : lv_has ls 2 [(0, .ref h0), (1, .int a)] := hl
  refine lv_iconst (v := 0) hx hb d_X_channel_0 (by decide) ?_
  refine lv_ldc (v := 65536) hx hb hown (hg _ k_88) d_X_channel_1 ?_
  refine lv_iload_n hx hb d_X_channel_3 rfl (lv_at hl 1 rfl) ?_
  refine cs_i [.int 65536, .int a] 2 rfl (rest := [.int 0]) hx hb hml hown hg (c_J_mini l 65536 a) k_89 k_90 k_4 k_91 (by decide +kernel) hl.1 rfl rfl ⟨Nat.le_of_ble_eq_true rfl, Nat.le_of_ble_eq_true rfl⟩ rfl (Nat.le_of_ble_eq_true rfl) ⟨Nat.zero_le _, Nat.zero_le _⟩ d_X_channel_4 (fun r_4 h_4 => ?_)
  refine cs_i [.int 0, .int r_4] 2 rfl (rest := []) hx hb hml hown hg (c_J_maxi l 0 r_4) k_92 k_93 k_4 k_94 (by decide +kernel) hl.1 rfl rfl ⟨Nat.le_of_ble_eq_true rfl, Nat.le_of_ble_eq_true rfl⟩ rfl (Nat.le_of_ble_eq_true rfl) ⟨Nat.zero_le _, Nat.zero_le _⟩ d_X_channel_7 (fun r_7 h_7 => ?_)
  refine lv_sipush (v := 255) hx hb d_X_channel_10 (by decide) ?_
  refine lv_imul hx hb d_X_channel_13 ?_
  refine lv_ldc (v := 32768) hx hb hown (hg _ k_95) d_X_channel_14 ?_
  refine lv_iadd hx hb d_X_channel_16 ?_
  refine lv_bipush (v := 16) hx hb d_X_channel_17 (by decide) ?_
  refine lv_ishr hx hb d_X_channel_19 ?_
  exact rt_i hx hb hr hlk d_X_channel_20 (ch_x h_4 h_7)
end
section
/-! halves -/
def sq (E F : Nat) : Nat := if E = 0 then F else (1024 + F) * 2 ^ (E - 1)
def sc (n : Nat) : Nat := sq (n / 1024) (n % 1024)
theorem i_and (x : Int32) {m : Int32} (k : Nat) (hm : m.toBitVec.toNat = 2 ^ k - 1) : x &&& m = nI (uI x % 2 ^ k) := pk_and x k hm
theorem hE_x {h e : Int32} (he : e = (h >>> ((10 : Int32) &&& 31)) &&& 31) : e = nI (uI h / 1024 % 32) := by
  rw [he, i_and _ 5 (by decide)]
  have a := pk_shr h ((10 : Int32) &&& 31) 10 (by decide)
  rw [Int.shiftRight_eq_div_pow] at a
  have b := uI_int h
  have c := uI_int (h >>> ((10 : Int32) &&& 31))
  have d := uI_lt h
  have f := uI_lt (h >>> ((10 : Int32) &&& 31))
  congr 1
  generalize h >>> ((10 : Int32) &&& 31) = w at *
  have a : w.toInt = h.toInt / 1024 := a
  split at b <;> split at c <;> omega
theorem hF_x {h f : Int32} (hf : f = h &&& 1023) : f = nI (uI h % 1024) := by rw [hf, i_and _ 10 (by decide)]
theorem hS_x (h : Int32) : h &&& 32768 = 0 ↔ uI h / 32768 % 2 = 0 := by
  have e : uI (h &&& 32768) = uI h &&& 32768 := by
    show (h.toUInt32 &&& Int32.toUInt32 32768).toNat = _
    rw [UInt32.toNat_and]
    rfl
  have t : (uI h &&& 2 ^ 15) / 2 ^ 15 = uI h / 2 ^ 15 % 2 := by rw [Nat.and_div_two_pow, Nat.div_self (Nat.two_pow_pos 15), Nat.and_one_is_mod]
  have u : (uI h &&& 2 ^ 15) % 2 ^ 15 = 0 := by rw [Nat.and_mod_two_pow, Nat.mod_self, Nat.and_zero]
  have w : h &&& 32768 = 0 ↔ uI (h &&& 32768) = 0 := by
    constructor
    · intro q; rw [q]; rfl
    · intro q; rw [nI_uI (h &&& 32768), q]; rfl
  rw [w, e, show (32768 : Nat) = 2 ^ 15 from rfl]
  omega
theorem hS_m (h : Int32) : (h >>> ((15 : Int32) &&& 31)) &&& 1 = 1 ↔ ¬ uI h / 32768 % 2 = 0 := by
  have e : (h >>> ((15 : Int32) &&& 31)) &&& 1 = nI (uI h / 32768 % 2) := by
    rw [i_and _ 1 (by decide)]
    have a := pk_shr h ((15 : Int32) &&& 31) 15 (by decide)
    rw [Int.shiftRight_eq_div_pow] at a
    have b := uI_int h
    have c := uI_int (h >>> ((15 : Int32) &&& 31))
    have d := uI_lt h
    have f := uI_lt (h >>> ((15 : Int32) &&& 31))
    congr 1
    generalize h >>> ((15 : Int32) &&& 31) = w at *
    have a : w.toInt = h.toInt / 32768 := a
    split at b <;> split at c <;> omega
  rw [e, show (1 : Int32) = nI 1 from rfl, nI_eq (by omega) (by omega)]
  omega
/-- what fromHalf answers: E, F, S are the parts of the half -/
def fhV (E F S : Nat) : Int := if S = 0 then (if E = 0 then (F : Int) else 1024 + F) else -(if E = 0 then (F : Int) else 1024 + F)
def fhW (E F S : Nat) : Int := (if E = 0 then fhV E F S else fhV E F S * 2 ^ (E - 1)) / 256
def FH (h r : Int32) : Prop := r = if uI h / 1024 % 32 = 31 then (if 0 < uI h % 1024 then 0 else if uI h / 32768 % 2 = 0 then 2147483647 else -2147483648) else cl (fhW (uI h / 1024 % 32) (uI h % 1024) (uI h / 32768 % 2))
theorem fh_dn {E F S : Nat} {v : Int64} {up : Int32} (hE : E < 31) (hF : F < 1024) (hv : v.toInt = fhV E F S) (hu : up = if E = 0 then -8 else nI E - 9) (c : ¬ 0 ≤ up) : (v >>> ((Int32.toInt64 (-up)) &&& 63)).toInt = fhW E F S := by
  have z : E = 0 ∨ E = 1 ∨ E = 2 ∨ E = 3 ∨ E = 4 ∨ E = 5 ∨ E = 6 ∨ E = 7 ∨ E = 8 := by
    rcases Nat.lt_or_ge E 9 with h | h
    · omega
    · rw [hu, if_neg (by omega), show (9 : Int32) = nI 9 from rfl, pk_sub (by omega)] at c
      exact absurd (nI_pos' (by omega)) c
  unfold fhW
  rcases z with rfl | rfl | rfl | rfl | rfl | rfl | rfl | rfl | rfl
  · rw [hu, sr_i v 8 (by decide), hv]; rfl
  · rw [hu, sr_i v 8 (by decide), hv, if_neg (by decide)]; omega
  · rw [hu, sr_i v 7 (by decide), hv, if_neg (by decide)]; omega
  · rw [hu, sr_i v 6 (by decide), hv, if_neg (by decide)]; omega
  · rw [hu, sr_i v 5 (by decide), hv, if_neg (by decide)]; omega
  · rw [hu, sr_i v 4 (by decide), hv, if_neg (by decide)]; omega
  · rw [hu, sr_i v 3 (by decide), hv, if_neg (by decide)]; omega
  · rw [hu, sr_i v 2 (by decide), hv, if_neg (by decide)]; omega
  · rw [hu, sr_i v 1 (by decide), hv, if_neg (by decide)]; omega
theorem fhV_b {E F S : Nat} (hF : F < 1024) : -2048 < fhV E F S ∧ fhV E F S < 2048 := by
  unfold fhV
  split <;> split <;> omega
theorem fh_up {E F S : Nat} {v : Int64} {up : Int32} (hE : E < 31) (hF : F < 1024) (hv : v.toInt = fhV E F S) (hu : up = if E = 0 then -8 else nI E - 9) (c : 0 ≤ up) : (v <<< ((Int32.toInt64 up) &&& 63)).toInt = fhW E F S := by
  have z : 9 ≤ E := by
    rcases Nat.lt_or_ge E 9 with h | h
    · exfalso
      have q : E = 0 ∨ E = 1 ∨ E = 2 ∨ E = 3 ∨ E = 4 ∨ E = 5 ∨ E = 6 ∨ E = 7 ∨ E = 8 := by omega
      rcases q with rfl | rfl | rfl | rfl | rfl | rfl | rfl | rfl | rfl <;> rw [hu] at c <;> revert c <;> decide
    · exact h
  have b := fhV_b (E := E) (S := S) hF
  have e : up = nI (E - 9) := by rw [hu, if_neg (by omega), show (9 : Int32) = nI 9 from rfl, pk_sub z]
  have p : 2 ^ (E - 1) = 2 ^ (E - 9) * 256 := by rw [show E - 1 = (E - 9) + 8 by omega, Nat.pow_add]
  have np : ∀ k : Nat, ((2 ^ k : Nat) : Int) = (2 : Int) ^ k := fun k => Int.natCast_pow 2 k
  have p2 : (2 : Int) ^ (E - 1) = 2 ^ (E - 9) * 256 := by rw [← np, ← np]; omega
  have l : 2 ^ (E - 9) ≤ 2 ^ 22 := Nat.pow_le_pow_right (by decide) (by omega)
  have l0 := Nat.two_pow_pos (E - 9)
  have l2 : (2 : Int) ^ (E - 9) ≤ 4194304 := by rw [← np]; omega
  have l3 : 0 < (2 : Int) ^ (E - 9) := by rw [← np]; omega
  have m := mul_bd (a := fhV E F S) (b := 2 ^ (E - 9)) (A := 2048) (A2 := 2048) (B := 4194304) (by omega) (by omega) (by omega) l2 (by decide) (by decide)
  unfold fhW
  rw [if_neg (by omega), e, sl_i v (E - 9) (sk_l _ (by omega)) (by rw [hv]; omega) (by rw [hv]; omega), hv, p2, ← Int.mul_assoc, Int.mul_ediv_cancel _ (by decide)]
theorem fh_v0 {E F : Nat} {e f : Int32} (hF : F < 1024) (hE : E < 32) (he : e = nI E) (hf : f = nI F) : (e = 0 ↔ E = 0) ∧ (Int32.toInt64 f).toInt = F ∧ (Int32.toInt64 (1024 + f)).toInt = 1024 + F := by
  refine ⟨?_, ?_, ?_⟩
  · rw [he, show (0 : Int32) = nI 0 from rfl, nI_eq (by omega) (by omega)]
  · rw [l_i2l, hf, nI_toInt (by omega)]
  · rw [l_i2l, hf, show (1024 : Int32) = nI 1024 from rfl, nI_add, nI_toInt (by omega)]; omega
theorem fh_end {h : Int32} {w : Int64} {r : Int32} (hE : ¬ uI h / 1024 % 32 = 31) (hw : w.toInt = fhW (uI h / 1024 % 32) (uI h % 1024) (uI h / 32768 % 2)) (hr : r = cl w.toInt) : FH h r := by
  unfold FH
  rw [if_neg hE, hr, hw]
theorem fh_31 {e h : Int32} (he : e = nI (uI h / 1024 % 32)) : e = 31 ↔ uI h / 1024 % 32 = 31 := by
  rw [he, show (31 : Int32) = nI 31 from rfl, nI_eq (by omega) (by omega)]
theorem fh_F {f h : Int32} (hf : f = nI (uI h % 1024)) : f ≤ 0 ↔ ¬ 0 < uI h % 1024 := by
  rw [hf, show (0 : Int32) = nI 0 from rfl, nI_leI (by omega) (by omega)]
  omega
/-! to halves -/
def TH (a r : Int32) : Prop := ∃ low : Nat, low < 31744 ∧ sc low ≤ a.toInt.natAbs * 256 ∧ a.toInt.natAbs * 256 < sc (low + 1) ∧ r = nI ((if a.toInt.natAbs * 256 - sc low < sc (low + 1) - a.toInt.natAbs * 256 ∨ (a.toInt.natAbs * 256 - sc low = sc (low + 1) - a.toInt.natAbs * 256 ∧ low % 2 = 0) then low else low + 1) + if a.toInt < 0 then 32768 else 0)
theorem sc_0 {f : Nat} (h : f < 1024) : sc f = f ∧ sc (f + 1) = f + 1 := by
  unfold sc sq
  constructor
  · rw [if_pos (by omega)]; omega
  · rcases Nat.lt_or_ge (f + 1) 1024 with q | q
    · rw [if_pos (by omega)]; omega
    · have : f = 1023 := by omega
      subst this; decide
theorem sc_n {e f : Nat} (h : f < 1024) (he : 1 ≤ e) : sc (e * 1024 + f) = (1024 + f) * 2 ^ (e - 1) ∧ sc (e * 1024 + f + 1) = (1025 + f) * 2 ^ (e - 1) := by
  unfold sc sq
  constructor
  · rw [show (e * 1024 + f) / 1024 = e by omega, show (e * 1024 + f) % 1024 = f by omega, if_neg (by omega)]
  · rcases Nat.lt_or_ge (f + 1) 1024 with q | q
    · rw [show (e * 1024 + f + 1) / 1024 = e by omega, show (e * 1024 + f + 1) % 1024 = f + 1 by omega, if_neg (by omega)]
      congr 1; omega
    · have : f = 1023 := by omega
      subst this
      rw [show (e * 1024 + 1023 + 1) / 1024 = e + 1 by omega, show (e * 1024 + 1023 + 1) % 1024 = 0 by omega, if_neg (by omega)]
      have : 2 ^ (e + 1 - 1) = 2 ^ (e - 1) * 2 := by rw [← Nat.pow_succ]; congr 1; omega
      rw [this]; omega
theorem sc_lt {n : Nat} : sc n < sc (n + 1) := by
  have h : n % 1024 < 1024 := Nat.mod_lt _ (by decide)
  rcases Nat.eq_zero_or_pos (n / 1024) with q | q
  · have a := sc_0 (f := n) (by omega)
    omega
  · have a := sc_n (e := n / 1024) (f := n % 1024) h q
    rw [show n / 1024 * 1024 + n % 1024 = n by omega] at a
    rw [a.1, a.2]
    exact Nat.mul_lt_mul_of_pos_right (by omega) (Nat.two_pow_pos _)
theorem sc_le {m n : Nat} (h : m ≤ n) : sc m ≤ sc n := by
  obtain ⟨d, rfl⟩ := Nat.le.dest h
  clear h
  induction d with
  | zero => exact Nat.le_refl _
  | succ d ih => exact Nat.le_trans ih (Nat.le_of_lt sc_lt)
theorem TH_uniq {a r s : Int32} (h1 : TH a r) (h2 : TH a s) : r = s := by
  obtain ⟨l1, a1, a2, a3, a4⟩ := h1
  obtain ⟨l2, b1, b2, b3, b4⟩ := h2
  have : l1 = l2 := by
    rcases Nat.lt_trichotomy l1 l2 with h | h | h
    · have := sc_le (m := l1 + 1) (n := l2) h
      omega
    · exact h
    · have := sc_le (m := l2 + 1) (n := l1) h
      omega
  subst this
  rw [a4, b4]
theorem or_n (a b : Nat) : nI a ||| nI b = nI (a ||| b) := by
  apply Int32.toBitVec_inj.mp
  rw [Int32.toBitVec_or]
  apply BitVec.eq_of_getLsbD_eq
  intro i hi
  show (BitVec.ofNat 32 a ||| BitVec.ofNat 32 b).getLsbD i = (BitVec.ofNat 32 (a ||| b)).getLsbD i
  simp [BitVec.getLsbD_or, BitVec.getLsbD_ofNat, Nat.testBit_or, hi]
theorem or_s {a sg : Int32} {x : Nat} (hs : sg = if 0 ≤ a then 0 else 32768) (hx : x < 32768) : sg ||| nI x = nI (x + if a.toInt < 0 then 32768 else 0) := by
  have z : (0 : Int32).toInt = 0 := rfl
  have c : 0 ≤ a ↔ 0 ≤ a.toInt := by rw [i_le, z]
  by_cases h : 0 ≤ a
  · rw [if_pos h] at hs
    have := c.mp h
    rw [hs, if_neg (by omega), show (0 : Int32) = nI 0 from rfl, or_n, Nat.zero_or, Nat.add_zero]
  · rw [if_neg h] at hs
    have : ¬ 0 ≤ a.toInt := fun q => h (c.mpr q)
    rw [hs, if_pos (by omega), show (32768 : Int32) = nI (2 ^ 15 * 1) from rfl, or_n, ← Nat.two_pow_add_eq_or_of_lt (by omega), Nat.add_comm]
theorem th_m {a : Int32} {m : Int64} (hm : uN m = (Int32.toInt64 a).toInt.natAbs) : m = lN a.toInt.natAbs ∧ a.toInt.natAbs ≤ 2147483648 := by
  have h := ib a
  rw [l_i2l] at hm
  exact ⟨by rw [← hm]; exact lN_uN m, by omega⟩
theorem th_a {a sg : Int32} {m : Int64} (hm : uN m = (Int32.toInt64 a).toInt.natAbs) (hs : sg = if 0 ≤ a then 0 else 32768) (c : ¬ 4 ≤ m) : TH a (sg ||| (Int64.toInt32 m) <<< ((8 : Int32) &&& 31)) := by
  obtain ⟨e, b⟩ := th_m hm
  rw [e, show (4 : Int64) = lN 4 from rfl, pk_lLE (by omega) (by omega)] at c
  rw [e, lN_i, pk_shlN _ 8 (by decide) (by omega), or_s hs (by omega)]
  have s := sc_0 (f := a.toInt.natAbs * 256) (by omega)
  refine ⟨a.toInt.natAbs * 256, by omega, by omega, by omega, ?_⟩
  rw [if_pos (Or.inl (by omega))]
theorem th_k {a : Int32} {m : Int64} {z : Int32} (hm : uN m = (Int32.toInt64 a).toInt.natAbs) (c : 4 ≤ m) (hz : ∃ n, LZ 64 (uN m) n ∧ z = nI n) : ∃ K, 2 ≤ K ∧ K ≤ 31 ∧ 2 ^ K ≤ a.toInt.natAbs ∧ a.toInt.natAbs < 2 ^ (K + 1) ∧ 63 - z = nI K := by
  obtain ⟨e, b⟩ := th_m hm
  rw [e, show (4 : Int64) = lN 4 from rfl, pk_lLE (by omega) (by omega)] at c
  obtain ⟨n, ⟨h1, h2, h3⟩, hn⟩ := hz
  rw [e, uN_lN (by omega)] at h2 h3
  have n1 : n ≤ 61 := by
    rcases Nat.lt_or_ge 61 n with h | h
    · have : 2 ^ (64 - n) ≤ 2 ^ 2 := Nat.pow_le_pow_right (by decide) (by omega)
      omega
    · exact h
  have n2 : 32 ≤ n := by
    rcases Nat.lt_or_ge n 32 with h | h
    · have : 2 ^ 32 ≤ 2 ^ (64 - n - 1) := Nat.pow_le_pow_right (by decide) (by omega)
      omega
    · exact h
  refine ⟨63 - n, by omega, by omega, ?_, ?_, ?_⟩
  · rw [show 63 - n = 64 - n - 1 by omega]; omega
  · rw [show 63 - n + 1 = 64 - n by omega]; exact h2
  · rw [hn, show (63 : Int32) = nI 63 from rfl, pk_sub (by omega)]
theorem th_cs {P : Nat → Prop} {K : Nat} (h1 : 2 ≤ K) (h2 : K ≤ 31) (h : P 2 ∧ P 3 ∧ P 4 ∧ P 5 ∧ P 6 ∧ P 7 ∧ P 8 ∧ P 9 ∧ P 10 ∧ P 11 ∧ P 12 ∧ P 13 ∧ P 14 ∧ P 15 ∧ P 16 ∧ P 17 ∧ P 18 ∧ P 19 ∧ P 20 ∧ P 21 ∧ P 22 ∧ P 23 ∧ P 24 ∧ P 25 ∧ P 26 ∧ P 27 ∧ P 28 ∧ P 29 ∧ P 30 ∧ P 31) : P K := by
  obtain ⟨a2, a3, a4, a5, a6, a7, a8, a9, a10, a11, a12, a13, a14, a15, a16, a17, a18, a19, a20, a21, a22, a23, a24, a25, a26, a27, a28, a29, a30, a31⟩ := h
  have q : K = 2 ∨ K = 3 ∨ K = 4 ∨ K = 5 ∨ K = 6 ∨ K = 7 ∨ K = 8 ∨ K = 9 ∨ K = 10 ∨ K = 11 ∨ K = 12 ∨ K = 13 ∨ K = 14 ∨ K = 15 ∨ K = 16 ∨ K = 17 ∨ K = 18 ∨ K = 19 ∨ K = 20 ∨ K = 21 ∨ K = 22 ∨ K = 23 ∨ K = 24 ∨ K = 25 ∨ K = 26 ∨ K = 27 ∨ K = 28 ∨ K = 29 ∨ K = 30 ∨ K = 31 := by omega
  rcases q with rfl | rfl | rfl | rfl | rfl | rfl | rfl | rfl | rfl | rfl | rfl | rfl | rfl | rfl | rfl | rfl | rfl | rfl | rfl | rfl | rfl | rfl | rfl | rfl | rfl | rfl | rfl | rfl | rfl | rfl <;> assumption
/-- the numbers: an exact half -/
theorem th_nb {M K : Nat} (h1 : 2 ≤ K) (h2 : K ≤ 10) (h3 : 2 ^ K ≤ M) (h4 : M < 2 ^ (K + 1)) : 1024 ≤ M * 2 ^ (10 - K) ∧ M * 2 ^ (10 - K) < 2048 ∧ (M * 2 ^ (10 - K)) * 2 ^ (K - 1 - 1) = M * 256 ∧ 0 < 2 ^ (K - 1 - 1) := by
  have q : K = 2 ∨ K = 3 ∨ K = 4 ∨ K = 5 ∨ K = 6 ∨ K = 7 ∨ K = 8 ∨ K = 9 ∨ K = 10 := by omega
  rcases q with rfl | rfl | rfl | rfl | rfl | rfl | rfl | rfl | rfl <;> refine ⟨by omega, by omega, by omega, by omega⟩
theorem th_b {a sg k e z : Int32} {m : Int64} (hm : uN m = (Int32.toInt64 a).toInt.natAbs) (hs : sg = if 0 ≤ a then 0 else 32768) (c : 4 ≤ m) (hz : ∃ n, LZ 64 (uN m) n ∧ z = nI n) (hk : k = 63 - z) (he : e = k - 1) (ck : ¬ (10 : Int32) < k) :
    TH a ((sg ||| e <<< ((10 : Int32) &&& 31)) ||| (Int64.toInt32 (m <<< ((Int32.toInt64 (10 - k)) &&& 63)) - 1024)) := by
  obtain ⟨K, k1, k2, k3, k4, k5⟩ := th_k hm c hz
  obtain ⟨em, b⟩ := th_m hm
  rw [k5] at hk
  rw [hk, show (10 : Int32) = nI 10 from rfl, nI_ltI (by omega) (by omega)] at ck
  obtain ⟨n1, n2, n3, n4⟩ := th_nb k1 (by omega) k3 k4
  have e1 : e = nI (K - 1) := by rw [he, hk, show (1 : Int32) = nI 1 from rfl, pk_sub (by omega)]
  have e2 : m <<< ((Int32.toInt64 (10 - k)) &&& 63) = lN (a.toInt.natAbs * 2 ^ (10 - K)) := by
    apply uN_inj
    rw [hk, show (10 : Int32) = nI 10 from rfl, pk_sub (by omega), sl_u _ _ (sk_l _ (by omega)), em, uN_lN (by omega), uN_lN (by omega)]
    omega
  rw [e1, pk_shlN _ 10 (by decide) (by omega), e2, lN_i, show (1024 : Int32) = nI 1024 from rfl, pk_sub (by omega), Int32.or_assoc, or_n]
  generalize hF : a.toInt.natAbs * 2 ^ (10 - K) = G at *
  have o : (K - 1) * 2 ^ 10 ||| (G - 1024) = (K - 1) * 1024 + (G - 1024) := by
    rw [Nat.mul_comm, ← Nat.two_pow_add_eq_or_of_lt (by omega), Nat.mul_comm]
  rw [o, or_s hs (by omega)]
  have s := sc_n (e := K - 1) (f := G - 1024) (by omega) (by omega)
  rw [show 1024 + (G - 1024) = G by omega, show 1025 + (G - 1024) = G + 1 by omega, n3, Nat.add_mul, n3, Nat.one_mul] at s
  refine ⟨(K - 1) * 1024 + (G - 1024), by omega, by omega, by omega, ?_⟩
  rw [if_pos (Or.inl (by omega))]
/-- the numbers: a half to the nearest -/
theorem th_nc {M K : Nat} (h1 : 11 ≤ K) (h2 : K ≤ 31) (h3 : 2 ^ K ≤ M) (h4 : M < 2 ^ (K + 1)) : 1024 ≤ M / 2 ^ (K - 10) ∧ M / 2 ^ (K - 10) < 2048 ∧ (M / 2 ^ (K - 10)) * 2 ^ (K - 1 - 1) + (M % 2 ^ (K - 10)) * 256 = M * 256 ∧ 2 ^ (K - 1 - 1) = 2 ^ (K - 10 - 1) * 512 ∧ M % 2 ^ (K - 10) < 2 ^ (K - 10 - 1) * 2 := by
  have q : K = 11 ∨ K = 12 ∨ K = 13 ∨ K = 14 ∨ K = 15 ∨ K = 16 ∨ K = 17 ∨ K = 18 ∨ K = 19 ∨ K = 20 ∨ K = 21 ∨ K = 22 ∨ K = 23 ∨ K = 24 ∨ K = 25 ∨ K = 26 ∨ K = 27 ∨ K = 28 ∨ K = 29 ∨ K = 30 ∨ K = 31 := by omega
  rcases q with rfl | rfl | rfl | rfl | rfl | rfl | rfl | rfl | rfl | rfl | rfl | rfl | rfl | rfl | rfl | rfl | rfl | rfl | rfl | rfl | rfl <;> refine ⟨by omega, by omega, by omega, by omega, by omega⟩
theorem th_c {a sg k e d z : Int32} {m lf hf q q2 : Int64} (hm : uN m = (Int32.toInt64 a).toInt.natAbs) (hs : sg = if 0 ≤ a then 0 else 32768) (c : 4 ≤ m) (hz : ∃ n, LZ 64 (uN m) n ∧ z = nI n) (hk : k = 63 - z) (he : e = k - 1) (ck : (10 : Int32) < k)
    (hd : d = k - 10) (hl : lf = m &&& (1 <<< ((Int32.toInt64 d) &&& 63) - 1)) (hh : hf = 1 <<< ((Int32.toInt64 (d - 1)) &&& 63)) (hq : q = m >>> ((Int32.toInt64 d) &&& 63))
    (h2 : q2 = if hf < lf ∨ (lf = hf ∧ q &&& 1 = 1) then q + 1 else q) : TH a (sg ||| (e <<< ((10 : Int32) &&& 31) + Int64.toInt32 q2 - 1024)) := by
  obtain ⟨K, k1, k2, k3, k4, k5⟩ := th_k hm c hz
  obtain ⟨em, b⟩ := th_m hm
  rw [k5] at hk
  rw [hk, show (10 : Int32) = nI 10 from rfl, nI_ltI (by omega) (by omega)] at ck
  obtain ⟨n1, n2, n3, n4, n5⟩ := th_nc ck k2 k3 k4
  have e1 : e = nI (K - 1) := by rw [he, hk, show (1 : Int32) = nI 1 from rfl, pk_sub (by omega)]
  have d1 : d = nI (K - 10) := by rw [hd, hk, show (10 : Int32) = nI 10 from rfl, pk_sub (by omega)]
  have d2 : d - 1 = nI (K - 10 - 1) := by rw [d1, show (1 : Int32) = nI 1 from rfl, pk_sub (by omega)]
  have pw : 2 ^ (K - 10) ≤ 2 ^ 21 := Nat.pow_le_pow_right (by decide) (by omega)
  have pw1 : 2 ^ (K - 10 - 1) ≤ 2 ^ 20 := Nat.pow_le_pow_right (by decide) (by omega)
  have pw0 := Nat.two_pow_pos (K - 10)
  have one : uN 1 = 1 := rfl
  have f1 : (1 : Int64) <<< ((Int32.toInt64 d) &&& 63) = lN (2 ^ (K - 10)) := by
    apply uN_inj
    rw [d1, sl_u _ _ (sk_l _ (by omega)), uN_lN (by omega), one]; omega
  have f2 : hf = lN (2 ^ (K - 10 - 1)) := by
    apply uN_inj
    rw [hh, d2, sl_u _ _ (sk_l _ (by omega)), uN_lN (by omega), one]; omega
  have f3 : lf = lN (a.toInt.natAbs % 2 ^ (K - 10)) := by
    have ml := Nat.mod_lt a.toInt.natAbs pw0
    apply uN_inj
    rw [hl, f1, show (1 : Int64) = lN 1 from rfl, lN_sub (by omega), em, uN_land, uN_lN (by omega), uN_lN (by omega), Nat.and_two_pow_sub_one_eq_mod, uN_lN (by omega)]
  have dl : a.toInt.natAbs / 2 ^ (K - 10) ≤ a.toInt.natAbs := Nat.div_le_self _ _
  have f4 : q = lN (a.toInt.natAbs / 2 ^ (K - 10)) := by
    apply Int64.toInt_inj.mp
    rw [hq, d1, sr_i _ _ (sk_l _ (by omega)), em, lT (by omega), lT (by omega), Int.natCast_ediv, Int.natCast_pow]
    rfl
  have ml := Nat.mod_lt a.toInt.natAbs pw0
  have g1 : hf < lf ↔ 2 ^ (K - 10 - 1) < a.toInt.natAbs % 2 ^ (K - 10) := by rw [f2, f3, pk_lLT (by omega) (by omega)]
  have g2 : lf = hf ↔ a.toInt.natAbs % 2 ^ (K - 10) = 2 ^ (K - 10 - 1) := by rw [f2, f3, pk_lEQ (by omega) (by omega)]
  have g3 : q &&& 1 = 1 ↔ a.toInt.natAbs / 2 ^ (K - 10) % 2 = 1 := by
    have t : q &&& 1 = lN (a.toInt.natAbs / 2 ^ (K - 10) % 2) := by
      apply uN_inj
      rw [uN_land, f4, uN_lN (by omega), uN_lN (by omega), one, Nat.and_one_is_mod]
    rw [t, show (1 : Int64) = lN 1 from rfl, pk_lEQ (by omega) (by omega)]
  have h3 : ∃ Q2 : Nat, q2 = lN Q2 ∧ Q2 = if 2 ^ (K - 10 - 1) < a.toInt.natAbs % 2 ^ (K - 10) ∨ (a.toInt.natAbs % 2 ^ (K - 10) = 2 ^ (K - 10 - 1) ∧ a.toInt.natAbs / 2 ^ (K - 10) % 2 = 1) then a.toInt.natAbs / 2 ^ (K - 10) + 1 else a.toInt.natAbs / 2 ^ (K - 10) := by
    by_cases t : hf < lf ∨ (lf = hf ∧ q &&& 1 = 1)
    · rw [if_pos t] at h2
      refine ⟨_, by rw [h2, f4, show (1 : Int64) = lN 1 from rfl, lN_add], ?_⟩
      rw [g1, g2, g3] at t
      rw [if_pos t]
    · rw [if_neg t] at h2
      refine ⟨_, by rw [h2, f4], ?_⟩
      rw [g1, g2, g3] at t
      rw [if_neg t]
  obtain ⟨Q2, h4, h5⟩ := h3
  have s := sc_n (e := K - 1) (f := a.toInt.natAbs / 2 ^ (K - 10) - 1024) (by omega) (by omega)
  clear g1 g2 g3 f1 f2 f3 f4 hl hh hq dl h2 d2
  generalize a.toInt.natAbs % 2 ^ (K - 10) = lo at *
  generalize a.toInt.natAbs / 2 ^ (K - 10) = Q at *
  generalize 2 ^ (K - 10 - 1) = hv at *
  generalize 2 ^ (K - 1 - 1) = P at *
  rw [show 1024 + (Q - 1024) = Q by omega, show 1025 + (Q - 1024) = Q + 1 by omega, Nat.add_mul, Nat.one_mul] at s
  have u1 : Q2 ≤ 2048 ∧ 1024 ≤ Q2 := by rw [h5]; split <;> omega
  rw [e1, pk_shlN _ 10 (by decide) (by omega), h4, lN_i, nI_add, show (1024 : Int32) = nI 1024 from rfl, pk_sub (by omega), or_s hs (by omega)]
  generalize Q * P = QP at *
  refine ⟨(K - 1) * 1024 + (Q - 1024), by omega, by omega, by omega, ?_⟩
  generalize (if a.toInt < 0 then 32768 else 0) = sg2
  rw [s.1, s.2, h5]
  refine congrArg nI (congrArg (fun x => x + sg2) ?_)
  by_cases w : hv < lo ∨ (lo = hv ∧ Q % 2 = 1)
  · rw [if_pos w, if_neg (by omega)]; omega
  · rw [if_neg w, if_pos (by omega)]; omega
theorem fh_S1 {E F S : Nat} {v : Int64} (h : S = 0) (hv : v.toInt = if E = 0 then (F : Int) else 1024 + F) : v.toInt = fhV E F S := by
  unfold fhV; rw [if_pos h]; exact hv
theorem fh_S2 {E F S : Nat} {v : Int64} (h : ¬ S = 0) (hF : F < 1024) (hv : v.toInt = if E = 0 then (F : Int) else 1024 + F) : (-v).toInt = fhV E F S := by
  unfold fhV
  rw [if_neg h, ← hv, l_neg]
  rw [hv]; split <;> omega
theorem bt_0 {b : Int32} {n : Nat} (h : b = if n = 0 then 0 else 1) (c : b = 0) : n = 0 := by
  by_cases q : n = 0
  · exact q
  · rw [if_neg q] at h
    rw [h] at c
    exact absurd c (by decide)
theorem bt_1 {b : Int32} {n : Nat} (h : b = if n = 0 then 0 else 1) (c : ¬ b = 0) : ¬ n = 0 := fun q => c (by rw [h, if_pos q])
theorem nr_0 {b : Int32} {B : Nat} (hb : b = nI B) (hB : 0 < B) (hB2 : B < 1073741824) : ¬ b = 0 := by
  rw [hb]
  exact nI_ne0 hB (by omega)
theorem nr_c {a b : Int32} {A B : Nat} (ha : a = nI A) (hb : b = nI B) (hA : A < 1073741824) (hB : 0 < B) (hB2 : B < 1073741824) : (2 * (a - a / b * b) < b ↔ ¬ B ≤ 2 * (A % B)) ∧ a / b = nI (A / B) := by
  have m := Nat.mod_lt A hB
  refine ⟨?_, by rw [ha, hb, pk_div (by omega) hB (by omega)]⟩
  rw [ha, hb, pk_rem (by omega) hB (by omega), show (2 : Int32) = nI 2 from rfl, pk_mul, nI_ltI (by omega) (by omega)]
  omega
theorem nr_1 {a b q : Int32} {A B : Nat} (ha : a = nI A) (hb : b = nI B) (hA : A < 1073741824) (hB : 0 < B) (hB2 : B < 1073741824) (hq : q = a / b) (c : 2 * (a - a / b * b) < b) : q = nI (A / B + if B ≤ 2 * (A % B) then 1 else 0) := by
  obtain ⟨h1, h2⟩ := nr_c ha hb hA hB hB2
  rw [if_neg (h1.mp c), hq, h2, Nat.add_zero]
theorem nr_2 {a b q : Int32} {A B : Nat} (ha : a = nI A) (hb : b = nI B) (hA : A < 1073741824) (hB : 0 < B) (hB2 : B < 1073741824) (hq : q = a / b) (c : ¬ 2 * (a - a / b * b) < b) : q + 1 = nI (A / B + if B ≤ 2 * (A % B) then 1 else 0) := by
  obtain ⟨h1, h2⟩ := nr_c ha hb hA hB hB2
  rw [if_pos (Classical.byContradiction (fun z => c (h1.mpr z))), hq, h2, nI_1]
theorem sd_f {h : Int32} {f : Int64} (hf : f = Int32.toInt64 (h &&& 1023)) : f = lN (uI h % 1024) := by
  rw [hf, i_and _ 10 (by decide), nI_l (by omega)]
theorem sd_0 {h e : Int32} {f : Int64} (he : e = (h >>> ((10 : Int32) &&& 31)) &&& 31) (hf : f = Int32.toInt64 (h &&& 1023)) (c : e = 0) : f = lN (sq (uI h / 1024 % 32) (uI h % 1024)) := by
  have k := (fh_v0 (Nat.mod_lt _ (by decide)) (Nat.mod_lt _ (by decide)) (hE_x he) (hF_x (h := h) rfl)).1.mp c
  unfold sq
  rw [if_pos k, sd_f hf]
theorem sd_1 {h e : Int32} {f : Int64} (he : e = (h >>> ((10 : Int32) &&& 31)) &&& 31) (hf : f = Int32.toInt64 (h &&& 1023)) (c : ¬ e = 0) : (1024 + f) <<< ((Int32.toInt64 (e - 1)) &&& 63) = lN (sq (uI h / 1024 % 32) (uI h % 1024)) := by
  have k : ¬ uI h / 1024 % 32 = 0 := fun q => c ((fh_v0 (Nat.mod_lt _ (by decide)) (Nat.mod_lt _ (by decide)) (hE_x he) (hF_x (h := h) rfl)).1.mpr q)
  have bF : uI h % 1024 < 1024 := Nat.mod_lt _ (by decide)
  have bE : uI h / 1024 % 32 < 32 := Nat.mod_lt _ (by decide)
  have ee := hE_x he
  have ef := sd_f hf
  unfold sq
  rw [if_neg k, ee, ef]
  generalize uI h / 1024 % 32 = E at *
  generalize uI h % 1024 = F at *
  have pw : 2 ^ (E - 1) ≤ 2 ^ 30 := Nat.pow_le_pow_right (by decide) (by omega)
  have m : (1024 + F) * 2 ^ (E - 1) ≤ 2047 * 2 ^ 30 := Nat.mul_le_mul (by omega) pw
  apply uN_inj
  rw [show (1 : Int32) = nI 1 from rfl, pk_sub (by omega), sl_u _ _ (sk_l _ (by omega)), show (1024 : Int64) = lN 1024 from rfl, lN_add, uN_lN (by omega), uN_lN (by omega)]
  omega
end
section
set_option maxHeartbeats 4000000 in
set_option maxRecDepth 100000 in
theorem c_X_fromHalf (l : Launch) (h0 : Nat) (h : Int32) : Met l y_X_fromHalf w_X_fromHalf ({ frames := 2, cells := 0, slots := 0, locals := 44 } : Room) (va_Pc [.ref h0, .int h] (fun _ => True)) (vp_Si (fun r => FH h r)) 0 0 (fun _ => False) := by
  refine pm [.ref h0, .int h] (by decide +kernel) (Nat.le_of_ble_eq_true rfl) (fun p e s m below meth c ls hx hb hr hml hown hg hlk hnm hB hl => ?_)
  have hl : lv_has ls 8 [(0, .ref h0), (1, .int h)] := hl
  refine lv_iload_n hx hb d_X_fromHalf_0 rfl (lv_at hl 1 rfl) ?_
  refine lv_bipush (v := 10) hx hb d_X_fromHalf_1 (by decide) ?_
  refine lv_ishr hx hb d_X_fromHalf_3 ?_
  refine lv_bipush (v := 31) hx hb d_X_fromHalf_4 (by decide) ?_
  refine lv_iand hx hb d_X_fromHalf_6 ?_
  refine lv_topi (fun v_7 e_7 => ?_)
  refine lv_istore_n (lv' := [(2, .int v_7), (0, .ref h0), (1, .int h)]) hx hb d_X_fromHalf_7 rfl hl (by decide) rfl (fun ls hl => ?_)
  refine lv_iload_n hx hb d_X_fromHalf_8 rfl (lv_at hl 2 rfl) ?_
  refine lv_sipush (v := 1023) hx hb d_X_fromHalf_9 (by decide) ?_
  refine lv_iand hx hb d_X_fromHalf_12 ?_
  refine lv_topi (fun v_13 e_13 => ?_)
  refine lv_istore_n (lv' := [(3, .int v_13), (2, .int v_7), (0, .ref h0), (1, .int h)]) hx hb d_X_fromHalf_13 rfl hl (by decide) rfl (fun ls hl => ?_)
  refine lv_iload_n hx hb d_X_fromHalf_14 rfl (lv_at hl 3 rfl) ?_
  refine lv_ldc (v := 32768) hx hb hown (hg _ k_95) d_X_fromHalf_15 ?_
  refine lv_iand hx hb d_X_fromHalf_17 ?_
  have hE := hE_x e_7
  have hF := hF_x e_13
  have bF : uI h % 1024 < 1024 := Nat.mod_lt _ (by decide)
  have bE : uI h / 1024 % 32 < 32 := Nat.mod_lt _ (by decide)
  have k0 := fh_v0 bF bE hE hF
  refine jn1 (α1 := Int32) 26 8 (fun b => b = if uI h / 32768 % 2 = 0 then 0 else 1) (fun b => [(0, .ref h0), (1, .int h), (2, .int v_7), (3, .int v_13)]) (fun b => [.int b]) (fun b hj_26 ls hl => ?_) (fun K_26 => ?_)
  · have hl : lv_has ls 8 [(0, .ref h0), (1, .int h), (2, .int v_7), (3, .int v_13)] := hl
    refine lv_istore (lv' := [(4, .int b), (0, .ref h0), (1, .int h), (2, .int v_7), (3, .int v_13)]) hx hb d_X_fromHalf_26 hl (by decide) rfl (fun ls hl => ?_)
    refine lv_iload_n hx hb d_X_fromHalf_28 rfl (lv_at hl 3 rfl) ?_
    refine lv_bipush (v := 31) hx hb d_X_fromHalf_29 (by decide) ?_
    refine lv_icmp_ne (tgt := 55) hx hb d_X_fromHalf_31 (by decide) (fun c_31 => ?_) (fun c_31 => ?_)
    · have nE : ¬ uI h / 1024 % 32 = 31 := fun q => c_31 ((fh_31 hE).mpr q)
      have lE : uI h / 1024 % 32 < 31 := by omega
      refine lv_iload_n hx hb d_X_fromHalf_55 rfl (lv_at hl 3 rfl) ?_
      refine jn1 (α1 := Int64) 70 8 (fun v => v.toInt = if uI h / 1024 % 32 = 0 then ((uI h % 1024) : Int) else 1024 + (uI h % 1024)) (fun v => [(0, .ref h0), (1, .int h), (2, .int v_7), (3, .int v_13), (4, .int b)]) (fun v => [.long v]) (fun v hj_70 ls hl => ?_) (fun K_70 => ?_)
      · have hl : lv_has ls 8 [(0, .ref h0), (1, .int h), (2, .int v_7), (3, .int v_13), (4, .int b)] := hl
        refine lv_lstore (lv' := [(5, .long v), (0, .ref h0), (1, .int h), (2, .int v_7), (3, .int v_13), (4, .int b)]) hx hb d_X_fromHalf_70 hl (by decide) rfl (fun ls hl => ?_)
        refine lv_iload hx hb d_X_fromHalf_72 (lv_at hl 5 rfl) ?_
        refine jn1 (α1 := Int64) 82 8 (fun v2 => v2.toInt = fhV (uI h / 1024 % 32) (uI h % 1024) (uI h / 32768 % 2)) (fun v2 => [(0, .ref h0), (1, .int h), (2, .int v_7), (5, .long v2)]) (fun v2 => []) (fun v2 hj_82 ls hl => ?_) (fun K_82 => ?_)
        · have hl : lv_has ls 8 [(0, .ref h0), (1, .int h), (2, .int v_7), (5, .long v2)] := hl
          refine lv_iload_n hx hb d_X_fromHalf_82 rfl (lv_at hl 2 rfl) ?_
          refine jn1 (α1 := Int32) 95 8 (fun up => up = if uI h / 1024 % 32 = 0 then -8 else nI (uI h / 1024 % 32) - 9) (fun up => [(0, .ref h0), (1, .int h), (2, .int v_7), (5, .long v2)]) (fun up => [.int up]) (fun up hj_95 ls hl => ?_) (fun K_95 => ?_)
          · have hl : lv_has ls 8 [(0, .ref h0), (1, .int h), (2, .int v_7), (5, .long v2)] := hl
            refine lv_istore (lv' := [(7, .int up), (0, .ref h0), (1, .int h), (2, .int v_7), (5, .long v2)]) hx hb d_X_fromHalf_95 hl (by decide) rfl (fun ls hl => ?_)
            refine lv_iload hx hb d_X_fromHalf_97 (lv_at hl 0 rfl) ?_
            refine lv_if_ge (tgt := 111) hx hb d_X_fromHalf_99 (by decide) (fun c_99 => ?_) (fun c_99 => ?_)
            · refine lv_lload hx hb d_X_fromHalf_111 (lv_at hl 4 rfl) ?_
              refine lv_iload hx hb d_X_fromHalf_113 (lv_at hl 0 rfl) ?_
              refine lv_lshl hx hb d_X_fromHalf_115 rfl ?_
              refine lv_topl (fun w ew => ?_)
              refine cs_i [.long w] 1 rfl (rest := []) hx hb hml hown hg (c_X_cut l w) k_53 k_54 k_1 k_55 (by decide +kernel) hl.1 rfl rfl ⟨Nat.le_of_ble_eq_true rfl, Nat.le_of_ble_eq_true rfl⟩ rfl (Nat.le_of_ble_eq_true rfl) ⟨Nat.zero_le _, Nat.zero_le _⟩ d_X_fromHalf_116 (fun r_116 h_116 => ?_)
              exact rt_i hx hb hr hlk d_X_fromHalf_119 (fh_end nE (by rw [ew]; exact fh_up lE bF hj_82 hj_95 c_99) h_116)
            · refine lv_lload hx hb d_X_fromHalf_102 (lv_at hl 4 rfl) ?_
              refine lv_iload hx hb d_X_fromHalf_104 (lv_at hl 0 rfl) ?_
              refine lv_ineg hx hb d_X_fromHalf_106 ?_
              refine lv_lshr hx hb d_X_fromHalf_107 rfl ?_
              refine lv_goto (tgt := 116) hx hb d_X_fromHalf_108 (by decide) ?_
              refine lv_topl (fun w ew => ?_)
              refine cs_i [.long w] 1 rfl (rest := []) hx hb hml hown hg (c_X_cut l w) k_53 k_54 k_1 k_55 (by decide +kernel) hl.1 rfl rfl ⟨Nat.le_of_ble_eq_true rfl, Nat.le_of_ble_eq_true rfl⟩ rfl (Nat.le_of_ble_eq_true rfl) ⟨Nat.zero_le _, Nat.zero_le _⟩ d_X_fromHalf_116 (fun r_116 h_116 => ?_)
              exact rt_i hx hb hr hlk d_X_fromHalf_119 (fh_end nE (by rw [ew]; exact fh_dn lE bF hj_82 hj_95 c_99) h_116)
          · refine lv_if_ne (tgt := 91) hx hb d_X_fromHalf_83 (by decide) (fun c_83 => ?_) (fun c_83 => ?_)
            · refine lv_iload_n hx hb d_X_fromHalf_91 rfl (lv_at hl 2 rfl) ?_
              refine lv_bipush (v := 9) hx hb d_X_fromHalf_92 (by decide) ?_
              refine lv_isub hx hb d_X_fromHalf_94 ?_
              exact K_95 _ (by rw [if_neg (fun q => c_83 (k0.1.mpr q)), hE]) ls (lv_sub hl [0, 1, 2, 3] rfl)
            · refine lv_bipush (v := -8) hx hb d_X_fromHalf_86 (by decide) ?_
              refine lv_goto (tgt := 95) hx hb d_X_fromHalf_88 (by decide) ?_
              exact K_95 _ (by rw [if_pos (k0.1.mp c_83)]) ls (lv_sub hl [0, 1, 2, 3] rfl)
        · refine lv_if_eq (tgt := 82) hx hb d_X_fromHalf_74 (by decide) (fun c_74 => ?_) (fun c_74 => ?_)
          · exact K_82 _ (fh_S1 (bt_0 hj_26 c_74) hj_70) ls (lv_sub hl [1, 2, 3, 0] rfl)
          · refine lv_lload hx hb d_X_fromHalf_77 (lv_at hl 0 rfl) ?_
            refine lv_lneg hx hb d_X_fromHalf_79 ?_
            refine lv_topl (fun v_80 e_80 => ?_)
            refine lv_lstore (lv' := [(5, .long v_80), (0, .ref h0), (1, .int h), (2, .int v_7), (3, .int v_13), (4, .int b)]) hx hb d_X_fromHalf_80 hl (by decide) rfl (fun ls hl => ?_)
            exact K_82 _ (by rw [e_80]; exact fh_S2 (bt_1 hj_26 c_74) bF hj_70) ls (lv_sub hl [1, 2, 3, 0] rfl)
      · refine lv_if_ne (tgt := 64) hx hb d_X_fromHalf_56 (by decide) (fun c_56 => ?_) (fun c_56 => ?_)
        · refine lv_sipush (v := 1024) hx hb d_X_fromHalf_64 (by decide) ?_
          refine lv_iload_n hx hb d_X_fromHalf_67 rfl (lv_at hl 4 rfl) ?_
          refine lv_iadd hx hb d_X_fromHalf_68 ?_
          refine lv_i2l hx hb d_X_fromHalf_69 rfl ?_
          exact K_70 _ (by rw [if_neg (fun q => c_56 (k0.1.mpr q))]; exact k0.2.2) ls (lv_sub hl [1, 2, 3, 4, 0] rfl)
        · refine lv_iload_n hx hb d_X_fromHalf_59 rfl (lv_at hl 4 rfl) ?_
          refine lv_i2l hx hb d_X_fromHalf_60 rfl ?_
          refine lv_goto (tgt := 70) hx hb d_X_fromHalf_61 (by decide) ?_
          exact K_70 _ (by rw [if_pos (k0.1.mp c_56)]; exact k0.2.1) ls (lv_sub hl [1, 2, 3, 4, 0] rfl)
    · refine lv_iload_n hx hb d_X_fromHalf_34 rfl (lv_at hl 4 rfl) ?_
      refine lv_if_le (tgt := 42) hx hb d_X_fromHalf_35 (by decide) (fun c_35 => ?_) (fun c_35 => ?_)
      · refine lv_iload hx hb d_X_fromHalf_42 (lv_at hl 0 rfl) ?_
        refine lv_if_eq (tgt := 52) hx hb d_X_fromHalf_44 (by decide) (fun c_44 => ?_) (fun c_44 => ?_)
        · refine lv_ldc (v := 2147483647) hx hb hown (hg _ k_48) d_X_fromHalf_52 ?_
          exact rt_i hx hb hr hlk d_X_fromHalf_54 (by unfold FH; rw [if_pos ((fh_31 hE).mp c_31), if_neg ((fh_F hF).mp c_35), if_pos (bt_0 hj_26 c_44)])
        · refine lv_ldc (v := -2147483648) hx hb hown (hg _ k_49) d_X_fromHalf_47 ?_
          refine lv_goto (tgt := 54) hx hb d_X_fromHalf_49 (by decide) ?_
          exact rt_i hx hb hr hlk d_X_fromHalf_54 (by unfold FH; rw [if_pos ((fh_31 hE).mp c_31), if_neg ((fh_F hF).mp c_35), if_neg (bt_1 hj_26 c_44)])
      · refine lv_iconst (v := 0) hx hb d_X_fromHalf_38 (by decide) ?_
        refine lv_goto (tgt := 54) hx hb d_X_fromHalf_39 (by decide) ?_
        exact rt_i hx hb hr hlk d_X_fromHalf_54 (by unfold FH; rw [if_pos ((fh_31 hE).mp c_31), if_pos (Classical.byContradiction (fun q => c_35 ((fh_F hF).mpr q)))])
  · refine lv_if_eq (tgt := 25) hx hb d_X_fromHalf_18 (by decide) (fun c_18 => ?_) (fun c_18 => ?_)
    · refine lv_iconst (v := 0) hx hb d_X_fromHalf_25 (by decide) ?_
      exact K_26 0 (by rw [if_pos ((hS_x h).mp c_18)]) ls (lv_sub hl [2, 3, 1, 0] rfl)
    · refine lv_iconst (v := 1) hx hb d_X_fromHalf_21 (by decide) ?_
      refine lv_goto (tgt := 26) hx hb d_X_fromHalf_22 (by decide) ?_
      exact K_26 1 (by rw [if_neg (fun q => c_18 ((hS_x h).mpr q))]) ls (lv_sub hl [2, 3, 1, 0] rfl)
set_option maxHeartbeats 4000000 in
set_option maxRecDepth 100000 in
theorem c_X_toHalf (l : Launch) (h0 : Nat) (a : Int32) : Met l y_X_toHalf w_X_toHalf ({ frames := 2, cells := 0, slots := 0, locals := 43 } : Room) (va_Pc [.ref h0, .int a] (fun _ => True)) (vp_Si (fun r => TH a r)) 0 0 (fun _ => False) := by
  refine pm [.ref h0, .int a] (by decide +kernel) (Nat.le_of_ble_eq_true rfl) (fun p e s m below meth c ls hx hb hr hml hown hg hlk hnm hB hl => ?_)
  have hl : lv_has ls 14 [(0, .ref h0), (1, .int a)] := hl
  refine lv_iload_n hx hb d_X_toHalf_0 rfl (lv_at hl 1 rfl) ?_
  refine lv_i2l hx hb d_X_toHalf_1 rfl ?_
  refine cs_l [.long (Int32.toInt64 a)] 1 rfl (rest := []) hx hb hml hown hg (c_X_size l (Int32.toInt64 a)) k_104 k_105 k_1 k_106 (by decide +kernel) hl.1 rfl rfl ⟨Nat.le_of_ble_eq_true rfl, Nat.le_of_ble_eq_true rfl⟩ rfl (Nat.le_of_ble_eq_true rfl) ⟨Nat.zero_le _, Nat.zero_le _⟩ d_X_toHalf_2 (fun r_2 h_2 => ?_)
  refine lv_lstore_n (lv' := [(2, .long r_2), (0, .ref h0), (1, .int a)]) hx hb d_X_toHalf_5 rfl hl (by decide) rfl (fun ls hl => ?_)
  refine lv_iload_n hx hb d_X_toHalf_6 rfl (lv_at hl 2 rfl) ?_
  refine jn1 (α1 := Int32) 16 14 (fun sg => sg = if 0 ≤ a then 0 else 32768) (fun sg => [(0, .ref h0), (1, .int a), (2, .long r_2)]) (fun sg => [.int sg]) (fun sg hj_16 ls hl => ?_) (fun K_16 => ?_)
  · have hl : lv_has ls 14 [(0, .ref h0), (1, .int a), (2, .long r_2)] := hl
    refine lv_istore (lv' := [(4, .int sg), (0, .ref h0), (1, .int a), (2, .long r_2)]) hx hb d_X_toHalf_16 hl (by decide) rfl (fun ls hl => ?_)
    refine lv_lload_n hx hb d_X_toHalf_18 rfl (lv_at hl 3 rfl) ?_
    refine lv_ldc2 (v := 4) hx hb hown (hg _ k_107) d_X_toHalf_19 ?_
    refine rl_ge (tgt := 35) hx hb d_X_toHalf_22 d_X_toHalf_23 (by decide) (fun c_22 => ?_) (fun c_22 => ?_)
    · refine lv_bipush (v := 63) hx hb d_X_toHalf_35 (by decide) ?_
      refine lv_lload_n hx hb d_X_toHalf_37 rfl (lv_at hl 3 rfl) ?_
      refine cs_i [.long r_2] 1 rfl (rest := [.int 63]) hx hb hml hown hg (c_J_lnz l r_2) k_72 k_73 k_5 k_74 (by decide +kernel) hl.1 rfl rfl ⟨Nat.le_of_ble_eq_true rfl, Nat.le_of_ble_eq_true rfl⟩ rfl (Nat.le_of_ble_eq_true rfl) ⟨Nat.zero_le _, Nat.zero_le _⟩ d_X_toHalf_38 (fun r_38 h_38 => ?_)
      refine lv_isub hx hb d_X_toHalf_41 ?_
      refine lv_topi (fun v_42 e_42 => ?_)
      refine lv_istore (lv' := [(5, .int v_42), (4, .int sg), (0, .ref h0), (1, .int a), (2, .long r_2)]) hx hb d_X_toHalf_42 hl (by decide) rfl (fun ls hl => ?_)
      refine lv_iload hx hb d_X_toHalf_44 (lv_at hl 0 rfl) ?_
      refine lv_iconst (v := 1) hx hb d_X_toHalf_46 (by decide) ?_
      refine lv_isub hx hb d_X_toHalf_47 ?_
      refine lv_topi (fun v_48 e_48 => ?_)
      refine lv_istore (lv' := [(6, .int v_48), (5, .int v_42), (4, .int sg), (0, .ref h0), (1, .int a), (2, .long r_2)]) hx hb d_X_toHalf_48 hl (by decide) rfl (fun ls hl => ?_)
      refine lv_iload hx hb d_X_toHalf_50 (lv_at hl 1 rfl) ?_
      refine lv_bipush (v := 10) hx hb d_X_toHalf_52 (by decide) ?_
      refine lv_icmp_gt (tgt := 79) hx hb d_X_toHalf_54 (by decide) (fun c_54 => ?_) (fun c_54 => ?_)
      · refine lv_iload hx hb d_X_toHalf_79 (lv_at hl 1 rfl) ?_
        refine lv_bipush (v := 10) hx hb d_X_toHalf_81 (by decide) ?_
        refine lv_isub hx hb d_X_toHalf_83 ?_
        refine lv_topi (fun v_84 e_84 => ?_)
        refine lv_istore (lv' := [(7, .int v_84), (6, .int v_48), (5, .int v_42), (4, .int sg), (0, .ref h0), (1, .int a), (2, .long r_2)]) hx hb d_X_toHalf_84 hl (by decide) rfl (fun ls hl => ?_)
        refine lv_lload_n hx hb d_X_toHalf_86 rfl (lv_at hl 6 rfl) ?_
        refine lv_lconst (v := 1) hx hb d_X_toHalf_87 (by decide) ?_
        refine lv_iload hx hb d_X_toHalf_88 (lv_at hl 0 rfl) ?_
        refine lv_lshl hx hb d_X_toHalf_90 rfl ?_
        refine lv_lconst (v := 1) hx hb d_X_toHalf_91 (by decide) ?_
        refine lv_lsub hx hb d_X_toHalf_92 ?_
        refine lv_land hx hb d_X_toHalf_93 ?_
        refine lv_topl (fun v_94 e_94 => ?_)
        refine lv_lstore (lv' := [(8, .long v_94), (7, .int v_84), (6, .int v_48), (5, .int v_42), (4, .int sg), (0, .ref h0), (1, .int a), (2, .long r_2)]) hx hb d_X_toHalf_94 hl (by decide) rfl (fun ls hl => ?_)
        refine lv_lconst (v := 1) hx hb d_X_toHalf_96 (by decide) ?_
        refine lv_iload hx hb d_X_toHalf_97 (lv_at hl 1 rfl) ?_
        refine lv_iconst (v := 1) hx hb d_X_toHalf_99 (by decide) ?_
        refine lv_isub hx hb d_X_toHalf_100 ?_
        refine lv_lshl hx hb d_X_toHalf_101 rfl ?_
        refine lv_topl (fun v_102 e_102 => ?_)
        refine lv_lstore (lv' := [(10, .long v_102), (8, .long v_94), (7, .int v_84), (6, .int v_48), (5, .int v_42), (4, .int sg), (0, .ref h0), (1, .int a), (2, .long r_2)]) hx hb d_X_toHalf_102 hl (by decide) rfl (fun ls hl => ?_)
        refine lv_lload_n hx hb d_X_toHalf_104 rfl (lv_at hl 8 rfl) ?_
        refine lv_iload hx hb d_X_toHalf_105 (lv_at hl 2 rfl) ?_
        refine lv_lshr hx hb d_X_toHalf_107 rfl ?_
        refine lv_topl (fun v_108 e_108 => ?_)
        refine lv_lstore (lv' := [(12, .long v_108), (10, .long v_102), (8, .long v_94), (7, .int v_84), (6, .int v_48), (5, .int v_42), (4, .int sg), (0, .ref h0), (1, .int a), (2, .long r_2)]) hx hb d_X_toHalf_108 hl (by decide) rfl (fun ls hl => ?_)
        refine lv_lload hx hb d_X_toHalf_110 (lv_at hl 2 rfl) ?_
        refine lv_lload hx hb d_X_toHalf_112 (lv_at hl 1 rfl) ?_
        refine jn1 (α1 := Int64) 141 14 (fun q2 => q2 = if v_102 < v_94 ∨ (v_94 = v_102 ∧ v_108 &&& 1 = 1) then v_108 + 1 else v_108) (fun q2 => [(4, .int sg), (6, .int v_48), (12, .long q2)]) (fun q2 => []) (fun q2 hj_141 ls hl => ?_) (fun K_141 => ?_)
        · have hl : lv_has ls 14 [(4, .int sg), (6, .int v_48), (12, .long q2)] := hl
          refine lv_iload hx hb d_X_toHalf_141 (lv_at hl 0 rfl) ?_
          refine lv_iload hx hb d_X_toHalf_143 (lv_at hl 1 rfl) ?_
          refine lv_bipush (v := 10) hx hb d_X_toHalf_145 (by decide) ?_
          refine lv_ishl hx hb d_X_toHalf_147 ?_
          refine lv_lload hx hb d_X_toHalf_148 (lv_at hl 2 rfl) ?_
          refine lv_l2i hx hb d_X_toHalf_150 rfl ?_
          refine lv_iadd hx hb d_X_toHalf_151 ?_
          refine lv_sipush (v := 1024) hx hb d_X_toHalf_152 (by decide) ?_
          refine lv_isub hx hb d_X_toHalf_155 ?_
          refine lv_ior hx hb d_X_toHalf_156 ?_
          exact rt_i hx hb hr hlk d_X_toHalf_157 (th_c h_2 hj_16 c_22 h_38 e_42 e_48 c_54 e_84 e_94 e_102 e_108 hj_141)
        · refine rl_gt (tgt := 135) hx hb d_X_toHalf_114 d_X_toHalf_115 (by decide) (fun c_114 => ?_) (fun c_114 => ?_)
          · refine lv_lload hx hb d_X_toHalf_135 (lv_at hl 0 rfl) ?_
            refine lv_lconst (v := 1) hx hb d_X_toHalf_137 (by decide) ?_
            refine lv_ladd hx hb d_X_toHalf_138 ?_
            refine lv_topl (fun v_139 e_139 => ?_)
            refine lv_lstore (lv' := [(12, .long v_139), (10, .long v_102), (8, .long v_94), (7, .int v_84), (6, .int v_48), (5, .int v_42), (4, .int sg), (0, .ref h0), (1, .int a), (2, .long r_2)]) hx hb d_X_toHalf_139 hl (by decide) rfl (fun ls hl => ?_)
            exact K_141 _ (by rw [if_pos (Or.inl c_114), e_139]) ls (lv_sub hl [6, 4, 0] rfl)
          · refine lv_lload hx hb d_X_toHalf_118 (lv_at hl 2 rfl) ?_
            refine lv_lload hx hb d_X_toHalf_120 (lv_at hl 1 rfl) ?_
            refine rl_ne (tgt := 141) hx hb d_X_toHalf_122 d_X_toHalf_123 (by decide) (fun c_122 => ?_) (fun c_122 => ?_)
            · exact K_141 _ (by rw [if_neg (fun q => q.elim c_114 (fun q => c_122 q.1))]) ls (lv_sub hl [6, 4, 0] rfl)
            · refine lv_lload hx hb d_X_toHalf_126 (lv_at hl 0 rfl) ?_
              refine lv_lconst (v := 1) hx hb d_X_toHalf_128 (by decide) ?_
              refine lv_land hx hb d_X_toHalf_129 ?_
              refine lv_lconst (v := 1) hx hb d_X_toHalf_130 (by decide) ?_
              refine rl_ne (tgt := 141) hx hb d_X_toHalf_131 d_X_toHalf_132 (by decide) (fun c_131 => ?_) (fun c_131 => ?_)
              · exact K_141 _ (by rw [if_neg (fun q => q.elim c_114 (fun q => c_131 q.2))]) ls (lv_sub hl [6, 4, 0] rfl)
              · refine lv_lload hx hb d_X_toHalf_135 (lv_at hl 0 rfl) ?_
                refine lv_lconst (v := 1) hx hb d_X_toHalf_137 (by decide) ?_
                refine lv_ladd hx hb d_X_toHalf_138 ?_
                refine lv_topl (fun v_139 e_139 => ?_)
                refine lv_lstore (lv' := [(12, .long v_139), (10, .long v_102), (8, .long v_94), (7, .int v_84), (6, .int v_48), (5, .int v_42), (4, .int sg), (0, .ref h0), (1, .int a), (2, .long r_2)]) hx hb d_X_toHalf_139 hl (by decide) rfl (fun ls hl => ?_)
                exact K_141 _ (by rw [if_pos (Or.inr ⟨c_122, c_131⟩), e_139]) ls (lv_sub hl [6, 4, 0] rfl)
      · refine lv_iload hx hb d_X_toHalf_57 (lv_at hl 2 rfl) ?_
        refine lv_iload hx hb d_X_toHalf_59 (lv_at hl 0 rfl) ?_
        refine lv_bipush (v := 10) hx hb d_X_toHalf_61 (by decide) ?_
        refine lv_ishl hx hb d_X_toHalf_63 ?_
        refine lv_ior hx hb d_X_toHalf_64 ?_
        refine lv_lload_n hx hb d_X_toHalf_65 rfl (lv_at hl 5 rfl) ?_
        refine lv_bipush (v := 10) hx hb d_X_toHalf_66 (by decide) ?_
        refine lv_iload hx hb d_X_toHalf_68 (lv_at hl 1 rfl) ?_
        refine lv_isub hx hb d_X_toHalf_70 ?_
        refine lv_lshl hx hb d_X_toHalf_71 rfl ?_
        refine lv_l2i hx hb d_X_toHalf_72 rfl ?_
        refine lv_sipush (v := 1024) hx hb d_X_toHalf_73 (by decide) ?_
        refine lv_isub hx hb d_X_toHalf_76 ?_
        refine lv_ior hx hb d_X_toHalf_77 ?_
        exact rt_i hx hb hr hlk d_X_toHalf_78 (th_b h_2 hj_16 c_22 h_38 e_42 e_48 c_54)
    · refine lv_iload hx hb d_X_toHalf_26 (lv_at hl 0 rfl) ?_
      refine lv_lload_n hx hb d_X_toHalf_28 rfl (lv_at hl 3 rfl) ?_
      refine lv_l2i hx hb d_X_toHalf_29 rfl ?_
      refine lv_bipush (v := 8) hx hb d_X_toHalf_30 (by decide) ?_
      refine lv_ishl hx hb d_X_toHalf_32 ?_
      refine lv_ior hx hb d_X_toHalf_33 ?_
      exact rt_i hx hb hr hlk d_X_toHalf_34 (th_a h_2 hj_16 c_22)
  · refine lv_if_ge (tgt := 15) hx hb d_X_toHalf_7 (by decide) (fun c_7 => ?_) (fun c_7 => ?_)
    · refine lv_iconst (v := 0) hx hb d_X_toHalf_15 (by decide) ?_
      exact K_16 0 (by rw [if_pos c_7]) ls (lv_sub hl [1, 2, 0] rfl)
    · refine lv_ldc (v := 32768) hx hb hown (hg _ k_95) d_X_toHalf_10 ?_
      refine lv_goto (tgt := 16) hx hb d_X_toHalf_12 (by decide) ?_
      exact K_16 32768 (by rw [if_neg c_7]) ls (lv_sub hl [1, 2, 0] rfl)
set_option maxHeartbeats 4000000 in
set_option maxRecDepth 100000 in
theorem c_M_size (l : Launch) (v : Int64) : Met l y_M_size w_M_size ({ frames := 0, cells := 0, slots := 0, locals := 0 } : Room) (va_Pc [.long v] (fun _ => True)) (vp_Sl (fun r => uN r = v.toInt.natAbs)) 0 0 (fun _ => False) := by
  refine pm [.long v] (by decide +kernel) (Nat.le_of_ble_eq_true rfl) (fun p e s m below meth c ls hx hb hr hml hown hg hlk hnm hB hl => ?_)
  have hl : lv_has ls 2 [(0, .long v)] := hl
  refine lv_lload_n hx hb d_M_size_0 rfl (lv_at hl 0 rfl) ?_
  refine lv_lconst (v := 0) hx hb d_M_size_1 (by decide) ?_
  refine rl_ge (tgt := 11) hx hb d_M_size_2 d_M_size_3 (by decide) (fun c_2 => ?_) (fun c_2 => ?_)
  · refine lv_lload_n hx hb d_M_size_11 rfl (lv_at hl 0 rfl) ?_
    exact rt_l hx hb hr hlk d_M_size_12 (sz_pos c_2)
  · refine lv_lload_n hx hb d_M_size_6 rfl (lv_at hl 0 rfl) ?_
    refine lv_lneg hx hb d_M_size_7 ?_
    refine lv_goto (tgt := 12) hx hb d_M_size_8 (by decide) ?_
    exact rt_l hx hb hr hlk d_M_size_12 (sz_neg c_2)
set_option maxHeartbeats 4000000 in
set_option maxRecDepth 100000 in
theorem c_M_below (l : Launch) (a : Int64) (b : Int64) : Met l y_M_below w_M_below ({ frames := 0, cells := 0, slots := 0, locals := 0 } : Room) (va_Pc [.long a, .long b] (fun _ => True)) (vp_Si (fun r => r = if uN a < uN b then 1 else 0)) 0 0 (fun _ => False) := by
  refine pm [.long a, .long b] (by decide +kernel) (Nat.le_of_ble_eq_true rfl) (fun p e s m below meth c ls hx hb hr hml hown hg hlk hnm hB hl => ?_)
  have hl : lv_has ls 4 [(0, .long a), (2, .long b)] := hl
  refine lv_lload_n hx hb d_M_below_0 rfl (lv_at hl 0 rfl) ?_
  refine lv_ldc2 (v := -9223372036854775808) hx hb hown (hg _ k_335) d_M_below_1 ?_
  refine lv_lxor hx hb d_M_below_4 ?_
  refine lv_lload_n hx hb d_M_below_5 rfl (lv_at hl 1 rfl) ?_
  refine lv_ldc2 (v := -9223372036854775808) hx hb hown (hg _ k_335) d_M_below_6 ?_
  refine lv_lxor hx hb d_M_below_9 ?_
  refine rl_ge (tgt := 18) hx hb d_M_below_10 d_M_below_11 (by decide) (fun c_10 => ?_) (fun c_10 => ?_)
  · refine lv_iconst (v := 0) hx hb d_M_below_18 (by decide) ?_
    exact rt_z hx hb hr hlk rfl d_M_below_19 (by rw [if_neg (fun q => Nat.not_le.mpr q ((uN_le b a).mp c_10))])
  · refine lv_iconst (v := 1) hx hb d_M_below_14 (by decide) ?_
    refine lv_goto (tgt := 19) hx hb d_M_below_15 (by decide) ?_
    exact rt_z hx hb hr hlk rfl d_M_below_19 (by rw [if_pos (Nat.not_le.mp (fun q => c_10 ((uN_le b a).mpr q)))])
set_option maxHeartbeats 4000000 in
set_option maxRecDepth 100000 in
theorem c_M_nearest (l : Launch) (a : Int32) (b : Int32) (A B : Nat) (ha : a = nI A) (hb2 : b = nI B) (hA : A < 1073741824) (hB1 : 0 < B) (hB2 : B < 1073741824) : Met l y_M_nearest w_M_nearest ({ frames := 0, cells := 0, slots := 0, locals := 0 } : Room) (va_Pc [.int a, .int b] (fun _ => True)) (vp_Si (fun r => r = nI (A / B + if B ≤ 2 * (A % B) then 1 else 0))) 0 0 (fun _ => False) := by
  refine pm [.int a, .int b] (by decide +kernel) (Nat.le_of_ble_eq_true rfl) (fun p e s m below meth c ls hx hb hr hml hown hg hlk hnm hB hl => ?_)
  have hl : lv_has ls 3 [(0, .int a), (1, .int b)] := hl
  refine lv_iload_n hx hb d_M_nearest_0 rfl (lv_at hl 0 rfl) ?_
  refine lv_iload_n hx hb d_M_nearest_1 rfl (lv_at hl 1 rfl) ?_
  refine lv_idiv hx hb d_M_nearest_2 (nr_0 hb2 hB1 hB2) ?_
  refine lv_topi (fun v_3 e_3 => ?_)
  refine lv_istore_n (lv' := [(2, .int v_3), (0, .int a), (1, .int b)]) hx hb d_M_nearest_3 rfl hl (by decide) rfl (fun ls hl => ?_)
  refine lv_iconst (v := 2) hx hb d_M_nearest_4 (by decide) ?_
  refine lv_iload_n hx hb d_M_nearest_5 rfl (lv_at hl 1 rfl) ?_
  refine lv_iload_n hx hb d_M_nearest_6 rfl (lv_at hl 2 rfl) ?_
  refine lv_irem hx hb d_M_nearest_7 (nr_0 hb2 hB1 hB2) ?_
  refine lv_imul hx hb d_M_nearest_8 ?_
  refine lv_iload_n hx hb d_M_nearest_9 rfl (lv_at hl 2 rfl) ?_
  refine lv_icmp_lt (tgt := 19) hx hb d_M_nearest_10 (by decide) (fun c_10 => ?_) (fun c_10 => ?_)
  · refine lv_iload_n hx hb d_M_nearest_19 rfl (lv_at hl 0 rfl) ?_
    exact rt_i hx hb hr hlk d_M_nearest_20 (nr_1 ha hb2 hA hB1 hB2 e_3 c_10)
  · refine lv_iload_n hx hb d_M_nearest_13 rfl (lv_at hl 0 rfl) ?_
    refine lv_iconst (v := 1) hx hb d_M_nearest_14 (by decide) ?_
    refine lv_iadd hx hb d_M_nearest_15 ?_
    refine lv_goto (tgt := 20) hx hb d_M_nearest_16 (by decide) ?_
    exact rt_i hx hb hr hlk d_M_nearest_20 (nr_2 ha hb2 hA hB1 hB2 e_3 c_10)
set_option maxHeartbeats 4000000 in
set_option maxRecDepth 100000 in
theorem c_M_scaled (l : Launch) (h : Int32) : Met l y_M_scaled w_M_scaled ({ frames := 0, cells := 0, slots := 0, locals := 0 } : Room) (va_Pc [.int h] (fun _ => True)) (vp_Sl (fun r => r = lN (sq (uI h / 1024 % 32) (uI h % 1024)))) 0 0 (fun _ => False) := by
  refine pm [.int h] (by decide +kernel) (Nat.le_of_ble_eq_true rfl) (fun p e s m below meth c ls hx hb hr hml hown hg hlk hnm hB hl => ?_)
  have hl : lv_has ls 4 [(0, .int h)] := hl
  refine lv_iload_n hx hb d_M_scaled_0 rfl (lv_at hl 0 rfl) ?_
  refine lv_bipush (v := 10) hx hb d_M_scaled_1 (by decide) ?_
  refine lv_ishr hx hb d_M_scaled_3 ?_
  refine lv_bipush (v := 31) hx hb d_M_scaled_4 (by decide) ?_
  refine lv_iand hx hb d_M_scaled_6 ?_
  refine lv_topi (fun v_7 e_7 => ?_)
  refine lv_istore_n (lv' := [(1, .int v_7), (0, .int h)]) hx hb d_M_scaled_7 rfl hl (by decide) rfl (fun ls hl => ?_)
  refine lv_iload_n hx hb d_M_scaled_8 rfl (lv_at hl 1 rfl) ?_
  refine lv_sipush (v := 1023) hx hb d_M_scaled_9 (by decide) ?_
  refine lv_iand hx hb d_M_scaled_12 ?_
  refine lv_i2l hx hb d_M_scaled_13 rfl ?_
  refine lv_topl (fun v_14 e_14 => ?_)
  refine lv_lstore_n (lv' := [(2, .long v_14), (1, .int v_7), (0, .int h)]) hx hb d_M_scaled_14 rfl hl (by decide) rfl (fun ls hl => ?_)
  refine lv_iload_n hx hb d_M_scaled_15 rfl (lv_at hl 1 rfl) ?_
  refine lv_if_ne (tgt := 23) hx hb d_M_scaled_16 (by decide) (fun c_16 => ?_) (fun c_16 => ?_)
  · refine lv_ldc2 (v := 1024) hx hb hown (hg _ k_367) d_M_scaled_23 ?_
    refine lv_lload_n hx hb d_M_scaled_26 rfl (lv_at hl 0 rfl) ?_
    refine lv_ladd hx hb d_M_scaled_27 ?_
    refine lv_iload_n hx hb d_M_scaled_28 rfl (lv_at hl 1 rfl) ?_
    refine lv_iconst (v := 1) hx hb d_M_scaled_29 (by decide) ?_
    refine lv_isub hx hb d_M_scaled_30 ?_
    refine lv_lshl hx hb d_M_scaled_31 rfl ?_
    exact rt_l hx hb hr hlk d_M_scaled_32 (sd_1 e_7 e_14 c_16)
  · refine lv_lload_n hx hb d_M_scaled_19 rfl (lv_at hl 0 rfl) ?_
    refine lv_goto (tgt := 32) hx hb d_M_scaled_20 (by decide) ?_
    exact rt_l hx hb hr hlk d_M_scaled_32 (sd_0 e_7 e_14 c_16)
end
section
def F_X : u_T := fun _ => ("FixedNumbers", "division", "LFixedNumbers$Division;", true)
def t_X : Nat → FieldType := fun _ => .object "FixedNumbers$Division"
def F_D : u_T := fun k => match k with
  | 0 => ("FixedNumbers$Division", "quotient", "J", false)
  | _ => ("FixedNumbers$Division", "left", "J", false)
def t_D : Nat → FieldType := fun _ => .long
def F_M : u_T := fun k => match k with
  | 0 => ("FixedNumbersModel", "thrown", "I", false)
  | 1 => ("FixedNumbersModel", "upper", "J", false)
  | 2 => ("FixedNumbersModel", "lower", "J", false)
  | _ => ("FixedNumbersModel", "left", "J", false)
def t_M : Nat → FieldType := fun k => match k with
  | 0 => .int
  | _ => .long
abbrev classes : List vw_C := [("FixedNumbers", F_X, 1), ("FixedNumbers$Division", F_D, 2), ("FixedNumbersModel", F_M, 4)]
theorem n_X : ∀ a, a < 1 → ∀ b, b < 1 → a ≠ b → (F_X a).2.1 ≠ (F_X b).2.1 := by decide +kernel
theorem t_X_ok : ∀ k, k < 1 → parseFieldDescriptor (F_X k).2.2.1 = some (t_X k) := by decide +kernel
theorem i_X : ∀ w ∈ u_ws "FixedNumbers" F_X 1, w ∈ lw_gd := by decide +kernel
theorem n_D : ∀ a, a < 2 → ∀ b, b < 2 → a ≠ b → (F_D a).2.1 ≠ (F_D b).2.1 := by decide +kernel
theorem t_D_ok : ∀ k, k < 2 → parseFieldDescriptor (F_D k).2.2.1 = some (t_D k) := by decide +kernel
theorem i_D : ∀ w ∈ u_ws "FixedNumbers$Division" F_D 2, w ∈ lw_gd := by decide +kernel
theorem n_M : ∀ a, a < 4 → ∀ b, b < 4 → a ≠ b → (F_M a).2.1 ≠ (F_M b).2.1 := by decide +kernel
theorem t_M_ok : ∀ k, k < 4 → parseFieldDescriptor (F_M k).2.2.1 = some (t_M k) := by decide +kernel
theorem i_M : ∀ w ∈ u_ws "FixedNumbersModel" F_M 4, w ∈ lw_gd := by decide +kernel
abbrev Mw (h0 : Nat) (t : Int32) (u lo lf : Int64) : va_W := [(h0, .inr (2, [.int t, .long u, .long lo, .long lf]))]
abbrev Mf : Type := Int32 × Int64 × Int64 × Int64
def M_B (D : va_G) (h0 : Nat) (t : Int32) (u lo lf : Int64) (sz : Nat) (U : State) : Prop := U.heap.size = sz ∧ va_P D classes (Mw h0 t u lo lf) U.heap ∧ va_K D classes [] U ∧ va_D (fun _ => True) (Mw h0 t u lo lf)
def M_at (D : va_G) (h0 : Nat) (A : Nat → Prop) (f : Mf) (t : State) : Prop := va_P D classes (Mw h0 f.1 f.2.1 f.2.2.1 f.2.2.2) t.heap ∧ va_K D classes [] t ∧ va_D A (Mw h0 f.1 f.2.1 f.2.2.1 f.2.2.2)
theorem pmM {l : Launch} {y : MethodName} {cc : ByteArray} {maxL : Nat} {ret : Option FieldType} {rm : Room} (Qc : (Nat → Prop) → Array Value → State → Outcome → State → Prop) (D : va_G) (h0 : Nat) (t : Int32) (u lo lf : Int64) (sz : Nat) (As : List Value) (hy : plainFor y = true) (hn : (lg_sl (.ref h0 :: As)).length ≤ maxL)
    (body : ∀ (p : Program) (e : Env) (s : State) (m : MethodId) (below : List Frame) (meth : Method) (c : Code) (ls : Array Slot) (A : Nat → Prop), p.tables.exec = Jvm.exec → c.code = cc → meth.sig.returnType = ret → c.maxLocals = maxL → s.vm.findClass y.cls = some m.cls → (∀ w ∈ lw_gd, w.before (Value.ref h0 :: As).toArray s = true) → meth.locks = false → meth.name = y.name →
      va_K D classes [] s → va_P D classes (Mw h0 t u lo lf) s.heap → va_D A (Mw h0 t u lo lf) → va_S A s.heap s.heap [] → (∀ q, s.heap.size ≤ q → A q) → lv_has ls maxL (lv_args 0 (.ref h0 :: As)) →
      W p l e rm s m (Value.ref h0 :: As).toArray below meth c s.heap [] 0 0 (MQ below (Qc A) (Value.ref h0 :: As).toArray s 0 0 A) (F0 m 0 ls [])) : Met l y (Cond.code y cc maxL ret :: lw_gd) rm (va_Pc (.ref h0 :: As) (M_B D h0 t u lo lf sz)) (Qc (va_A (Mw h0 t u lo lf) sz)) 0 0 (va_A (Mw h0 t u lo lf) sz) := by
  refine pm (.ref h0 :: As) hy hn (fun p e s m below meth c ls hx hb hr hml hown hg hlk hnm hB hl => ?_)
  obtain ⟨hsz, hP, hK, hD0⟩ := hB
  subst hsz
  exact body p e s m below meth c ls _ hx hb hr hml hown hg hlk hnm hK hP hD0.self va_S.rf (fun q h => Or.inr h) hl
section MR
variable {p : Program} {l : Launch} {e : Env} {R : Room} {s : State} {m : MethodId} {args : Array Value} {below : List Frame} {meth : Method} {c : Code} {H : Heap} {locs : List Loc} {cells slots : Nat} {Q : State → Prop}
variable {cc : ByteArray} {pc : Nat} {ls : Array Slot} {rest st0 : List Value} {D : va_G} {A : Nat → Prop} {h0 : Nat} {t : Int32} {u lo lf : Int64}
theorem mg_t (hx : p.tables.exec = Jvm.exec) (hb : c.code = cc) (hown : s.vm.findClass "FixedNumbersModel" = some m.cls) (hg : ∀ w ∈ lw_gd, w.before args s = true) (hK : va_K D classes [] s) (hP : va_P D classes (Mw h0 t u lo lf) H) (hd : decode cc pc = .ok (.getfield 7, 3)) (kk : W p l e R s m args below meth c H locs cells slots Q (F0 m (pc + 3) ls (.int t :: rest))) : W p l e R s m args below meth c H locs cells slots Q (F0 m pc ls (.ref h0 :: rest)) :=
  va_get (D := D) (ci := 2) (C := "FixedNumbersModel") (T := F_M) (N := 4) hx hb hg i_M hown hK hP 0 rfl rfl 0 (by decide) (hg _ k_276) (fun _ h => h) rfl hd kk
theorem mp_t {v : Int32} (hx : p.tables.exec = Jvm.exec) (hb : c.code = cc) (hown : s.vm.findClass "FixedNumbersModel" = some m.cls) (hg : ∀ w ∈ lw_gd, w.before args s = true) (hK : va_K D classes [] s) (hP : va_P D classes (Mw h0 t u lo lf) H) (hD : va_D A (Mw h0 t u lo lf)) (hS : va_S A s.heap H locs) (hd : decode cc pc = .ok (.putfield 7, 3))
    (kk : ∀ (H : Heap) (locs : List Loc), va_P D classes (Mw h0 v u lo lf) H → va_D A (Mw h0 v u lo lf) → va_S A s.heap H locs → W p l e R s m args below meth c H locs cells slots Q (F0 m (pc + 3) ls rest)) : W p l e R s m args below meth c H locs cells slots Q (F0 m pc ls (.int v :: .ref h0 :: rest)) :=
  va_put (D := D) (ci := 2) (v := .int v) (ty := .int) (C := "FixedNumbersModel") (T := F_M) (N := 4) hx hb hg i_M t_M t_M_ok n_M hown hK hP hD hS 0 rfl rfl 0 (by decide) (hg _ k_276) (fun _ h => h) rfl (by decide +kernel) rfl rfl (Nat.le_of_ble_eq_true rfl) hd kk
theorem mg_u (hx : p.tables.exec = Jvm.exec) (hb : c.code = cc) (hown : s.vm.findClass "FixedNumbersModel" = some m.cls) (hg : ∀ w ∈ lw_gd, w.before args s = true) (hK : va_K D classes [] s) (hP : va_P D classes (Mw h0 t u lo lf) H) (hd : decode cc pc = .ok (.getfield 16, 3)) (kk : W p l e R s m args below meth c H locs cells slots Q (F0 m (pc + 3) ls (.long u :: rest))) : W p l e R s m args below meth c H locs cells slots Q (F0 m pc ls (.ref h0 :: rest)) :=
  va_get (D := D) (ci := 2) (C := "FixedNumbersModel") (T := F_M) (N := 4) hx hb hg i_M hown hK hP 0 rfl rfl 1 (by decide) (hg _ k_277) (fun _ h => h) rfl hd kk
theorem mp_u {v : Int64} (hx : p.tables.exec = Jvm.exec) (hb : c.code = cc) (hown : s.vm.findClass "FixedNumbersModel" = some m.cls) (hg : ∀ w ∈ lw_gd, w.before args s = true) (hK : va_K D classes [] s) (hP : va_P D classes (Mw h0 t u lo lf) H) (hD : va_D A (Mw h0 t u lo lf)) (hS : va_S A s.heap H locs) (hd : decode cc pc = .ok (.putfield 16, 3))
    (kk : ∀ (H : Heap) (locs : List Loc), va_P D classes (Mw h0 t v lo lf) H → va_D A (Mw h0 t v lo lf) → va_S A s.heap H locs → W p l e R s m args below meth c H locs cells slots Q (F0 m (pc + 3) ls rest)) : W p l e R s m args below meth c H locs cells slots Q (F0 m pc ls (.long v :: .ref h0 :: rest)) :=
  va_put (D := D) (ci := 2) (v := .long v) (ty := .long) (C := "FixedNumbersModel") (T := F_M) (N := 4) hx hb hg i_M t_M t_M_ok n_M hown hK hP hD hS 0 rfl rfl 1 (by decide) (hg _ k_277) (fun _ h => h) rfl (by decide +kernel) rfl rfl (Nat.le_of_ble_eq_true rfl) hd kk
theorem mg_lo (hx : p.tables.exec = Jvm.exec) (hb : c.code = cc) (hown : s.vm.findClass "FixedNumbersModel" = some m.cls) (hg : ∀ w ∈ lw_gd, w.before args s = true) (hK : va_K D classes [] s) (hP : va_P D classes (Mw h0 t u lo lf) H) (hd : decode cc pc = .ok (.getfield 20, 3)) (kk : W p l e R s m args below meth c H locs cells slots Q (F0 m (pc + 3) ls (.long lo :: rest))) : W p l e R s m args below meth c H locs cells slots Q (F0 m pc ls (.ref h0 :: rest)) :=
  va_get (D := D) (ci := 2) (C := "FixedNumbersModel") (T := F_M) (N := 4) hx hb hg i_M hown hK hP 0 rfl rfl 2 (by decide) (hg _ k_278) (fun _ h => h) rfl hd kk
theorem mp_lo {v : Int64} (hx : p.tables.exec = Jvm.exec) (hb : c.code = cc) (hown : s.vm.findClass "FixedNumbersModel" = some m.cls) (hg : ∀ w ∈ lw_gd, w.before args s = true) (hK : va_K D classes [] s) (hP : va_P D classes (Mw h0 t u lo lf) H) (hD : va_D A (Mw h0 t u lo lf)) (hS : va_S A s.heap H locs) (hd : decode cc pc = .ok (.putfield 20, 3))
    (kk : ∀ (H : Heap) (locs : List Loc), va_P D classes (Mw h0 t u v lf) H → va_D A (Mw h0 t u v lf) → va_S A s.heap H locs → W p l e R s m args below meth c H locs cells slots Q (F0 m (pc + 3) ls rest)) : W p l e R s m args below meth c H locs cells slots Q (F0 m pc ls (.long v :: .ref h0 :: rest)) :=
  va_put (D := D) (ci := 2) (v := .long v) (ty := .long) (C := "FixedNumbersModel") (T := F_M) (N := 4) hx hb hg i_M t_M t_M_ok n_M hown hK hP hD hS 0 rfl rfl 2 (by decide) (hg _ k_278) (fun _ h => h) rfl (by decide +kernel) rfl rfl (Nat.le_of_ble_eq_true rfl) hd kk
theorem mg_lf (hx : p.tables.exec = Jvm.exec) (hb : c.code = cc) (hown : s.vm.findClass "FixedNumbersModel" = some m.cls) (hg : ∀ w ∈ lw_gd, w.before args s = true) (hK : va_K D classes [] s) (hP : va_P D classes (Mw h0 t u lo lf) H) (hd : decode cc pc = .ok (.getfield 27, 3)) (kk : W p l e R s m args below meth c H locs cells slots Q (F0 m (pc + 3) ls (.long lf :: rest))) : W p l e R s m args below meth c H locs cells slots Q (F0 m pc ls (.ref h0 :: rest)) :=
  va_get (D := D) (ci := 2) (C := "FixedNumbersModel") (T := F_M) (N := 4) hx hb hg i_M hown hK hP 0 rfl rfl 3 (by decide) (hg _ k_279) (fun _ h => h) rfl hd kk
theorem mp_lf {v : Int64} (hx : p.tables.exec = Jvm.exec) (hb : c.code = cc) (hown : s.vm.findClass "FixedNumbersModel" = some m.cls) (hg : ∀ w ∈ lw_gd, w.before args s = true) (hK : va_K D classes [] s) (hP : va_P D classes (Mw h0 t u lo lf) H) (hD : va_D A (Mw h0 t u lo lf)) (hS : va_S A s.heap H locs) (hd : decode cc pc = .ok (.putfield 27, 3))
    (kk : ∀ (H : Heap) (locs : List Loc), va_P D classes (Mw h0 t u lo v) H → va_D A (Mw h0 t u lo v) → va_S A s.heap H locs → W p l e R s m args below meth c H locs cells slots Q (F0 m (pc + 3) ls rest)) : W p l e R s m args below meth c H locs cells slots Q (F0 m pc ls (.long v :: .ref h0 :: rest)) :=
  va_put (D := D) (ci := 2) (v := .long v) (ty := .long) (C := "FixedNumbersModel") (T := F_M) (N := 4) hx hb hg i_M t_M t_M_ok n_M hown hK hP hD hS 0 rfl rfl 3 (by decide) (hg _ k_279) (fun _ h => h) rfl (by decide +kernel) rfl rfl (Nat.le_of_ble_eq_true rfl) hd kk
theorem rtM_i {post : Int32 → Mf → Prop} {v : Int32} (hx : p.tables.exec = Jvm.exec) (hb : c.code = cc) (hr : meth.sig.returnType = some .int) (hlk : meth.locks = false) (hK : va_K D classes [] s) (hP : va_P D classes (Mw h0 t u lo lf) H) (hD : va_D A (Mw h0 t u lo lf)) (hS : va_S A s.heap H locs) (hd : decode cc pc = .ok (.ireturn, 1)) (hp : post v (t, u, lo, lf)) : W p l e R s m args below meth c H locs cells slots (MQ below (va_Qi post (M_at D h0 A) A) args s cells slots A) (F0 m pc ls [.int v]) :=
  W.iret (free := A) (Qc := va_Qi post (M_at D h0 A) A) hx hb hr (fun x ht hW => ⟨⟨v, (t, u, lo, lf), rfl, hp, by rw [ht]; exact hP, va_K.moved hW.alike hK, hD⟩, hS.F ht⟩) hS.2.2 hd hlk
theorem rtM_l {post : Int64 → Mf → Prop} {v : Int64} (hx : p.tables.exec = Jvm.exec) (hb : c.code = cc) (hr : meth.sig.returnType = some .long) (hlk : meth.locks = false) (hK : va_K D classes [] s) (hP : va_P D classes (Mw h0 t u lo lf) H) (hD : va_D A (Mw h0 t u lo lf)) (hS : va_S A s.heap H locs) (hd : decode cc pc = .ok (.lreturn, 1)) (hp : post v (t, u, lo, lf)) : W p l e R s m args below meth c H locs cells slots (MQ below (va_Ql post (M_at D h0 A) A) args s cells slots A) (F0 m pc ls [.long v]) :=
  W.lret (free := A) (Qc := va_Ql post (M_at D h0 A) A) hx hb hr (fun x ht hW => ⟨⟨v, (t, u, lo, lf), rfl, hp, by rw [ht]; exact hP, va_K.moved hW.alike hK, hD⟩, hS.F ht⟩) hS.2.2 hd hlk
theorem rtM_v {post : Mf → Prop} (hx : p.tables.exec = Jvm.exec) (hb : c.code = cc) (hr : meth.sig.returnType = none) (hlk : meth.locks = false) (hK : va_K D classes [] s) (hP : va_P D classes (Mw h0 t u lo lf) H) (hD : va_D A (Mw h0 t u lo lf)) (hS : va_S A s.heap H locs) (hd : decode cc pc = .ok (.return_, 1)) (hp : post (t, u, lo, lf)) : W p l e R s m args below meth c H locs cells slots (MQ below (va_Qv post (M_at D h0 A) A) args s cells slots A) (F0 m pc ls []) :=
  W.vret (free := A) (Qc := va_Qv post (M_at D h0 A) A) hx hb hr (fun x ht hW => ⟨⟨(t, u, lo, lf), rfl, hp, by rw [ht]; exact hP, va_K.moved hW.alike hK, hD⟩, hS.F ht⟩) hS.2.2 hd hlk
/-- a call of another method on the same object -/
theorem cm_v {y : MethodName} {bytes : ByteArray} {maxL nL index : Nat} {ret : Option FieldType} {rm : Room} {post : Mf → Prop} (As : List Value) (n : Nat) (hn : As.length = n) (hx : p.tables.exec = Jvm.exec) (hb : c.code = cc) (hml : c.maxLocals = nL) (hown : s.vm.findClass "FixedNumbersModel" = some m.cls) (hg : ∀ w ∈ lw_gd, w.before args s = true) (hK : va_K D classes [] s) (hP : va_P D classes (Mw h0 t u lo lf) H) (hD : va_D A (Mw h0 t u lo lf)) (hS : va_S A s.heap H locs) (hA : ∀ q, s.heap.size ≤ q → A q)
    (hM : Met l y (Cond.code y bytes maxL ret :: lw_gd) rm (va_Pc (.ref h0 :: As) (M_B D h0 t u lo lf H.size)) (va_Qv post (M_at D h0 (va_A (Mw h0 t u lo lf) H.size)) (va_A (Mw h0 t u lo lf) H.size)) 0 0 (va_A (Mw h0 t u lo lf) H.size))
    (h1 : Cond.methodLink "FixedNumbersModel" index y ∈ lw_gd) (h2 : Cond.instanceMethod y ∈ lw_gd) (h3 : Cond.selects "FixedNumbersModel" y y ∈ lw_gd) (h5 : Cond.code y bytes maxL ret ∈ lw_gd) (hd : y.cls = "FixedNumbersModel" ∧ y.cls ≠ "java/lang/invoke/MethodHandle" ∧ y.cls ≠ "java/lang/invoke/VarHandle" ∧ (parseMethodDescriptor y.desc).map (fun d => d.parameters.length) = some n)
    (hsz : ls.size = nL) (hc : rm.cells = 0) (hs : rm.slots = 0) (hR : rm.frames + 1 ≤ R.frames ∧ 8 + (maxL + 11) + rm.locals ≤ R.locals) (hst : st0 = As.reverse ++ .ref h0 :: rest) (hW : (rest.map fun v => v.category).sum ≤ 8) (hf : cells ≤ R.cells ∧ slots ≤ R.slots) (hdg : decode cc pc = .ok (.invokevirtual index, 3))
    (kk : ∀ (t2 : Int32) (u2 lo2 lf2 : Int64) (H : Heap) (locs : List Loc), post (t2, u2, lo2, lf2) → va_P D classes (Mw h0 t2 u2 lo2 lf2) H → va_D A (Mw h0 t2 u2 lo2 lf2) → va_S A s.heap H locs → W p l e R s m args below meth c H locs cells slots Q (F0 m (pc + 3) ls (rest))) : W p l e R s m args below meth c H locs cells slots Q (F0 m pc ls st0) := by
  have hFc := va_free (wc := Mw h0 t u lo lf) hD hS hA [0] rfl
  refine va_callv (va_runV (As := As) (rest := rest) (C := "FixedNumbersModel") ⟨hx, hb, hml, hown, hg⟩ hM (cwV n hg (gi_V h1 h2 h3 k_3 h5) rfl hc hs hd hR) ⟨fun a U g mk q => by obtain ⟨q0, q1, qP, qK, qD⟩ := q; exact ⟨q0, q1, qP, va_K.moved (u := U) (U := U.calling g mk a) (Vm.Alike.refl U.vm) qK, qD⟩, va_recv hK hP (ci := 2) (q0 := 0) rfl rfl, fun U hU hW => ⟨rfl, by rw [hU], by rw [hU]; exact hP, va_K.moved hW.alike hK, hD.weaken (fun _ _ _ _ => trivial)⟩⟩ rfl hn hsz hst (lv_room hW) hdg hf) hS (fun q _ h => hFc q h) hFc (fun f t H1 locs ht hvm hw hB hz1 hk1 hS => ?_)
  obtain ⟨hP1, hK1, hD1⟩ := hB
  rw [ht] at hP1
  exact kk f.1 f.2.1 f.2.2.1 f.2.2.2 H1 locs hw hP1 (hD1.weaken (fun _ q _ h => hFc q.1 h)) hS
/-- a call of another method on the same object -/
theorem cm_l {y : MethodName} {bytes : ByteArray} {maxL nL index : Nat} {ret : Option FieldType} {rm : Room} {post : Int64 → Mf → Prop} (As : List Value) (n : Nat) (hn : As.length = n) (hx : p.tables.exec = Jvm.exec) (hb : c.code = cc) (hml : c.maxLocals = nL) (hown : s.vm.findClass "FixedNumbersModel" = some m.cls) (hg : ∀ w ∈ lw_gd, w.before args s = true) (hK : va_K D classes [] s) (hP : va_P D classes (Mw h0 t u lo lf) H) (hD : va_D A (Mw h0 t u lo lf)) (hS : va_S A s.heap H locs) (hA : ∀ q, s.heap.size ≤ q → A q)
    (hM : Met l y (Cond.code y bytes maxL ret :: lw_gd) rm (va_Pc (.ref h0 :: As) (M_B D h0 t u lo lf H.size)) (va_Ql post (M_at D h0 (va_A (Mw h0 t u lo lf) H.size)) (va_A (Mw h0 t u lo lf) H.size)) 0 0 (va_A (Mw h0 t u lo lf) H.size))
    (h1 : Cond.methodLink "FixedNumbersModel" index y ∈ lw_gd) (h2 : Cond.instanceMethod y ∈ lw_gd) (h3 : Cond.selects "FixedNumbersModel" y y ∈ lw_gd) (h5 : Cond.code y bytes maxL ret ∈ lw_gd) (hd : y.cls = "FixedNumbersModel" ∧ y.cls ≠ "java/lang/invoke/MethodHandle" ∧ y.cls ≠ "java/lang/invoke/VarHandle" ∧ (parseMethodDescriptor y.desc).map (fun d => d.parameters.length) = some n)
    (hsz : ls.size = nL) (hc : rm.cells = 0) (hs : rm.slots = 0) (hR : rm.frames + 1 ≤ R.frames ∧ 8 + (maxL + 11) + rm.locals ≤ R.locals) (hst : st0 = As.reverse ++ .ref h0 :: rest) (hW : (rest.map fun v => v.category).sum ≤ 8) (hf : cells ≤ R.cells ∧ slots ≤ R.slots) (hdg : decode cc pc = .ok (.invokevirtual index, 3))
    (kk : ∀ (r : Int64) (t2 : Int32) (u2 lo2 lf2 : Int64) (H : Heap) (locs : List Loc), post r (t2, u2, lo2, lf2) → va_P D classes (Mw h0 t2 u2 lo2 lf2) H → va_D A (Mw h0 t2 u2 lo2 lf2) → va_S A s.heap H locs → W p l e R s m args below meth c H locs cells slots Q (F0 m (pc + 3) ls (.long r :: rest))) : W p l e R s m args below meth c H locs cells slots Q (F0 m pc ls st0) := by
  have hFc := va_free (wc := Mw h0 t u lo lf) hD hS hA [0] rfl
  refine va_calll (va_runV (As := As) (rest := rest) (C := "FixedNumbersModel") ⟨hx, hb, hml, hown, hg⟩ hM (cwV n hg (gi_V h1 h2 h3 k_3 h5) rfl hc hs hd hR) ⟨fun a U g mk q => by obtain ⟨q0, q1, qP, qK, qD⟩ := q; exact ⟨q0, q1, qP, va_K.moved (u := U) (U := U.calling g mk a) (Vm.Alike.refl U.vm) qK, qD⟩, va_recv hK hP (ci := 2) (q0 := 0) rfl rfl, fun U hU hW => ⟨rfl, by rw [hU], by rw [hU]; exact hP, va_K.moved hW.alike hK, hD.weaken (fun _ _ _ _ => trivial)⟩⟩ rfl hn hsz hst (lv_room hW) hdg hf) hS (fun q _ h => hFc q h) hFc (fun r f t H1 locs ht hvm hw hB hz1 hk1 hS => ?_)
  obtain ⟨hP1, hK1, hD1⟩ := hB
  rw [ht] at hP1
  exact kk r f.1 f.2.1 f.2.2.1 f.2.2.2 H1 locs hw hP1 (hD1.weaken (fun _ q _ h => hFc q.1 h)) hS
theorem jw1 {α1 : Type} {cl : List vw_C} {H0 : Heap} {st : List Value} (tgt nL : Nat) (P : α1 → Prop) (L : α1 → List (Nat × Value)) (S : α1 → List Value) (ws : α1 → va_W) (k : ∀ (a1 : α1), P a1 → ∀ (H : Heap) (locs : List Loc), va_P D cl (ws a1) H → va_D A (ws a1) → va_S A H0 H locs → ∀ ls : Array Slot, lv_has ls nL (L a1) → W p l e R s m args below meth c H locs cells slots Q (F0 m tgt ls (S a1))) (b : (∀ (a1 : α1), P a1 → ∀ (H : Heap) (locs : List Loc), va_P D cl (ws a1) H → va_D A (ws a1) → va_S A H0 H locs → ∀ ls : Array Slot, lv_has ls nL (L a1) → W p l e R s m args below meth c H locs cells slots Q (F0 m tgt ls (S a1))) → W p l e R s m args below meth c H locs cells slots Q (F0 m pc ls st)) : W p l e R s m args below meth c H locs cells slots Q (F0 m pc ls st) := b k
theorem jw2 {α1 : Type} {α2 : Type} {cl : List vw_C} {H0 : Heap} {st : List Value} (tgt nL : Nat) (P : α1 → α2 → Prop) (L : α1 → α2 → List (Nat × Value)) (S : α1 → α2 → List Value) (ws : α1 → α2 → va_W) (k : ∀ (a1 : α1) (a2 : α2), P a1 a2 → ∀ (H : Heap) (locs : List Loc), va_P D cl (ws a1 a2) H → va_D A (ws a1 a2) → va_S A H0 H locs → ∀ ls : Array Slot, lv_has ls nL (L a1 a2) → W p l e R s m args below meth c H locs cells slots Q (F0 m tgt ls (S a1 a2))) (b : (∀ (a1 : α1) (a2 : α2), P a1 a2 → ∀ (H : Heap) (locs : List Loc), va_P D cl (ws a1 a2) H → va_D A (ws a1 a2) → va_S A H0 H locs → ∀ ls : Array Slot, lv_has ls nL (L a1 a2) → W p l e R s m args below meth c H locs cells slots Q (F0 m tgt ls (S a1 a2))) → W p l e R s m args below meth c H locs cells slots Q (F0 m pc ls st)) : W p l e R s m args below meth c H locs cells slots Q (F0 m pc ls st) := b k
theorem jw3 {α1 : Type} {α2 : Type} {α3 : Type} {cl : List vw_C} {H0 : Heap} {st : List Value} (tgt nL : Nat) (P : α1 → α2 → α3 → Prop) (L : α1 → α2 → α3 → List (Nat × Value)) (S : α1 → α2 → α3 → List Value) (ws : α1 → α2 → α3 → va_W) (k : ∀ (a1 : α1) (a2 : α2) (a3 : α3), P a1 a2 a3 → ∀ (H : Heap) (locs : List Loc), va_P D cl (ws a1 a2 a3) H → va_D A (ws a1 a2 a3) → va_S A H0 H locs → ∀ ls : Array Slot, lv_has ls nL (L a1 a2 a3) → W p l e R s m args below meth c H locs cells slots Q (F0 m tgt ls (S a1 a2 a3))) (b : (∀ (a1 : α1) (a2 : α2) (a3 : α3), P a1 a2 a3 → ∀ (H : Heap) (locs : List Loc), va_P D cl (ws a1 a2 a3) H → va_D A (ws a1 a2 a3) → va_S A H0 H locs → ∀ ls : Array Slot, lv_has ls nL (L a1 a2 a3) → W p l e R s m args below meth c H locs cells slots Q (F0 m tgt ls (S a1 a2 a3))) → W p l e R s m args below meth c H locs cells slots Q (F0 m pc ls st)) : W p l e R s m args below meth c H locs cells slots Q (F0 m pc ls st) := b k
theorem jw4 {α1 : Type} {α2 : Type} {α3 : Type} {α4 : Type} {cl : List vw_C} {H0 : Heap} {st : List Value} (tgt nL : Nat) (P : α1 → α2 → α3 → α4 → Prop) (L : α1 → α2 → α3 → α4 → List (Nat × Value)) (S : α1 → α2 → α3 → α4 → List Value) (ws : α1 → α2 → α3 → α4 → va_W) (k : ∀ (a1 : α1) (a2 : α2) (a3 : α3) (a4 : α4), P a1 a2 a3 a4 → ∀ (H : Heap) (locs : List Loc), va_P D cl (ws a1 a2 a3 a4) H → va_D A (ws a1 a2 a3 a4) → va_S A H0 H locs → ∀ ls : Array Slot, lv_has ls nL (L a1 a2 a3 a4) → W p l e R s m args below meth c H locs cells slots Q (F0 m tgt ls (S a1 a2 a3 a4))) (b : (∀ (a1 : α1) (a2 : α2) (a3 : α3) (a4 : α4), P a1 a2 a3 a4 → ∀ (H : Heap) (locs : List Loc), va_P D cl (ws a1 a2 a3 a4) H → va_D A (ws a1 a2 a3 a4) → va_S A H0 H locs → ∀ ls : Array Slot, lv_has ls nL (L a1 a2 a3 a4) → W p l e R s m args below meth c H locs cells slots Q (F0 m tgt ls (S a1 a2 a3 a4))) → W p l e R s m args below meth c H locs cells slots Q (F0 m pc ls st)) : W p l e R s m args below meth c H locs cells slots Q (F0 m pc ls st) := b k
end MR
end
section
/-! the reference's numbers -/
theorem pq_1 {a b ah al bh bl : Int32} (h1 : ah = a >>> ((16 : Int32) &&& 31)) (h2 : al = a &&& 65535) (h3 : bh = b >>> ((16 : Int32) &&& 31)) (h4 : bl = b &&& 65535) :
    (ah * bh) <<< ((16 : Int32) &&& 31) + ah * bl + al * bh + (Int32.toUInt32 (al * bl) >>> ((Int32.toUInt32 16) &&& Int32.toUInt32 31)).toInt32 = Int32.ofInt (a.toInt * b.toInt / 65536) := by
  have a1 : ah.toInt = a.toInt / 65536 := by rw [h1, pk_shr _ _ 16 (by decide), Int.shiftRight_eq_div_pow]; rfl
  have a3 : bh.toInt = b.toInt / 65536 := by rw [h3, pk_shr _ _ 16 (by decide), Int.shiftRight_eq_div_pow]; rfl
  have ea := uI_int a
  have eb := uI_int b
  have la := uI_lt a
  have lb2 := uI_lt b
  have a2 : al = nI (uI a % 65536) := by rw [h2, i_and _ 16 (by decide)]
  have a4 : bl = nI (uI b % 65536) := by rw [h4, i_and _ 16 (by decide)]
  have u2 : ((uI a % 65536 : Nat) : Int) = a.toInt % 65536 := by split at ea <;> omega
  have u4 : ((uI b % 65536 : Nat) : Int) = b.toInt % 65536 := by split at eb <;> omega
  have t2 : al.toInt = a.toInt % 65536 := by rw [a2, nI_toInt (by omega), u2]
  have t4 : bl.toInt = b.toInt % 65536 := by rw [a4, nI_toInt (by omega), u4]
  have sh : ∀ x : Int32, x <<< ((16 : Int32) &&& 31) = x * 65536 := by
    intro x
    rw [nI_uI (x <<< ((16 : Int32) &&& 31)), nI_uI (x * 65536)]
    congr 1
    show (x <<< ((16 : Int32) &&& 31)).toBitVec.toNat = (x.toUInt32 * Int32.toUInt32 65536).toNat
    rw [pk_shl _ _ 16 (by decide), UInt32.toNat_mul]
    rfl
  have ml : (uI a % 65536) * (uI b % 65536) ≤ 65535 * 65535 := Nat.mul_le_mul (by omega) (by omega)
  have mI : (((uI a % 65536) * (uI b % 65536) : Nat) : Int) = al.toInt * bl.toInt := by rw [Int.natCast_mul, u2, u4, t2, t4]
  have us : (Int32.toUInt32 (al * bl) >>> ((Int32.toUInt32 16) &&& Int32.toUInt32 31)).toInt32 = Int32.ofInt (al.toInt * bl.toInt / 65536) := by
    have e : al * bl = nI ((uI a % 65536) * (uI b % 65536)) := by rw [a2, a4, pk_mul]
    rw [e, pk_ushrN (by omega) 16 16 (by decide), ← mI]
    show Int32.ofNat _ = _
    rw [← Int32.ofInt_eq_ofNat]
    rw [Int.natCast_ediv]
    rfl
  have o : ∀ x : Int32, x = Int32.ofInt x.toInt := fun x => (Int32.ofInt_toInt x).symm
  rw [us, sh]
  have k : ah * bh * 65536 + ah * bl + al * bh + Int32.ofInt (al.toInt * bl.toInt / 65536) = Int32.ofInt (ah.toInt * bh.toInt * 65536 + ah.toInt * bl.toInt + al.toInt * bh.toInt + al.toInt * bl.toInt / 65536) := by
    rw [Int32.ofInt_add, Int32.ofInt_add, Int32.ofInt_add, Int32.ofInt_mul, Int32.ofInt_mul, Int32.ofInt_mul, Int32.ofInt_mul, ← o, ← o, ← o, ← o]
    rfl
  rw [k]
  have eA : a.toInt = ah.toInt * 65536 + al.toInt := by omega
  have eB : b.toInt = bh.toInt * 65536 + bl.toInt := by omega
  have big : a.toInt * b.toInt = ah.toInt * bh.toInt * 4294967296 + (ah.toInt * bl.toInt + al.toInt * bh.toInt) * 65536 + al.toInt * bl.toInt := by
    rw [eA, eB]
    generalize ah.toInt = x
    generalize al.toInt = y
    generalize bh.toInt = z
    generalize bl.toInt = w
    rw [Int.add_mul, Int.mul_add, Int.mul_add]
    have r1 : x * 65536 * (z * 65536) = x * z * 4294967296 := by
      rw [Int.mul_assoc, Int.mul_comm 65536, Int.mul_assoc z, ← Int.mul_assoc x]; rfl
    have r2 : x * 65536 * w = x * w * 65536 := by rw [Int.mul_assoc, Int.mul_comm 65536 w, ← Int.mul_assoc]
    have r3 : y * (z * 65536) = y * z * 65536 := by rw [← Int.mul_assoc]
    rw [r1, r2, r3]
    omega
  rw [big]
  congr 1
  omega
/-- one bit more of a quotient -/
theorem dv_lt {P D b : Nat} (h : 2 * (P % D) + b < D) : (2 * P + b) / D = 2 * (P / D) ∧ (2 * P + b) % D = 2 * (P % D) + b := by
  have e := Nat.div_add_mod P D
  have k : 2 * P + b = (2 * (P % D) + b) + D * (2 * (P / D)) := by
    have : D * (2 * (P / D)) = 2 * (D * (P / D)) := by rw [Nat.mul_left_comm]
    omega
  have hD : 0 < D := by omega
  rw [k, Nat.add_mul_div_left _ _ hD, Nat.add_mul_mod_self_left, Nat.div_eq_of_lt h, Nat.mod_eq_of_lt h]
  omega
theorem dv_ge {P D b : Nat} (hD : 0 < D) (hb : b < 2) (h : D ≤ 2 * (P % D) + b) : (2 * P + b) / D = 2 * (P / D) + 1 ∧ (2 * P + b) % D = 2 * (P % D) + b - D := by
  have e := Nat.div_add_mod P D
  have m := Nat.mod_lt P hD
  have k : 2 * P + b = (2 * (P % D) + b - D) + D * (2 * (P / D) + 1) := by
    have : D * (2 * (P / D)) = 2 * (D * (P / D)) := by rw [Nat.mul_left_comm]
    rw [Nat.mul_add, Nat.mul_one]
    omega
  have hl : 2 * (P % D) + b - D < D := by omega
  rw [k, Nat.add_mul_div_left _ _ hD, Nat.add_mul_mod_self_left, Nat.div_eq_of_lt hl, Nat.mod_eq_of_lt hl]
  omega
theorem hv {V j : Nat} (h : 1 ≤ j) : V / 2 ^ (j - 1) = 2 * (V / 2 ^ j) + V / 2 ^ (j - 1) % 2 := by
  have e : V / 2 ^ j = V / 2 ^ (j - 1) / 2 := by
    rw [Nat.div_div_eq_div_mul, ← Nat.pow_succ]
    congr 2; omega
  omega
theorem shl1 {x : Int64} : uN (x <<< ((Int32.toInt64 1) &&& 63)) = 2 * uN x % 18446744073709551616 := by rw [sl_u x 1 (by decide)]; omega
theorem or1 {x y : Int64} (h : uN y < 2) : uN (x <<< ((Int32.toInt64 1) &&& 63) ||| y) = 2 * uN x % 18446744073709551616 + uN y := uN_or h
theorem or_1 {x : Int64} : uN (x <<< ((Int32.toInt64 1) &&& 63) ||| 1) = 2 * uN x % 18446744073709551616 + 1 := or1 (by decide)
theorem kj {k : Int32} {j : Nat} (h : k.toInt = (j : Int) - 1) (c : ¬ k < 0) (hj : j ≤ 128) : 1 ≤ j ∧ k = nI (j - 1) ∧ (k + (-1)).toInt = ((j - 1 : Nat) : Int) - 1 := by
  have z : (0 : Int32).toInt = 0 := rfl
  have z1 : (-1 : Int32).toInt = -1 := rfl
  rw [i_lt, z] at c
  have e : k = nI (j - 1) := Int32.toInt_inj.mp (by rw [nI_toInt (by omega)]; omega)
  refine ⟨by omega, e, ?_⟩
  rw [i_add (by rw [z1]; omega) (by rw [z1]; omega), z1]
  omega
theorem k0 {k : Int32} {j : Nat} (h : k.toInt = (j : Int) - 1) (c : k < 0) : j = 0 := by
  have z : (0 : Int32).toInt = 0 := rfl
  rw [i_lt, z] at c
  omega
/-! quotient -/
def QI (N D : Nat) (q r : Int64) (k : Int32) : Prop := ∃ j : Nat, j ≤ 48 ∧ k.toInt = (j : Int) - 1 ∧ uN q = N * 65536 / 2 ^ j / D ∧ uN r = N * 65536 / 2 ^ j % D
theorem qi_0 {N D : Nat} (hN : N ≤ 2147483648) : QI N D 0 0 47 := by
  have e : N * 65536 / 2 ^ 48 = 0 := Nat.div_eq_of_lt (by omega)
  refine ⟨48, by omega, rfl, ?_, ?_⟩
  · rw [e, Nat.zero_div]; rfl
  · rw [e, Nat.zero_mod]; rfl
theorem qi_b1 {N j : Nat} {n bt : Int64} {k : Int32} (hn : uN n = N) (hN : N ≤ 2147483648) (hk : k = nI (j - 1)) (hj : j ≤ 48) (c : ¬ k ≤ 15) (e : bt = n >>> ((Int32.toInt64 (k - 16)) &&& 63) &&& 1) : uN bt = N * 65536 / 2 ^ (j - 1) % 2 := by
  rw [hk, show (15 : Int32) = nI 15 from rfl, nI_leI (by omega) (by omega)] at c
  have e16 : (2 : Nat) ^ 16 = 65536 := by decide
  have p : 2 ^ (j - 1) = 65536 * 2 ^ (j - 1 - 16) := by
    obtain ⟨t, ht⟩ : ∃ t, j - 1 = 16 + t := ⟨j - 1 - 16, by omega⟩
    rw [ht, Nat.add_sub_cancel_left, Nat.pow_add, e16]
  have q : N * 65536 / 2 ^ (j - 1) = N / 2 ^ (j - 1 - 16) := by rw [p, ← Nat.div_div_eq_div_mul, Nat.mul_div_cancel _ (by decide)]
  have i := uN_int n
  rw [if_pos (by omega)] at i
  have d : N / 2 ^ (j - 1 - 16) ≤ N := Nat.div_le_self _ _
  have s : uN (n >>> ((Int32.toInt64 (k - 16)) &&& 63)) = N / 2 ^ (j - 1 - 16) := by
    have t : (n >>> ((Int32.toInt64 (k - 16)) &&& 63)).toInt = ((N / 2 ^ (j - 1 - 16) : Nat) : Int) := by
      rw [hk, show (16 : Int32) = nI 16 from rfl, pk_sub (by omega), sr_i n _ (sk_l _ (by omega)), i, hn, Int.natCast_ediv, Int.natCast_pow]; rfl
    have nn : 0 ≤ (n >>> ((Int32.toInt64 (k - 16)) &&& 63)).toInt := by rw [t]; exact Int.natCast_nonneg _
    have u := uN_pos nn
    rw [t] at u
    exact_mod_cast u
  rw [e, uN_land, s, q]
  exact Nat.and_one_is_mod _
theorem qi_b0 {N j : Nat} {k : Int32} (hk : k = nI (j - 1)) (hj : j ≤ 48) (c : k ≤ 15) : uN 0 = N * 65536 / 2 ^ (j - 1) % 2 := by
  rw [hk, show (15 : Int32) = nI 15 from rfl, nI_leI (by omega) (by omega)] at c
  have p : 65536 = 2 ^ (j - 1) * (2 * 2 ^ (15 - (j - 1))) := by
    rw [← Nat.pow_succ', ← Nat.pow_add, show j - 1 + (15 - (j - 1) + 1) = 16 by omega]
  have q : N * 65536 / 2 ^ (j - 1) = N * (2 * 2 ^ (15 - (j - 1))) := by
    rw [show N * 65536 = N * (2 * 2 ^ (15 - (j - 1))) * 2 ^ (j - 1) by rw [Nat.mul_assoc, Nat.mul_comm (2 * 2 ^ (15 - (j - 1))), ← p], Nat.mul_div_cancel _ (Nat.two_pow_pos _)]
  rw [q, Nat.mul_left_comm]
  show 0 = _
  omega
theorem qi_s {N D : Nat} {q r d bt r2 q2 : Int64} {k2 : Int32} (hN : N ≤ 2147483648) (hd : uN d = D) (hD : 0 < D) (hD2 : D ≤ 2147483648) {j : Nat} (hj : j ≤ 48) (hj1 : 1 ≤ j) (hq : uN q = N * 65536 / 2 ^ j / D) (hr : uN r = N * 65536 / 2 ^ j % D)
    (hb : uN bt = N * 65536 / 2 ^ (j - 1) % 2) (e1 : r2 = r <<< ((Int32.toInt64 1) &&& 63) ||| bt) (e2 : q2 = q <<< ((Int32.toInt64 1) &&& 63)) (hk2 : k2.toInt = ((j - 1 : Nat) : Int) - 1) :
    (r2 < d → QI N D q2 r2 k2) ∧ (¬ r2 < d → QI N D (q2 ||| 1) (r2 - d) k2) := by
  have h2 := hv (V := N * 65536) hj1
  have lb1 : N * 65536 / 2 ^ (j - 1) % 2 < 2 := Nat.mod_lt _ (by decide)
  have ml := Nat.mod_lt (N * 65536 / 2 ^ j) hD
  have qle : N * 65536 / 2 ^ j / D ≤ N * 65536 := Nat.le_trans (Nat.div_le_self _ _) (Nat.div_le_self _ _)
  have u1 : uN r2 = 2 * (N * 65536 / 2 ^ j % D) + uN bt := by rw [e1, or1 (by omega), hr]; omega
  have u2 : uN q2 = 2 * (N * 65536 / 2 ^ j / D) := by rw [e2, shl1, hq]; omega
  have u3 : uN (q2 ||| 1) = 2 * (N * 65536 / 2 ^ j / D) + 1 := by rw [e2, or_1, hq]; omega
  have i1 := uN_int r2
  have i2 := uN_int d
  rw [if_pos (by omega)] at i1 i2
  have cc : r2 < d ↔ uN r2 < D := by rw [l_lt, i1, i2]; omega
  refine ⟨fun c => ?_, fun c => ?_⟩
  · rw [cc, u1, hb] at c
    obtain ⟨v1, v2⟩ := dv_lt c
    rw [← h2] at v1 v2
    exact ⟨j - 1, by omega, hk2, by rw [u2, v1], by rw [u1, v2, hb]⟩
  · rw [cc, u1, hb] at c
    obtain ⟨v1, v2⟩ := dv_ge hD lb1 (Nat.not_lt.mp c)
    rw [← h2] at v1 v2
    refine ⟨j - 1, by omega, hk2, by rw [u3, v1], ?_⟩
    rw [v2, uN_sub, u1, hb, hd]
    omega
theorem cl_hi {q : Int64} (c : ¬ q ≤ 2147483647) : 2147483647 = cl q.toInt := by
  have z : (2147483647 : Int64).toInt = 2147483647 := rfl
  rw [l_le, z] at c
  unfold cl
  rw [if_neg (by omega), if_pos (by omega)]
theorem cl_lo {q : Int64} (c : ¬ (-2147483648 : Int64) ≤ q) : -2147483648 = cl q.toInt := by
  have z : (-2147483648 : Int64).toInt = -2147483648 := rfl
  rw [l_le, z] at c
  unfold cl
  rw [if_pos (by omega)]
theorem cl_in {q : Int64} (c1 : q ≤ 2147483647) (c2 : (-2147483648 : Int64) ≤ q) : q.toInt32 = cl q.toInt := by
  have z : (-2147483648 : Int64).toInt = -2147483648 := rfl
  have z1 : (2147483647 : Int64).toInt = 2147483647 := rfl
  rw [l_le, z1] at c1
  rw [l_le, z] at c2
  unfold cl
  rw [if_neg (by omega), if_neg (by omega), l2i_of]
theorem qs_sz {a : Int32} {n : Int64} (h : uN n = (Int32.toInt64 a).toInt.natAbs) : uN n = a.toInt.natAbs ∧ a.toInt.natAbs ≤ 2147483648 := by
  have b := ib a
  rw [l_i2l] at h
  exact ⟨h, by omega⟩
/-- the sign's part of a quotient -/
theorem qs_fd {a b : Int32} {q r : Int64} (hb : ¬ b = 0) (hq : uN q = a.toInt.natAbs * 65536 / b.toInt.natAbs) (hr : uN r = a.toInt.natAbs * 65536 % b.toInt.natAbs) :
    (((0 ≤ a ↔ 0 ≤ b) ∨ a = 0) → FD (a.toInt * 65536) b.toInt q.toInt) ∧ (¬ (0 ≤ a ↔ 0 ≤ b) → ¬ a = 0 → (r ≤ 0 → FD (a.toInt * 65536) b.toInt (-q).toInt) ∧ (¬ r ≤ 0 → FD (a.toInt * 65536) b.toInt (-q - 1).toInt)) := by
  have z : (0 : Int32).toInt = 0 := rfl
  have z6 : (0 : Int64).toInt = 0 := rfl
  have z7 : (1 : Int64).toInt = 1 := rfl
  have b1 := ib a
  have b2 := ib b
  rw [i_eq, z] at hb
  rw [i_le, i_le, i_eq, z]
  have d0 : 0 < b.toInt.natAbs := by omega
  have m := Nat.mod_lt (a.toInt.natAbs * 65536) d0
  have e := Nat.div_add_mod' (a.toInt.natAbs * 65536) b.toInt.natAbs
  have key := FD_size (X := a.toInt * 65536) (Y := b.toInt) d0 e m (by omega) (by omega)
  have ql : a.toInt.natAbs * 65536 / b.toInt.natAbs ≤ a.toInt.natAbs * 65536 := Nat.div_le_self _ _
  rw [← hq, ← hr] at key
  have i1 := uN_int q
  rw [if_pos (by omega)] at i1
  have i2 := uN_int r
  rw [if_pos (by omega)] at i2
  have nq : (-q).toInt = -q.toInt := l_neg (by omega)
  have nq1 : (-q - 1).toInt = -q.toInt - 1 := by rw [l_sub, nq, z7] <;> rw [nq, z7] <;> omega
  have cr : r ≤ 0 ↔ uN r = 0 := by rw [l_le, z6, i2]; omega
  simp only [eq_iff_iff] at key
  rw [cr, nq, nq1, i1]
  refine ⟨fun h => ?_, fun h1 h2 => ⟨fun h3 => ?_, fun h3 => ?_⟩⟩
  · rw [if_pos (by omega)] at key
    exact key
  · rw [if_neg (by omega), if_pos h3] at key
    exact key
  · rw [if_neg (by omega), if_neg h3] at key
    exact key
/-! roots, bit by bit -/
def SI (M : Nat) (r b : Int64) : Prop := ∃ j R : Nat, j ≤ 25 ∧ r = lN R ∧ b = lN (2 ^ j / 2) ∧ R * R ≤ M ∧ M < (R + 2 ^ j) * (R + 2 ^ j) ∧ R + 2 ^ j ≤ 33554432
theorem si_0 {M : Nat} (h : M ≤ 281474976710656) : SI M 0 16777216 := ⟨25, 0, by omega, rfl, rfl, by omega, by omega, by decide⟩
theorem si_j {j : Nat} (hj : j ≤ 25) : 2 ^ j ≤ 33554432 := Nat.pow_le_pow_right (n := 2) (by decide) hj
theorem si_end {M : Nat} {r b : Int64} (h : SI M r b) (c : b ≤ 0) : RL M r := by
  obtain ⟨j, R, h1, h2, h3, h4, h5, h6⟩ := h
  have p := si_j h1
  rw [h3, show (0 : Int64) = lN 0 from rfl, pk_lLE (by omega) (by omega)] at c
  have : j = 0 := by
    rcases Nat.eq_zero_or_pos j with q | q
    · exact q
    · have : 2 ^ 1 ≤ 2 ^ j := Nat.pow_le_pow_right (by decide) q
      omega
  subst this
  exact ⟨R, h2, h4, h5⟩
theorem si_go {M : Nat} {r b mo b2 : Int64} (hm : mo = lN M) (hM : M ≤ 281474976710656) (h : SI M r b) (c : ¬ b ≤ 0) (e : b2 = b >>> ((Int32.toInt64 1) &&& 63)) :
    (mo < (r + b) * (r + b) → SI M r b2) ∧ (¬ mo < (r + b) * (r + b) → SI M (r + b) b2) ∧ uN b2 < uN b := by
  obtain ⟨j, R, h1, h2, h3, h4, h5, h6⟩ := h
  have p := si_j h1
  rw [h3, show (0 : Int64) = lN 0 from rfl, pk_lLE (by omega) (by omega)] at c
  have j1 : 1 ≤ j := by
    rcases Nat.eq_zero_or_pos j with q | q
    · subst q; exact absurd (by decide) c
    · exact q
  have pj : 2 ^ j = 2 ^ (j - 1) * 2 := by rw [← Nat.pow_succ]; congr 1; omega
  have hf : 2 ^ j / 2 = 2 ^ (j - 1) := by omega
  have eb2 : b2 = lN (2 ^ (j - 1) / 2) := by
    apply Int64.toInt_inj.mp
    rw [e, h3, sr_i _ 1 (by decide), lT (by omega), lT (by omega), hf, Int.natCast_ediv]; rfl
  have rb : r + b = lN (R + 2 ^ (j - 1)) := by rw [h2, h3, lN_add, hf]
  have sq1 : (R + 2 ^ (j - 1)) * (R + 2 ^ (j - 1)) ≤ 33554432 * 33554432 := Nat.mul_le_mul (by omega) (by omega)
  have cc : mo < (r + b) * (r + b) ↔ M < (R + 2 ^ (j - 1)) * (R + 2 ^ (j - 1)) := by rw [hm, rb, lN_mul, pk_lLT (by omega) (by omega)]
  refine ⟨fun c2 => ?_, fun c2 => ?_, ?_⟩
  · exact ⟨j - 1, R, by omega, h2, eb2, h4, cc.mp c2, by omega⟩
  · refine ⟨j - 1, R + 2 ^ (j - 1), by omega, rb, eb2, Nat.not_lt.mp (fun z => c2 (cc.mpr z)), ?_, by omega⟩
    rw [Nat.add_assoc, show 2 ^ (j - 1) + 2 ^ (j - 1) = 2 ^ j by omega]
    exact h5
  · rw [eb2, h3, uN_lN (by omega), uN_lN (by omega)]
    have := Nat.two_pow_pos (j - 1)
    omega
theorem rm_v {a : Int32} {v : Int64} (c : 0 ≤ a) (e : v = 65536 * Int32.toInt64 a) : v = lN (a.toInt.toNat * 65536) := by
  have h := ib a
  have z : (0 : Int32).toInt = 0 := rfl
  rw [i_le, z] at c
  have ea : Int32.toInt64 a = lN a.toInt.toNat := Int64.toInt_inj.mp (by rw [l_i2l, lT (by omega)]; omega)
  rw [e, ea, show (65536 : Int64) = lN 65536 from rfl, lN_mul, Nat.mul_comm]
theorem rm_b (a : Int32) : a.toInt.toNat * 65536 ≤ 281474976710656 := by
  have h := ib a
  omega
theorem rm_0 {a : Int32} (c : ¬ 0 ≤ a) : (0 : Int64) = lN (a.toInt.toNat * 65536) := by
  have z : (0 : Int32).toInt = 0 := rfl
  rw [i_le, z] at c
  rw [show a.toInt.toNat = 0 by omega]
  rfl
theorem om_b (a : Int32) : 281474976710656 / a.toInt.toNat ≤ 281474976710656 := Nat.div_le_self _ _
end
section
/-! products and quotients of 128 bits, bit by bit -/
def MI (A B : Nat) (k : Int32) (u lo : Int64) : Prop := ∃ j : Nat, j ≤ 64 ∧ k.toInt = (j : Int) - 1 ∧ uN u * 18446744073709551616 + uN lo = A * (B / 2 ^ j)
theorem mi_0 {A B : Nat} (hB : B < 18446744073709551616) : MI A B 63 0 0 := by
  refine ⟨64, by omega, rfl, ?_⟩
  rw [Nat.div_eq_of_lt hB]; rfl
theorem nd_1 {a b : Nat} (h1 : a < 18446744073709551616) (h2 : b < 18446744073709551616) (h3 : 2 * (a * 18446744073709551616 + b) < 340282366920938463463374607431768211456) : (2 * a % 18446744073709551616 + b / 2 ^ 63) * 18446744073709551616 + 2 * b % 18446744073709551616 = 2 * (a * 18446744073709551616 + b) := by omega
theorem nd_2 {u l A sm : Nat} (hu : u < 18446744073709551616) (hl : l < 18446744073709551616) (hA : A < 18446744073709551616) (hs : sm = (l + A) % 18446744073709551616) (hZ : u * 18446744073709551616 + l + A < 340282366920938463463374607431768211456) :
    (sm < l → (u + 1) % 18446744073709551616 * 18446744073709551616 + sm = u * 18446744073709551616 + l + A) ∧ (¬ sm < l → u * 18446744073709551616 + sm = u * 18446744073709551616 + l + A) := by
  refine ⟨fun h => ?_, fun h => ?_⟩ <;> omega
theorem mm_dbl {u lo u2 lo2 : Int64} {V : Nat} (h : uN u * 18446744073709551616 + uN lo = V) (hV : 2 * V < 340282366920938463463374607431768211456) (e1 : u2 = u <<< ((Int32.toInt64 1) &&& 63) ||| (Int64.toUInt64 lo >>> ((Int32.toInt64 63).toUInt64 &&& Int64.toUInt64 63)).toInt64) (e2 : lo2 = lo <<< ((Int32.toInt64 1) &&& 63)) :
    uN u2 * 18446744073709551616 + uN lo2 = 2 * V := by
  have h1 := uN_lt u
  have h2 := uN_lt lo
  have s := su_u lo (k := 63) 63 (by decide)
  have t : uN (Int64.toUInt64 lo >>> ((Int32.toInt64 63).toUInt64 &&& Int64.toUInt64 63)).toInt64 < 2 := by omega
  have a : uN u2 = 2 * uN u % 18446744073709551616 + uN lo / 2 ^ 63 := by rw [e1, or1 t, s]
  have b : uN lo2 = 2 * uN lo % 18446744073709551616 := by rw [e2, shl1]
  rw [a, b, ← h]
  exact nd_1 h1 h2 (by rw [h]; exact hV)
theorem bitU {x : Int64} {k : Int32} {j : Nat} (hk : k = nI j) (hj : j < 64) : uN ((Int64.toUInt64 x >>> ((Int32.toInt64 k).toUInt64 &&& Int64.toUInt64 63)).toInt64 &&& 1) = uN x / 2 ^ j % 2 := by
  rw [uN_land, hk, su_u x j (sk_u j hj)]
  exact Nat.and_one_is_mod _
theorem is1 {x : Int64} {n : Nat} (h : uN x = n) : x = 1 ↔ n = 1 := by
  rw [uN_eq, h]; exact Iff.rfl
theorem mi_s {A B j : Nat} {a b u lo u2 lo2 : Int64} {k k2 : Int32} (ha : uN a = A) (hb : uN b = B) (hj : j ≤ 64) (hj1 : 1 ≤ j) (hk : k = nI (j - 1)) (hk2 : k2.toInt = ((j - 1 : Nat) : Int) - 1) (h : uN u * 18446744073709551616 + uN lo = A * (B / 2 ^ j))
    (e1 : u2 = u <<< ((Int32.toInt64 1) &&& 63) ||| (Int64.toUInt64 lo >>> ((Int32.toInt64 63).toUInt64 &&& Int64.toUInt64 63)).toInt64) (e2 : lo2 = lo <<< ((Int32.toInt64 1) &&& 63)) :
    (¬ (Int64.toUInt64 b >>> ((Int32.toInt64 k).toUInt64 &&& Int64.toUInt64 63)).toInt64 &&& 1 = 1 → MI A B k2 u2 lo2) ∧
    ((Int64.toUInt64 b >>> ((Int32.toInt64 k).toUInt64 &&& Int64.toUInt64 63)).toInt64 &&& 1 = 1 → ∀ sm w : Int64, sm = lo2 + a → (w = if uN sm < uN lo2 then u2 + 1 else u2) → MI A B k2 w sm) := by
  have hA := uN_lt a
  have hB := uN_lt b
  have h2 := hv (V := B) hj1
  have bt := bitU (x := b) hk (by omega)
  have o := is1 bt
  rw [hb] at bt o hB
  rw [ha] at hA
  have l1 : B / 2 ^ (j - 1) ≤ B := Nat.div_le_self _ _
  have l2 : A * (B / 2 ^ (j - 1)) ≤ 18446744073709551615 * 18446744073709551615 := Nat.mul_le_mul (by omega) (by omega)
  have x : A * (B / 2 ^ (j - 1)) = 2 * (A * (B / 2 ^ j)) + A * (B / 2 ^ (j - 1) % 2) := by
    conv => lhs; rw [h2, Nat.mul_add, Nat.mul_left_comm]
  have dd := mm_dbl h (by omega) e1 e2
  have y1 := uN_lt u2
  have y2 := uN_lt lo2
  refine ⟨fun c => ?_, fun c sm w es ew => ?_⟩
  · rw [o] at c
    have : B / 2 ^ (j - 1) % 2 = 0 := by omega
    rw [this, Nat.mul_zero, Nat.add_zero] at x
    exact ⟨j - 1, by omega, hk2, by rw [dd, x]⟩
  · rw [o] at c
    rw [c, Nat.mul_one] at x
    have us : uN sm = (uN lo2 + A) % 18446744073709551616 := by rw [es, uN_add, ha]
    have one : uN 1 = 1 := rfl
    have up : uN (u2 + 1) = (uN u2 + 1) % 18446744073709551616 := by rw [uN_add, one]
    refine ⟨j - 1, by omega, hk2, ?_⟩
    rw [x, ← dd]
    rw [← dd] at x
    have n := nd_2 y1 y2 hA us (by rw [← x]; omega)
    by_cases q : uN sm < uN lo2
    · rw [if_pos q] at ew
      rw [ew, up]
      exact n.1 q
    · rw [if_neg q] at ew
      rw [ew]
      exact n.2 q
/-! divide -/
def DI (V C : Nat) (hi lo r : Int64) (k : Int32) : Prop := ∃ j : Nat, j ≤ 128 ∧ k.toInt = (j : Int) - 1 ∧ uN hi * 18446744073709551616 + uN lo = V / 2 ^ j / C ∧ uN r = V / 2 ^ j % C
theorem di_0 {V C : Nat} (hV : V < 340282366920938463463374607431768211456) : DI V C 0 0 0 127 := by
  have e : V / 2 ^ 128 = 0 := Nat.div_eq_of_lt hV
  refine ⟨128, by omega, rfl, ?_, ?_⟩
  · rw [e, Nat.zero_div]; rfl
  · rw [e, Nat.zero_mod]; rfl
theorem di_bh {j : Nat} {u lo bt : Int64} {k : Int32} (hk : k = nI (j - 1)) (hj : j ≤ 128) (c : ¬ k ≤ 63) (e : bt = (Int64.toUInt64 u >>> ((Int32.toInt64 (k - 64)).toUInt64 &&& Int64.toUInt64 63)).toInt64 &&& 1) : uN bt = (uN u * 18446744073709551616 + uN lo) / 2 ^ (j - 1) % 2 := by
  have h2 := uN_lt lo
  rw [hk, show (63 : Int32) = nI 63 from rfl, nI_leI (by omega) (by omega)] at c
  have e64 : (2 : Nat) ^ 64 = 18446744073709551616 := by decide
  have p : 2 ^ (j - 1) = 18446744073709551616 * 2 ^ (j - 1 - 64) := by
    obtain ⟨t, ht⟩ : ∃ t, j - 1 = 64 + t := ⟨j - 1 - 64, by omega⟩
    rw [ht, Nat.add_sub_cancel_left, Nat.pow_add, e64]
  rw [e, bitU (j := j - 1 - 64) (by rw [hk, show (64 : Int32) = nI 64 from rfl, pk_sub (by omega)]) (by omega), p, ← Nat.div_div_eq_div_mul]
  congr 2
  omega
theorem di_bl {j : Nat} {u lo bt : Int64} {k : Int32} (hk : k = nI (j - 1)) (hj : j ≤ 128) (c : k ≤ 63) (e : bt = (Int64.toUInt64 lo >>> ((Int32.toInt64 k).toUInt64 &&& Int64.toUInt64 63)).toInt64 &&& 1) : uN bt = (uN u * 18446744073709551616 + uN lo) / 2 ^ (j - 1) % 2 := by
  rw [hk, show (63 : Int32) = nI 63 from rfl, nI_leI (by omega) (by omega)] at c
  rw [e, bitU (j := j - 1) hk (by omega)]
  have p : (18446744073709551616 : Nat) = 2 * 2 ^ (63 - (j - 1)) * 2 ^ (j - 1) := by
    rw [← Nat.pow_succ', ← Nat.pow_add, show 63 - (j - 1) + 1 + (j - 1) = 64 by omega]
  have q : (uN u * 18446744073709551616 + uN lo) / 2 ^ (j - 1) = uN u * (2 * 2 ^ (63 - (j - 1))) + uN lo / 2 ^ (j - 1) := by
    rw [Nat.add_comm, show uN u * 18446744073709551616 = uN u * (2 * 2 ^ (63 - (j - 1))) * 2 ^ (j - 1) by rw [Nat.mul_assoc, ← p], Nat.add_mul_div_right _ _ (Nat.two_pow_pos _), Nat.add_comm]
  rw [q, Nat.mul_left_comm]
  omega
theorem di_s {V C j : Nat} {hi lo r c bt r2 hi2 lo2 : Int64} {k2 ov : Int32} (hV : V < 340282366920938463463374607431768211456) (hc : uN c = C) (hC : 0 < C) (hj : j ≤ 128) (hj1 : 1 ≤ j) (hk2 : k2.toInt = ((j - 1 : Nat) : Int) - 1) (hq : uN hi * 18446744073709551616 + uN lo = V / 2 ^ j / C) (hr : uN r = V / 2 ^ j % C)
    (hb : uN bt = V / 2 ^ (j - 1) % 2) (ho : ov = if 0 ≤ r then 0 else 1) (e1 : r2 = r <<< ((Int32.toInt64 1) &&& 63) ||| bt) (e2 : hi2 = hi <<< ((Int32.toInt64 1) &&& 63) ||| (Int64.toUInt64 lo >>> ((Int32.toInt64 63).toUInt64 &&& Int64.toUInt64 63)).toInt64) (e3 : lo2 = lo <<< ((Int32.toInt64 1) &&& 63)) :
    (ov = 0 → uN r2 < uN c → DI V C hi2 lo2 r2 k2) ∧ ((¬ ov = 0 ∨ ¬ uN r2 < uN c) → DI V C hi2 (lo2 ||| 1) (r2 - c) k2) := by
  have h2 := hv (V := V) hj1
  have cl := uN_lt c
  have rl := uN_lt r
  have lb1 : V / 2 ^ (j - 1) % 2 < 2 := Nat.mod_lt _ (by decide)
  have ml := Nat.mod_lt (V / 2 ^ j) hC
  have vle : V / 2 ^ (j - 1) ≤ V := Nat.div_le_self _ _
  have qle : V / 2 ^ j / C ≤ V / 2 ^ j := Nat.div_le_self _ _
  have u1 : uN r2 = 2 * (V / 2 ^ j % C) % 18446744073709551616 + V / 2 ^ (j - 1) % 2 := by rw [e1, or1 (by omega), hr, hb]
  have dd := mm_dbl hq (by omega) e2 e3
  have u3 : uN (lo2 ||| 1) = uN lo2 + 1 := by
    rw [e3, or_1, shl1]
  have co : ov = 0 ↔ uN r < 9223372036854775808 := by
    by_cases q : 0 ≤ r
    · rw [if_pos q] at ho
      have := (uN_ge0 r).mp q
      rw [ho]
      exact ⟨fun _ => this, fun _ => rfl⟩
    · rw [if_neg q] at ho
      rw [ho]
      exact ⟨fun z => absurd z (by decide), fun z => absurd ((uN_ge0 r).mpr z) q⟩
  rw [co, hr]
  refine ⟨fun c1 c2 => ?_, fun c3 => ?_⟩
  · rw [u1, hc] at c2
    have m : 2 * (V / 2 ^ j % C) % 18446744073709551616 = 2 * (V / 2 ^ j % C) := by omega
    rw [m] at c2 u1
    obtain ⟨v1, v2⟩ := dv_lt c2
    rw [← h2] at v1 v2
    exact ⟨j - 1, by omega, hk2, by rw [dd, v1], by rw [u1, v2]⟩
  · have ge : C ≤ 2 * (V / 2 ^ j % C) + V / 2 ^ (j - 1) % 2 := by
      rcases c3 with c3 | c3
      · omega
      · rw [u1, hc] at c3; omega
    obtain ⟨v1, v2⟩ := dv_ge hC lb1 ge
    rw [← h2] at v1 v2
    refine ⟨j - 1, by omega, hk2, ?_, ?_⟩
    · rw [u3, v1, ← dd]; exact (Nat.add_assoc _ _ _).symm
    · rw [v2, uN_sub, u1, hc]
      omega
/-! a product's quotient, with signs -/
def EX (a b c r lf : Int64) : Prop := (lf = 0 ∧ FD (a.toInt * b.toInt) c.toInt r.toInt) ∨ (¬ lf = 0 ∧ ∀ q : Int, FD (a.toInt * b.toInt) c.toInt q → q < -9223372036854775808 ∨ 9223372036854775808 ≤ q)
/-- the sign of a product's quotient -/
def SG (a b c : Int64) : Prop := ((a.toInt < 0 ↔ b.toInt < 0) ↔ ¬ c.toInt < 0)
theorem ex_key {a b c : Int64} {x y z Q F : Nat} (hx : x = a.toInt.natAbs) (hy : y = b.toInt.natAbs) (hz : z = c.toInt.natAbs) (hc : ¬ c = 0) (hq : Q = x * y / z) (hf : F = x * y % z) :
    (SG a b c → FD (a.toInt * b.toInt) c.toInt Q) ∧ (Q = 0 → F = 0 → FD (a.toInt * b.toInt) c.toInt 0) ∧ (¬ SG a b c → F = 0 → FD (a.toInt * b.toInt) c.toInt (-(Q : Int))) ∧ (¬ SG a b c → ¬ F = 0 → FD (a.toInt * b.toInt) c.toInt (-(Q : Int) - 1)) := by
  have z0 : (0 : Int64).toInt = 0 := rfl
  rw [l_eq, z0] at hc
  have d0 : 0 < z := by omega
  have m := Nat.mod_lt (x * y) d0
  have e := Nat.div_add_mod' (x * y) z
  rw [← hq, ← hf] at e
  rw [← hf] at m
  have na : (a.toInt * b.toInt).natAbs = x * y := by rw [Int.natAbs_mul, hx, hy]
  have key := FD_size (X := a.toInt * b.toInt) (Y := c.toInt) (q := Q) d0 e m (by omega) (by omega)
  simp only [eq_iff_iff] at key
  have s1 : x * y = 0 ∨ (a.toInt * b.toInt < 0 ↔ ¬ (a.toInt < 0 ↔ b.toInt < 0)) := by
    rcases Nat.eq_zero_or_pos (x * y) with q | q
    · exact Or.inl q
    · right
      have xp : ¬ x = 0 := fun t => by rw [t, Nat.zero_mul] at q; omega
      have yp : ¬ y = 0 := fun t => by rw [t, Nat.mul_zero] at q; omega
      rcases Int.lt_or_le a.toInt 0 with q1 | q1 <;> rcases Int.lt_or_le b.toInt 0 with q2 | q2
      · have := Int.mul_pos_of_neg_of_neg q1 q2; omega
      · have := Int.mul_neg_of_neg_of_pos q1 (show 0 < b.toInt by omega); omega
      · have := Int.mul_neg_of_pos_of_neg (show 0 < a.toInt by omega) q2; omega
      · have := Int.mul_nonneg q1 q2; omega
  have qd : (Q = 0 → x * y = F) := fun t => by rw [t, Nat.zero_mul] at e; omega
  have pz : x * y = 0 → Q = 0 ∧ F = 0 := fun t => by
    rw [t, Nat.zero_div] at hq
    rw [t, Nat.zero_mod] at hf
    exact ⟨hq, hf⟩
  unfold SG
  refine ⟨fun h => ?_, fun h1 h2 => ?_, fun h1 h2 => ?_, fun h1 h2 => ?_⟩
  · rcases s1 with s1 | s1
    · rw [if_pos (Or.inr s1)] at key; exact key
    · rw [if_pos (by omega)] at key; exact key
  · have := qd h1
    rw [if_pos (by omega), h1] at key
    exact key
  · rcases s1 with s1 | s1
    · rw [if_pos (Or.inr s1)] at key
      rw [(pz s1).1] at key ⊢
      exact key
    · by_cases t : x * y = 0
      · rw [if_pos (Or.inr t)] at key
        rw [(pz t).1] at key ⊢
        exact key
      · rw [if_neg (by omega), if_pos h2] at key
        exact key
  · rcases s1 with s1 | s1
    · exact absurd (pz s1).2 h2
    · by_cases t : x * y = 0
      · exact absurd (pz t).2 h2
      · rw [if_neg (by omega), if_neg h2] at key
        exact key
/-- exact's end: m says 'minus', u2:lo2 the quotient's size, rounded away from zero where minus and a rest -/
theorem ex_end {a b c u2 lo2 lf2 : Int64} {x y z Q F G : Nat} {mn : Bool} (hx : x = a.toInt.natAbs) (hy : y = b.toInt.natAbs) (hz : z = c.toInt.natAbs) (hc : ¬ c = 0) (hq : Q = x * y / z) (hf : F = x * y % z)
    (hm : mn = true ↔ (¬ SG a b c ∧ ¬ (Q = 0 ∧ F = 0))) (hG : G = if mn = true ∧ ¬ F = 0 then Q + 1 else Q) (h2 : uN u2 * 18446744073709551616 + uN lo2 = G)
    (hl : lf2 = if u2 = 0 ∧ (0 ≤ lo2 ∨ (mn = true ∧ lo2 = -9223372036854775808)) then 0 else 1) : EX a b c (if mn = true then -lo2 else lo2) lf2 := by
  obtain ⟨k1, k2, k3, k4⟩ := ex_key hx hy hz hc hq hf
  have l := uN_lt lo2
  have il := uN_int lo2
  have cu : u2 = 0 ↔ uN u2 = 0 := by rw [uN_eq]; exact Iff.rfl
  have cg := uN_ge0 lo2
  have cm : lo2 = -9223372036854775808 ↔ uN lo2 = 9223372036854775808 := by
    rw [uN_eq, show uN (-9223372036854775808) = 9223372036854775808 from by decide +kernel]
  -- the floor itself
  have fl : FD (a.toInt * b.toInt) c.toInt (if mn = true then -(G : Int) else G) := by
    by_cases q : mn = true
    · rw [if_pos q]
      have t := hm.mp q
      by_cases f0 : F = 0
      · rw [if_neg (fun w => w.2 f0)] at hG
        rw [hG]; exact k3 t.1 f0
      · rw [if_pos ⟨q, f0⟩] at hG
        have := k4 t.1 f0
        rw [show -(G : Int) = -(Q : Int) - 1 by omega]; exact this
    · rw [if_neg q]
      rw [if_neg (fun w => q w.1)] at hG
      rw [hG]
      by_cases s : SG a b c
      · exact k1 s
      · have t : Q = 0 ∧ F = 0 := Classical.byContradiction (fun w => q (hm.mpr ⟨s, w⟩))
        rw [t.1]; exact k2 t.1 t.2
  by_cases fit : u2 = 0 ∧ (0 ≤ lo2 ∨ (mn = true ∧ lo2 = -9223372036854775808))
  · rw [if_pos fit] at hl
    refine Or.inl ⟨hl, ?_⟩
    obtain ⟨f1, f2⟩ := fit
    rw [cu] at f1
    rw [f1, Nat.zero_mul, Nat.zero_add] at h2
    rw [cg, cm] at f2
    by_cases q : mn = true
    · rw [if_pos q] at fl ⊢
      have : (-lo2).toInt = -(G : Int) := by
        by_cases w : uN lo2 = 9223372036854775808
        · have e := cm.mpr w
          rw [e]
          show (-9223372036854775808 : Int) = _
          omega
        · have v : uN lo2 < 9223372036854775808 := by omega
          rw [if_pos (by omega)] at il
          rw [l_neg (by omega), il]; omega
      rw [this]; exact fl
    · rw [if_neg q] at fl ⊢
      have v : uN lo2 < 9223372036854775808 := by
        rcases f2 with f2 | f2
        · exact f2
        · exact absurd f2.1 q
      rw [if_pos (by omega)] at il
      rw [il, h2]; exact fl
  · rw [if_neg fit] at hl
    refine Or.inr ⟨by rw [hl]; decide, fun q2 hq2 => ?_⟩
    have e := FD_uniq hq2 fl
    rw [e]
    rw [cu, cg, cm] at fit
    by_cases q : mn = true
    · rw [if_pos q]
      left
      rcases Nat.eq_zero_or_pos (uN u2) with w | w
      · rw [w, Nat.zero_mul, Nat.zero_add] at h2
        have : ¬ (uN lo2 < 9223372036854775808 ∨ uN lo2 = 9223372036854775808) := fun t => fit ⟨w, t.elim Or.inl (fun t => Or.inr ⟨q, t⟩)⟩
        omega
      · omega
    · rw [if_neg q]
      right
      rcases Nat.eq_zero_or_pos (uN u2) with w | w
      · rw [w, Nat.zero_mul, Nat.zero_add] at h2
        have : ¬ uN lo2 < 9223372036854775808 := fun t => fit ⟨w, Or.inl t⟩
        omega
      · omega
end
section
theorem b_pos {b : Int32} (c : ¬ b = 0) : 0 < b.toInt.natAbs := by
  have z : (0 : Int32).toInt = 0 := rfl
  rw [i_eq, z] at c
  omega
theorem c_pos {c : Int64} (h : ¬ c = 0) : 0 < uN c := by
  rw [uN_eq] at h
  have z : uN 0 = 0 := rfl
  omega
theorem v128 (u lo : Int64) : uN u * 18446744073709551616 + uN lo < 340282366920938463463374607431768211456 := by
  have h1 := uN_lt u
  have h2 := uN_lt lo
  generalize uN u = a at *
  generalize uN lo = b at *
  omega
theorem kmu {k k2 : Int32} {j : Nat} (h : k.toInt = (j : Int) - 1) (hj : 1 ≤ j) (h2 : k2.toInt = ((j - 1 : Nat) : Int) - 1) : (k2.toInt + 1).toNat < (k.toInt + 1).toNat := by omega
theorem b01 {r : Int32} {p : Prop} [Decidable p] (h : r = if p then 1 else 0) (c : r = 0) : ¬ p := fun q => by
  rw [if_pos q] at h
  rw [h] at c
  exact absurd c (by decide)
theorem b01n {r : Int32} {p : Prop} [Decidable p] (h : r = if p then 1 else 0) (c : ¬ r = 0) : p := Classical.byContradiction fun q => c (by rw [h, if_neg q])
theorem s01 {s1 s2 : Int32} {p q : Prop} [Decidable p] [Decidable q] (h1 : s1 = if p then 0 else 1) (h2 : s2 = if q then 0 else 1) (c : s1 = s2) : p ↔ q := by
  by_cases hp : p <;> by_cases hq : q
  · exact ⟨fun _ => hq, fun _ => hp⟩
  · rw [if_pos hp] at h1; rw [if_neg hq] at h2; rw [h1, h2] at c; exact absurd c (by decide)
  · rw [if_neg hp] at h1; rw [if_pos hq] at h2; rw [h1, h2] at c; exact absurd c (by decide)
  · exact ⟨fun x => absurd x hp, fun x => absurd x hq⟩
theorem s01n {s1 s2 : Int32} {p q : Prop} [Decidable p] [Decidable q] (h1 : s1 = if p then 0 else 1) (h2 : s2 = if q then 0 else 1) (c : ¬ s1 = s2) : ¬ (p ↔ q) := by
  intro e
  apply c
  rw [h1, h2]
  by_cases hp : p
  · rw [if_pos hp, if_pos (e.mp hp)]
  · rw [if_neg hp, if_neg (fun x => hp (e.mpr x))]
end
section
set_option maxHeartbeats 4000000 in
set_option maxRecDepth 100000 in
theorem c_M_thrown (l : Launch) (D : va_G) (h0 sz : Nat) (t : Int32) (u lo lf : Int64)  : Met l y_M_thrown w_M_thrown ({ frames := 0, cells := 0, slots := 0, locals := 0 } : Room) (va_Pc [.ref h0] (M_B D h0 t u lo lf sz)) (va_Qi (fun r f => r = t ∧ f.1 = t) (M_at D h0 (va_A (Mw h0 t u lo lf) sz)) (va_A (Mw h0 t u lo lf) sz)) 0 0 (va_A (Mw h0 t u lo lf) sz) := by
  refine pmM (y := y_M_thrown) (cc := b_M_thrown) (maxL := 1) (ret := (some .int)) (rm := ({ frames := 0, cells := 0, slots := 0, locals := 0 } : Room)) (fun A => va_Qi (fun r f => r = t ∧ f.1 = t) (M_at D h0 A) A) D h0 t u lo lf sz [] (by decide +kernel) (Nat.le_of_ble_eq_true rfl) (fun p e s m below meth c ls A hx hb hr hml hown hg hlk hnm hK hP hD hS hA hl => ?_)
  have hl : lv_has ls 1 [(0, .ref h0)] := hl
  refine lv_aload_n hx hb d_M_thrown_0 rfl (lv_at hl 0 rfl) ?_
  refine mg_t hx hb hown hg hK hP d_M_thrown_1 ?_
  exact rtM_i hx hb hr hlk hK hP hD hS d_M_thrown_4 ⟨rfl, rfl⟩
set_option maxHeartbeats 4000000 in
set_option maxRecDepth 100000 in
theorem c_M_product (l : Launch) (D : va_G) (h0 sz : Nat) (t : Int32) (u lo lf : Int64) (a : Int32) (b : Int32) : Met l y_M_product w_M_product ({ frames := 0, cells := 0, slots := 0, locals := 0 } : Room) (va_Pc [.ref h0, .int a, .int b] (M_B D h0 t u lo lf sz)) (va_Qi (fun r f => f.1 = 0 ∧ r = Int32.ofInt (a.toInt * b.toInt / 65536)) (M_at D h0 (va_A (Mw h0 t u lo lf) sz)) (va_A (Mw h0 t u lo lf) sz)) 0 0 (va_A (Mw h0 t u lo lf) sz) := by
  refine pmM (y := y_M_product) (cc := b_M_product) (maxL := 7) (ret := (some .int)) (rm := ({ frames := 0, cells := 0, slots := 0, locals := 0 } : Room)) (fun A => va_Qi (fun r f => f.1 = 0 ∧ r = Int32.ofInt (a.toInt * b.toInt / 65536)) (M_at D h0 A) A) D h0 t u lo lf sz [.int a, .int b] (by decide +kernel) (Nat.le_of_ble_eq_true rfl) (fun p e s m below meth c ls A hx hb hr hml hown hg hlk hnm hK hP hD hS hA hl => ?_)
  have hl : lv_has ls 7 [(0, .ref h0), (1, .int a), (2, .int b)] := hl
  refine lv_aload_n hx hb d_M_product_0 rfl (lv_at hl 0 rfl) ?_
  refine lv_iconst (v := 0) hx hb d_M_product_1 (by decide) ?_
  refine mp_t hx hb hown hg hK hP hD hS d_M_product_2 (fun H locs hP hD hS => ?_)
  refine lv_iload_n hx hb d_M_product_5 rfl (lv_at hl 1 rfl) ?_
  refine lv_bipush (v := 16) hx hb d_M_product_6 (by decide) ?_
  refine lv_ishr hx hb d_M_product_8 ?_
  refine lv_topi (fun v_9 e_9 => ?_)
  refine lv_istore_n (lv' := [(3, .int v_9), (0, .ref h0), (1, .int a), (2, .int b)]) hx hb d_M_product_9 rfl hl (by decide) rfl (fun ls hl => ?_)
  refine lv_iload_n hx hb d_M_product_10 rfl (lv_at hl 2 rfl) ?_
  refine lv_ldc (v := 65535) hx hb hown (hg _ k_297) d_M_product_11 ?_
  refine lv_iand hx hb d_M_product_13 ?_
  refine lv_topi (fun v_14 e_14 => ?_)
  refine lv_istore (lv' := [(4, .int v_14), (3, .int v_9), (0, .ref h0), (1, .int a), (2, .int b)]) hx hb d_M_product_14 hl (by decide) rfl (fun ls hl => ?_)
  refine lv_iload_n hx hb d_M_product_16 rfl (lv_at hl 4 rfl) ?_
  refine lv_bipush (v := 16) hx hb d_M_product_17 (by decide) ?_
  refine lv_ishr hx hb d_M_product_19 ?_
  refine lv_topi (fun v_20 e_20 => ?_)
  refine lv_istore (lv' := [(5, .int v_20), (4, .int v_14), (3, .int v_9), (0, .ref h0), (1, .int a), (2, .int b)]) hx hb d_M_product_20 hl (by decide) rfl (fun ls hl => ?_)
  refine lv_iload_n hx hb d_M_product_22 rfl (lv_at hl 5 rfl) ?_
  refine lv_ldc (v := 65535) hx hb hown (hg _ k_297) d_M_product_23 ?_
  refine lv_iand hx hb d_M_product_25 ?_
  refine lv_topi (fun v_26 e_26 => ?_)
  refine lv_istore (lv' := [(6, .int v_26), (5, .int v_20), (4, .int v_14), (3, .int v_9), (0, .ref h0), (1, .int a), (2, .int b)]) hx hb d_M_product_26 hl (by decide) rfl (fun ls hl => ?_)
  refine lv_iload_n hx hb d_M_product_28 rfl (lv_at hl 3 rfl) ?_
  refine lv_iload hx hb d_M_product_29 (lv_at hl 1 rfl) ?_
  refine lv_imul hx hb d_M_product_31 ?_
  refine lv_bipush (v := 16) hx hb d_M_product_32 (by decide) ?_
  refine lv_ishl hx hb d_M_product_34 ?_
  refine lv_iload_n hx hb d_M_product_35 rfl (lv_at hl 3 rfl) ?_
  refine lv_iload hx hb d_M_product_36 (lv_at hl 0 rfl) ?_
  refine lv_imul hx hb d_M_product_38 ?_
  refine lv_iadd hx hb d_M_product_39 ?_
  refine lv_iload hx hb d_M_product_40 (lv_at hl 2 rfl) ?_
  refine lv_iload hx hb d_M_product_42 (lv_at hl 1 rfl) ?_
  refine lv_imul hx hb d_M_product_44 ?_
  refine lv_iadd hx hb d_M_product_45 ?_
  refine lv_iload hx hb d_M_product_46 (lv_at hl 2 rfl) ?_
  refine lv_iload hx hb d_M_product_48 (lv_at hl 0 rfl) ?_
  refine lv_imul hx hb d_M_product_50 ?_
  refine lv_bipush (v := 16) hx hb d_M_product_51 (by decide) ?_
  refine lv_iushr hx hb d_M_product_53 rfl ?_
  refine lv_iadd hx hb d_M_product_54 ?_
  exact rtM_i hx hb hr hlk hK hP hD hS d_M_product_55 ⟨rfl, pq_1 e_9 e_14 e_20 e_26⟩
set_option maxHeartbeats 4000000 in
set_option maxRecDepth 100000 in
theorem c_M_quotient (l : Launch) (D : va_G) (h0 sz : Nat) (t : Int32) (u lo lf : Int64) (a : Int32) (b : Int32) : Met l y_M_quotient w_M_quotient ({ frames := 1, cells := 0, slots := 0, locals := 21 } : Room) (va_Pc [.ref h0, .int a, .int b] (M_B D h0 t u lo lf sz)) (va_Qi (fun r f => f.1 = 0 ∧ QS a b r) (M_at D h0 (va_A (Mw h0 t u lo lf) sz)) (va_A (Mw h0 t u lo lf) sz)) 0 0 (va_A (Mw h0 t u lo lf) sz) := by
  refine pmM (y := y_M_quotient) (cc := b_M_quotient) (maxL := 12) (ret := (some .int)) (rm := ({ frames := 1, cells := 0, slots := 0, locals := 21 } : Room)) (fun A => va_Qi (fun r f => f.1 = 0 ∧ QS a b r) (M_at D h0 A) A) D h0 t u lo lf sz [.int a, .int b] (by decide +kernel) (Nat.le_of_ble_eq_true rfl) (fun p e s m below meth c ls A hx hb hr hml hown hg hlk hnm hK hP hD hS hA hl => ?_)
  have hl : lv_has ls 12 [(0, .ref h0), (1, .int a), (2, .int b)] := hl
  refine lv_aload_n hx hb d_M_quotient_0 rfl (lv_at hl 0 rfl) ?_
  refine lv_iconst (v := 0) hx hb d_M_quotient_1 (by decide) ?_
  refine mp_t hx hb hown hg hK hP hD hS d_M_quotient_2 (fun H locs hP hD hS => ?_)
  refine lv_iload_n hx hb d_M_quotient_5 rfl (lv_at hl 2 rfl) ?_
  refine lv_if_ne (tgt := 29) hx hb d_M_quotient_6 (by decide) (fun c_6 => ?_) (fun c_6 => ?_)
  · refine lv_iload_n hx hb d_M_quotient_29 rfl (lv_at hl 1 rfl) ?_
    refine lv_i2l hx hb d_M_quotient_30 rfl ?_
    refine cs_l [.long (Int32.toInt64 a)] 1 rfl (rest := []) hx hb hml hown hg (c_M_size l (Int32.toInt64 a)) k_304 k_305 k_3 k_306 (by decide +kernel) hl.1 rfl rfl ⟨Nat.le_of_ble_eq_true rfl, Nat.le_of_ble_eq_true rfl⟩ rfl (Nat.le_of_ble_eq_true rfl) ⟨Nat.zero_le _, Nat.zero_le _⟩ d_M_quotient_31 (fun r_31 h_31 => ?_)
    refine lv_lstore_n (lv' := [(3, .long r_31), (0, .ref h0), (1, .int a), (2, .int b)]) hx hb d_M_quotient_34 rfl hl (by decide) rfl (fun ls hl => ?_)
    refine lv_iload_n hx hb d_M_quotient_35 rfl (lv_at hl 3 rfl) ?_
    refine lv_i2l hx hb d_M_quotient_36 rfl ?_
    refine cs_l [.long (Int32.toInt64 b)] 1 rfl (rest := []) hx hb hml hown hg (c_M_size l (Int32.toInt64 b)) k_304 k_305 k_3 k_306 (by decide +kernel) hl.1 rfl rfl ⟨Nat.le_of_ble_eq_true rfl, Nat.le_of_ble_eq_true rfl⟩ rfl (Nat.le_of_ble_eq_true rfl) ⟨Nat.zero_le _, Nat.zero_le _⟩ d_M_quotient_37 (fun r_37 h_37 => ?_)
    refine lv_lstore (lv' := [(5, .long r_37), (3, .long r_31), (0, .ref h0), (1, .int a), (2, .int b)]) hx hb d_M_quotient_40 hl (by decide) rfl (fun ls hl => ?_)
    refine lv_lconst (v := 0) hx hb d_M_quotient_42 (by decide) ?_
    refine lv_lstore (lv' := [(7, .long 0), (5, .long r_37), (3, .long r_31), (0, .ref h0), (1, .int a), (2, .int b)]) hx hb d_M_quotient_43 hl (by decide) rfl (fun ls hl => ?_)
    refine lv_lconst (v := 0) hx hb d_M_quotient_45 (by decide) ?_
    refine lv_lstore (lv' := [(9, .long 0), (7, .long 0), (5, .long r_37), (3, .long r_31), (0, .ref h0), (1, .int a), (2, .int b)]) hx hb d_M_quotient_46 hl (by decide) rfl (fun ls hl => ?_)
    refine lv_bipush (v := 47) hx hb d_M_quotient_48 (by decide) ?_
    refine lv_istore (lv' := [(11, .int 47), (9, .long 0), (7, .long 0), (5, .long r_37), (3, .long r_31), (0, .ref h0), (1, .int a), (2, .int b)]) hx hb d_M_quotient_50 hl (by decide) rfl (fun ls hl => ?_)
    obtain ⟨hn, hN⟩ := qs_sz h_31
    obtain ⟨hd, hD2⟩ := qs_sz h_37
    have hD0 : 0 < b.toInt.natAbs := b_pos c_6
    refine lq3 (α1 := Int64) (α2 := Int64) (α3 := Int32) 52 12 (fun _ _ k => (k.toInt + 1).toNat) (fun q rs k => QI a.toInt.natAbs b.toInt.natAbs q rs k) (fun q rs k => [(1, .int a), (2, .int b), (3, .long r_31), (5, .long r_37), (7, .long q), (9, .long rs), (11, .int k)]) (fun q rs k hi ih ls hl => ?_) 0 0 47 (qi_0 hN) ls (lv_sub hl [6, 7, 4, 3, 2, 1, 0] rfl)
    have hl : lv_has ls 12 [(1, .int a), (2, .int b), (3, .long r_31), (5, .long r_37), (7, .long q), (9, .long rs), (11, .int k)] := hl
    obtain ⟨j, hj, hk, hq, hrs⟩ := hi
    refine lv_iload hx hb d_M_quotient_52 (lv_at hl 6 rfl) ?_
    refine lv_if_lt (tgt := 117) hx hb d_M_quotient_54 (by decide) (fun c_54 => ?_) (fun c_54 => ?_)
    · have j0 := k0 hk c_54
      subst j0
      rw [Nat.pow_zero, Nat.div_one] at hq hrs
      have key := qs_fd c_6 hq hrs
      refine lv_iload_n hx hb d_M_quotient_117 rfl (lv_at hl 0 rfl) ?_
      refine jn1 (α1 := Int32) 126 12 (fun s1 => s1 = if 0 ≤ a then 0 else 1) (fun s1 => [(1, .int a), (2, .int b), (7, .long q), (9, .long rs)]) (fun s1 => [.int s1]) (fun s1 hj_126 ls hl => ?_) (fun K_126 => ?_)
      · have hl : lv_has ls 12 [(1, .int a), (2, .int b), (7, .long q), (9, .long rs)] := hl
        refine lv_iload_n hx hb d_M_quotient_126 rfl (lv_at hl 1 rfl) ?_
        refine jn1 (α1 := Int32) 135 12 (fun s2 => s2 = if 0 ≤ b then 0 else 1) (fun s2 => [(1, .int a), (2, .int b), (7, .long q), (9, .long rs)]) (fun s2 => [.int s2, .int s1]) (fun s2 hj_135 ls hl => ?_) (fun K_135 => ?_)
        · have hl : lv_has ls 12 [(1, .int a), (2, .int b), (7, .long q), (9, .long rs)] := hl
          refine jn1 (α1 := Int64) 162 12 (fun q2 => FD (a.toInt * 65536) b.toInt q2.toInt) (fun q2 => [(7, .long q2)]) (fun q2 => []) (fun q2 hj_162 ls hl => ?_) (fun K_162 => ?_)
          · have hl : lv_has ls 12 [(7, .long q2)] := hl
            refine lv_lload hx hb d_M_quotient_162 (lv_at hl 0 rfl) ?_
            refine lv_ldc2 (v := 2147483647) hx hb hown (hg _ k_307) d_M_quotient_164 ?_
            refine rl_le (tgt := 176) hx hb d_M_quotient_167 d_M_quotient_168 (by decide) (fun c_167 => ?_) (fun c_167 => ?_)
            · refine lv_lload hx hb d_M_quotient_176 (lv_at hl 0 rfl) ?_
              refine lv_ldc2 (v := -2147483648) hx hb hown (hg _ k_308) d_M_quotient_178 ?_
              refine rl_ge (tgt := 190) hx hb d_M_quotient_181 d_M_quotient_182 (by decide) (fun c_181 => ?_) (fun c_181 => ?_)
              · refine lv_lload hx hb d_M_quotient_190 (lv_at hl 0 rfl) ?_
                refine lv_l2i hx hb d_M_quotient_192 rfl ?_
                exact rtM_i hx hb hr hlk hK hP hD hS d_M_quotient_193 ⟨rfl, Or.inr ⟨c_6, q2.toInt, hj_162, cl_in c_167 c_181⟩⟩
              · refine lv_ldc (v := -2147483648) hx hb hown (hg _ k_303) d_M_quotient_185 ?_
                refine lv_goto (tgt := 193) hx hb d_M_quotient_187 (by decide) ?_
                exact rtM_i hx hb hr hlk hK hP hD hS d_M_quotient_193 ⟨rfl, Or.inr ⟨c_6, q2.toInt, hj_162, cl_lo c_181⟩⟩
            · refine lv_ldc (v := 2147483647) hx hb hown (hg _ k_302) d_M_quotient_171 ?_
              refine lv_goto (tgt := 193) hx hb d_M_quotient_173 (by decide) ?_
              exact rtM_i hx hb hr hlk hK hP hD hS d_M_quotient_193 ⟨rfl, Or.inr ⟨c_6, q2.toInt, hj_162, cl_hi c_167⟩⟩
          · refine lv_icmp_eq (tgt := 162) hx hb d_M_quotient_135 (by decide) (fun c_135 => ?_) (fun c_135 => ?_)
            · exact K_162 _ (key.1 (Or.inl (s01 hj_126 hj_135 c_135))) ls (lv_sub hl [2] rfl)
            · have sd := s01n hj_126 hj_135 c_135
              refine lv_iload_n hx hb d_M_quotient_138 rfl (lv_at hl 0 rfl) ?_
              refine lv_if_eq (tgt := 162) hx hb d_M_quotient_139 (by decide) (fun c_139 => ?_) (fun c_139 => ?_)
              · exact K_162 _ (key.1 (Or.inr c_139)) ls (lv_sub hl [2] rfl)
              · refine lv_lload hx hb d_M_quotient_142 (lv_at hl 3 rfl) ?_
                refine lv_lconst (v := 0) hx hb d_M_quotient_144 (by decide) ?_
                refine rl_le (tgt := 157) hx hb d_M_quotient_145 d_M_quotient_146 (by decide) (fun c_145 => ?_) (fun c_145 => ?_)
                · refine lv_lload hx hb d_M_quotient_157 (lv_at hl 2 rfl) ?_
                  refine lv_lneg hx hb d_M_quotient_159 ?_
                  refine lv_topl (fun v_160 e_160 => ?_)
                  refine lv_lstore (lv' := [(7, .long v_160), (1, .int a), (2, .int b), (9, .long rs)]) hx hb d_M_quotient_160 hl (by decide) rfl (fun ls hl => ?_)
                  exact K_162 _ (by rw [e_160]; exact (key.2 sd c_139).1 c_145) ls (lv_sub hl [0] rfl)
                · refine lv_lload hx hb d_M_quotient_149 (lv_at hl 2 rfl) ?_
                  refine lv_lneg hx hb d_M_quotient_151 ?_
                  refine lv_lconst (v := 1) hx hb d_M_quotient_152 (by decide) ?_
                  refine lv_lsub hx hb d_M_quotient_153 ?_
                  refine lv_goto (tgt := 160) hx hb d_M_quotient_154 (by decide) ?_
                  refine lv_topl (fun v_160 e_160 => ?_)
                  refine lv_lstore (lv' := [(7, .long v_160), (1, .int a), (2, .int b), (9, .long rs)]) hx hb d_M_quotient_160 hl (by decide) rfl (fun ls hl => ?_)
                  exact K_162 _ (by rw [e_160]; exact (key.2 sd c_139).2 c_145) ls (lv_sub hl [0] rfl)
        · refine lv_if_ge (tgt := 134) hx hb d_M_quotient_127 (by decide) (fun c_127 => ?_) (fun c_127 => ?_)
          · refine lv_iconst (v := 0) hx hb d_M_quotient_134 (by decide) ?_
            exact K_135 _ (by rw [if_pos c_127]) ls (lv_sub hl [0, 1, 2, 3] rfl)
          · refine lv_iconst (v := 1) hx hb d_M_quotient_130 (by decide) ?_
            refine lv_goto (tgt := 135) hx hb d_M_quotient_131 (by decide) ?_
            exact K_135 _ (by rw [if_neg c_127]) ls (lv_sub hl [0, 1, 2, 3] rfl)
      · refine lv_if_ge (tgt := 125) hx hb d_M_quotient_118 (by decide) (fun c_118 => ?_) (fun c_118 => ?_)
        · refine lv_iconst (v := 0) hx hb d_M_quotient_125 (by decide) ?_
          exact K_126 _ (by rw [if_pos c_118]) ls (lv_sub hl [0, 1, 4, 5] rfl)
        · refine lv_iconst (v := 1) hx hb d_M_quotient_121 (by decide) ?_
          refine lv_goto (tgt := 126) hx hb d_M_quotient_122 (by decide) ?_
          exact K_126 _ (by rw [if_neg c_118]) ls (lv_sub hl [0, 1, 4, 5] rfl)
    · obtain ⟨j1, ek, ek2⟩ := kj hk c_54 (by omega)
      refine lv_lload hx hb d_M_quotient_57 (lv_at hl 5 rfl) ?_
      refine lv_iconst (v := 1) hx hb d_M_quotient_59 (by decide) ?_
      refine lv_lshl hx hb d_M_quotient_60 rfl ?_
      refine lv_iload hx hb d_M_quotient_61 (lv_at hl 6 rfl) ?_
      refine lv_bipush (v := 15) hx hb d_M_quotient_63 (by decide) ?_
      refine jn1 (α1 := Int64) 81 12 (fun bt => uN bt = a.toInt.natAbs * 65536 / 2 ^ (j - 1) % 2) (fun bt => [(1, .int a), (2, .int b), (3, .long r_31), (5, .long r_37), (7, .long q), (9, .long rs), (11, .int k)]) (fun bt => [.long bt, .long (rs <<< ((Int32.toInt64 1) &&& 63))]) (fun bt hj_81 ls hl => ?_) (fun K_81 => ?_)
      · have hl : lv_has ls 12 [(1, .int a), (2, .int b), (3, .long r_31), (5, .long r_37), (7, .long q), (9, .long rs), (11, .int k)] := hl
        refine lv_lor hx hb d_M_quotient_81 ?_
        refine lv_topl (fun v_82 e_82 => ?_)
        refine lv_lstore (lv' := [(9, .long v_82), (1, .int a), (2, .int b), (3, .long r_31), (5, .long r_37), (7, .long q), (11, .int k)]) hx hb d_M_quotient_82 hl (by decide) rfl (fun ls hl => ?_)
        refine lv_lload hx hb d_M_quotient_84 (lv_at hl 5 rfl) ?_
        refine lv_iconst (v := 1) hx hb d_M_quotient_86 (by decide) ?_
        refine lv_lshl hx hb d_M_quotient_87 rfl ?_
        refine lv_topl (fun v_88 e_88 => ?_)
        refine lv_lstore (lv' := [(7, .long v_88), (9, .long v_82), (1, .int a), (2, .int b), (3, .long r_31), (5, .long r_37), (11, .int k)]) hx hb d_M_quotient_88 hl (by decide) rfl (fun ls hl => ?_)
        refine lv_lload hx hb d_M_quotient_90 (lv_at hl 1 rfl) ?_
        refine lv_lload hx hb d_M_quotient_92 (lv_at hl 5 rfl) ?_
        refine rl_lt (tgt := 111) hx hb d_M_quotient_94 d_M_quotient_95 (by decide) (fun c_94 => ?_) (fun c_94 => ?_)
        · obtain ⟨v_111, e_111⟩ : ∃ y : Int32, y = k + (-1) := ⟨_, rfl⟩
          refine lv_iinc (v := v_111) (lv' := [(11, .int v_111), (7, .long v_88), (9, .long v_82), (1, .int a), (2, .int b), (3, .long r_31), (5, .long r_37)]) hx hb d_M_quotient_111 hl (k := 6) rfl (by rw [e_111]; rfl) (by decide) rfl (fun ls hl => ?_)
          refine lv_goto (tgt := 52) hx hb d_M_quotient_114 (by decide) ?_
          exact ih v_88 v_82 v_111 ((qi_s hN hd hD0 hD2 hj j1 hq hrs hj_81 e_82 e_88 (by rw [e_111]; exact ek2)).1 c_94) (kmu hk j1 (by rw [e_111]; exact ek2)) ls (lv_sub hl [3, 4, 5, 6, 1, 2, 0] rfl)
        · refine lv_lload hx hb d_M_quotient_98 (lv_at hl 1 rfl) ?_
          refine lv_lload hx hb d_M_quotient_100 (lv_at hl 5 rfl) ?_
          refine lv_lsub hx hb d_M_quotient_102 ?_
          refine lv_topl (fun v_103 e_103 => ?_)
          refine lv_lstore (lv' := [(9, .long v_103), (7, .long v_88), (1, .int a), (2, .int b), (3, .long r_31), (5, .long r_37), (11, .int k)]) hx hb d_M_quotient_103 hl (by decide) rfl (fun ls hl => ?_)
          refine lv_lload hx hb d_M_quotient_105 (lv_at hl 1 rfl) ?_
          refine lv_lconst (v := 1) hx hb d_M_quotient_107 (by decide) ?_
          refine lv_lor hx hb d_M_quotient_108 ?_
          refine lv_topl (fun v_109 e_109 => ?_)
          refine lv_lstore (lv' := [(7, .long v_109), (9, .long v_103), (1, .int a), (2, .int b), (3, .long r_31), (5, .long r_37), (11, .int k)]) hx hb d_M_quotient_109 hl (by decide) rfl (fun ls hl => ?_)
          obtain ⟨v_111, e_111⟩ : ∃ y : Int32, y = k + (-1) := ⟨_, rfl⟩
          refine lv_iinc (v := v_111) (lv' := [(11, .int v_111), (7, .long v_109), (9, .long v_103), (1, .int a), (2, .int b), (3, .long r_31), (5, .long r_37)]) hx hb d_M_quotient_111 hl (k := 6) rfl (by rw [e_111]; rfl) (by decide) rfl (fun ls hl => ?_)
          refine lv_goto (tgt := 52) hx hb d_M_quotient_114 (by decide) ?_
          exact ih v_109 v_103 v_111 (by rw [e_103, e_109]; exact (qi_s hN hd hD0 hD2 hj j1 hq hrs hj_81 e_82 e_88 (by rw [e_111]; exact ek2)).2 c_94) (kmu hk j1 (by rw [e_111]; exact ek2)) ls (lv_sub hl [3, 4, 5, 6, 1, 2, 0] rfl)
      · refine lv_icmp_le (tgt := 80) hx hb d_M_quotient_65 (by decide) (fun c_65 => ?_) (fun c_65 => ?_)
        · refine lv_lconst (v := 0) hx hb d_M_quotient_80 (by decide) ?_
          exact K_81 _ (qi_b0 ek hj c_65) ls (lv_sub hl [0, 1, 2, 3, 4, 5, 6] rfl)
        · refine lv_lload_n hx hb d_M_quotient_68 rfl (lv_at hl 2 rfl) ?_
          refine lv_iload hx hb d_M_quotient_69 (lv_at hl 6 rfl) ?_
          refine lv_bipush (v := 16) hx hb d_M_quotient_71 (by decide) ?_
          refine lv_isub hx hb d_M_quotient_73 ?_
          refine lv_lshr hx hb d_M_quotient_74 rfl ?_
          refine lv_lconst (v := 1) hx hb d_M_quotient_75 (by decide) ?_
          refine lv_land hx hb d_M_quotient_76 ?_
          refine lv_goto (tgt := 81) hx hb d_M_quotient_77 (by decide) ?_
          exact K_81 _ (qi_b1 hn hN ek hj c_65 rfl) ls (lv_sub hl [0, 1, 2, 3, 4, 5, 6] rfl)
  · refine lv_iload_n hx hb d_M_quotient_9 rfl (lv_at hl 1 rfl) ?_
    refine lv_if_le (tgt := 18) hx hb d_M_quotient_10 (by decide) (fun c_10 => ?_) (fun c_10 => ?_)
    · refine lv_iload_n hx hb d_M_quotient_18 rfl (lv_at hl 1 rfl) ?_
      refine lv_if_ge (tgt := 27) hx hb d_M_quotient_19 (by decide) (fun c_19 => ?_) (fun c_19 => ?_)
      · refine lv_iconst (v := 0) hx hb d_M_quotient_27 (by decide) ?_
        exact rtM_i hx hb hr hlk hK hP hD hS d_M_quotient_28 ⟨rfl, Or.inl ⟨c_6, by rw [if_neg (Int32.not_lt.mpr c_10), if_neg (Int32.not_lt.mpr c_19)]⟩⟩
      · refine lv_ldc (v := -2147483648) hx hb hown (hg _ k_303) d_M_quotient_22 ?_
        refine lv_goto (tgt := 28) hx hb d_M_quotient_24 (by decide) ?_
        exact rtM_i hx hb hr hlk hK hP hD hS d_M_quotient_28 ⟨rfl, Or.inl ⟨c_6, by rw [if_neg (Int32.not_lt.mpr c_10), if_pos (Int32.not_le.mp c_19)]⟩⟩
    · refine lv_ldc (v := 2147483647) hx hb hown (hg _ k_302) d_M_quotient_13 ?_
      refine lv_goto (tgt := 28) hx hb d_M_quotient_15 (by decide) ?_
      exact rtM_i hx hb hr hlk hK hP hD hS d_M_quotient_28 ⟨rfl, Or.inl ⟨c_6, by rw [if_pos (Int32.not_le.mp c_10)]⟩⟩
set_option maxHeartbeats 4000000 in
set_option maxRecDepth 100000 in
theorem c_M_root (l : Launch) (D : va_G) (h0 sz : Nat) (t : Int32) (u lo lf : Int64) (a : Int32) : Met l y_M_root w_M_root ({ frames := 0, cells := 0, slots := 0, locals := 0 } : Room) (va_Pc [.ref h0, .int a] (M_B D h0 t u lo lf sz)) (va_Qi (fun r f => f.1 = 0 ∧ RT (a.toInt.toNat * 65536) r) (M_at D h0 (va_A (Mw h0 t u lo lf) sz)) (va_A (Mw h0 t u lo lf) sz)) 0 0 (va_A (Mw h0 t u lo lf) sz) := by
  refine pmM (y := y_M_root) (cc := b_M_root) (maxL := 8) (ret := (some .int)) (rm := ({ frames := 0, cells := 0, slots := 0, locals := 0 } : Room)) (fun A => va_Qi (fun r f => f.1 = 0 ∧ RT (a.toInt.toNat * 65536) r) (M_at D h0 A) A) D h0 t u lo lf sz [.int a] (by decide +kernel) (Nat.le_of_ble_eq_true rfl) (fun p e s m below meth c ls A hx hb hr hml hown hg hlk hnm hK hP hD hS hA hl => ?_)
  have hl : lv_has ls 8 [(0, .ref h0), (1, .int a)] := hl
  refine lv_aload_n hx hb d_M_root_0 rfl (lv_at hl 0 rfl) ?_
  refine lv_iconst (v := 0) hx hb d_M_root_1 (by decide) ?_
  refine mp_t hx hb hown hg hK hP hD hS d_M_root_2 (fun H locs hP hD hS => ?_)
  refine lv_iload_n hx hb d_M_root_5 rfl (lv_at hl 1 rfl) ?_
  refine jn1 (α1 := Int64) 19 8 (fun mo => mo = lN (a.toInt.toNat * 65536)) (fun mo => [(0, .ref h0), (1, .int a)]) (fun mo => [.long mo]) (fun mo hj_19 ls hl => ?_) (fun K_19 => ?_)
  · have hl : lv_has ls 8 [(0, .ref h0), (1, .int a)] := hl
    refine lv_lstore_n (lv' := [(2, .long mo), (0, .ref h0), (1, .int a)]) hx hb d_M_root_19 rfl hl (by decide) rfl (fun ls hl => ?_)
    refine lv_lconst (v := 0) hx hb d_M_root_20 (by decide) ?_
    refine lv_lstore (lv' := [(4, .long 0), (2, .long mo), (0, .ref h0), (1, .int a)]) hx hb d_M_root_21 hl (by decide) rfl (fun ls hl => ?_)
    refine lv_ldc2 (v := 16777216) hx hb hown (hg _ k_314) d_M_root_23 ?_
    refine lv_lstore (lv' := [(6, .long 16777216), (4, .long 0), (2, .long mo), (0, .ref h0), (1, .int a)]) hx hb d_M_root_26 hl (by decide) rfl (fun ls hl => ?_)
    refine lq2 (α1 := Int64) (α2 := Int64) 28 8 (fun _ b => uN b) (fun r b => SI (a.toInt.toNat * 65536) r b) (fun r b => [(2, .long mo), (4, .long r), (6, .long b)]) (fun r b hi ih ls hl => ?_) 0 16777216 (si_0 (rm_b a)) ls (lv_sub hl [2, 1, 0] rfl)
    have hl : lv_has ls 8 [(2, .long mo), (4, .long r), (6, .long b)] := hl
    refine lv_lload hx hb d_M_root_28 (lv_at hl 2 rfl) ?_
    refine lv_lconst (v := 0) hx hb d_M_root_30 (by decide) ?_
    refine rl_le (tgt := 72) hx hb d_M_root_31 d_M_root_32 (by decide) (fun c_31 => ?_) (fun c_31 => ?_)
    · refine lv_lload hx hb d_M_root_72 (lv_at hl 1 rfl) ?_
      refine lv_l2i hx hb d_M_root_74 rfl ?_
      exact rtM_i hx hb hr hlk hK hP hD hS d_M_root_75 ⟨rfl, (RL_i (si_end hi c_31))⟩
    · refine lv_lload hx hb d_M_root_35 (lv_at hl 1 rfl) ?_
      refine lv_lload hx hb d_M_root_37 (lv_at hl 2 rfl) ?_
      refine lv_ladd hx hb d_M_root_39 ?_
      refine lv_lload hx hb d_M_root_40 (lv_at hl 1 rfl) ?_
      refine lv_lload hx hb d_M_root_42 (lv_at hl 2 rfl) ?_
      refine lv_ladd hx hb d_M_root_44 ?_
      refine lv_lmul hx hb d_M_root_45 ?_
      refine lv_lload_n hx hb d_M_root_46 rfl (lv_at hl 0 rfl) ?_
      refine rl_gt (tgt := 59) hx hb d_M_root_47 d_M_root_48 (by decide) (fun c_47 => ?_) (fun c_47 => ?_)
      · refine lv_lload hx hb d_M_root_59 (lv_at hl 1 rfl) ?_
        refine lv_lstore (lv' := [(4, .long r), (2, .long mo), (6, .long b)]) hx hb d_M_root_61 hl (by decide) rfl (fun ls hl => ?_)
        refine lv_lload hx hb d_M_root_63 (lv_at hl 2 rfl) ?_
        refine lv_iconst (v := 1) hx hb d_M_root_65 (by decide) ?_
        refine lv_lshr hx hb d_M_root_66 rfl ?_
        refine lv_topl (fun v_67 e_67 => ?_)
        refine lv_lstore (lv' := [(6, .long v_67), (4, .long r), (2, .long mo)]) hx hb d_M_root_67 hl (by decide) rfl (fun ls hl => ?_)
        refine lv_goto (tgt := 28) hx hb d_M_root_69 (by decide) ?_
        exact ih _ _ ((si_go hj_19 (rm_b a) hi c_31 e_67).1 c_47) (si_go hj_19 (rm_b a) hi c_31 e_67).2.2 ls (lv_sub hl [2, 1, 0] rfl)
      · refine lv_lload hx hb d_M_root_51 (lv_at hl 1 rfl) ?_
        refine lv_lload hx hb d_M_root_53 (lv_at hl 2 rfl) ?_
        refine lv_ladd hx hb d_M_root_55 ?_
        refine lv_goto (tgt := 61) hx hb d_M_root_56 (by decide) ?_
        refine lv_topl (fun v_61 e_61 => ?_)
        refine lv_lstore (lv' := [(4, .long v_61), (2, .long mo), (6, .long b)]) hx hb d_M_root_61 hl (by decide) rfl (fun ls hl => ?_)
        refine lv_lload hx hb d_M_root_63 (lv_at hl 2 rfl) ?_
        refine lv_iconst (v := 1) hx hb d_M_root_65 (by decide) ?_
        refine lv_lshr hx hb d_M_root_66 rfl ?_
        refine lv_topl (fun v_67 e_67 => ?_)
        refine lv_lstore (lv' := [(6, .long v_67), (4, .long v_61), (2, .long mo)]) hx hb d_M_root_67 hl (by decide) rfl (fun ls hl => ?_)
        refine lv_goto (tgt := 28) hx hb d_M_root_69 (by decide) ?_
        exact ih _ _ (by rw [e_61]; exact (si_go hj_19 (rm_b a) hi c_31 e_67).2.1 c_47) (si_go hj_19 (rm_b a) hi c_31 e_67).2.2 ls (lv_sub hl [2, 1, 0] rfl)
  · refine lv_if_ge (tgt := 13) hx hb d_M_root_6 (by decide) (fun c_6 => ?_) (fun c_6 => ?_)
    · refine lv_ldc2 (v := 65536) hx hb hown (hg _ k_313) d_M_root_13 ?_
      refine lv_iload_n hx hb d_M_root_16 rfl (lv_at hl 1 rfl) ?_
      refine lv_i2l hx hb d_M_root_17 rfl ?_
      refine lv_lmul hx hb d_M_root_18 ?_
      exact K_19 _ (rm_v c_6 rfl) ls (lv_sub hl [0, 1] rfl)
    · refine lv_lconst (v := 0) hx hb d_M_root_9 (by decide) ?_
      refine lv_goto (tgt := 19) hx hb d_M_root_10 (by decide) ?_
      exact K_19 _ (rm_0 c_6) ls (lv_sub hl [0, 1] rfl)
set_option maxHeartbeats 4000000 in
set_option maxRecDepth 100000 in
theorem c_M_oneByRoot (l : Launch) (D : va_G) (h0 sz : Nat) (t : Int32) (u lo lf : Int64) (a : Int32) : Met l y_M_oneByRoot w_M_oneByRoot ({ frames := 0, cells := 0, slots := 0, locals := 0 } : Room) (va_Pc [.ref h0, .int a] (M_B D h0 t u lo lf sz)) (va_Qi (fun r f => f.1 = 0 ∧ ((¬ 0 < a ∧ r = 2147483647) ∨ (0 < a ∧ RT (281474976710656 / a.toInt.toNat) r))) (M_at D h0 (va_A (Mw h0 t u lo lf) sz)) (va_A (Mw h0 t u lo lf) sz)) 0 0 (va_A (Mw h0 t u lo lf) sz) := by
  refine pmM (y := y_M_oneByRoot) (cc := b_M_oneByRoot) (maxL := 8) (ret := (some .int)) (rm := ({ frames := 0, cells := 0, slots := 0, locals := 0 } : Room)) (fun A => va_Qi (fun r f => f.1 = 0 ∧ ((¬ 0 < a ∧ r = 2147483647) ∨ (0 < a ∧ RT (281474976710656 / a.toInt.toNat) r))) (M_at D h0 A) A) D h0 t u lo lf sz [.int a] (by decide +kernel) (Nat.le_of_ble_eq_true rfl) (fun p e s m below meth c ls A hx hb hr hml hown hg hlk hnm hK hP hD hS hA hl => ?_)
  have hl : lv_has ls 8 [(0, .ref h0), (1, .int a)] := hl
  refine lv_aload_n hx hb d_M_oneByRoot_0 rfl (lv_at hl 0 rfl) ?_
  refine lv_iconst (v := 0) hx hb d_M_oneByRoot_1 (by decide) ?_
  refine mp_t hx hb hown hg hK hP hD hS d_M_oneByRoot_2 (fun H locs hP hD hS => ?_)
  refine lv_iload_n hx hb d_M_oneByRoot_5 rfl (lv_at hl 1 rfl) ?_
  refine lv_if_gt (tgt := 12) hx hb d_M_oneByRoot_6 (by decide) (fun c_6 => ?_) (fun c_6 => ?_)
  · refine lv_ldc2 (v := 281474976710656) hx hb hown (hg _ k_319) d_M_oneByRoot_12 ?_
    refine lv_iload_n hx hb d_M_oneByRoot_15 rfl (lv_at hl 1 rfl) ?_
    refine lv_i2l hx hb d_M_oneByRoot_16 rfl ?_
    refine lv_ldiv hx hb d_M_oneByRoot_17 (ox_ne c_6) ?_
    refine lv_topl (fun v_18 e_18 => ?_)
    refine lv_lstore_n (lv' := [(2, .long v_18), (0, .ref h0), (1, .int a)]) hx hb d_M_oneByRoot_18 rfl hl (by decide) rfl (fun ls hl => ?_)
    refine lv_lconst (v := 0) hx hb d_M_oneByRoot_19 (by decide) ?_
    refine lv_lstore (lv' := [(4, .long 0), (2, .long v_18), (0, .ref h0), (1, .int a)]) hx hb d_M_oneByRoot_20 hl (by decide) rfl (fun ls hl => ?_)
    refine lv_ldc2 (v := 16777216) hx hb hown (hg _ k_314) d_M_oneByRoot_22 ?_
    refine lv_lstore (lv' := [(6, .long 16777216), (4, .long 0), (2, .long v_18), (0, .ref h0), (1, .int a)]) hx hb d_M_oneByRoot_25 hl (by decide) rfl (fun ls hl => ?_)
    refine lq2 (α1 := Int64) (α2 := Int64) 27 8 (fun _ b => uN b) (fun r b => SI (281474976710656 / a.toInt.toNat) r b) (fun r b => [(2, .long v_18), (4, .long r), (6, .long b)]) (fun r b hi ih ls hl => ?_) 0 16777216 (si_0 (om_b a)) ls (lv_sub hl [2, 1, 0] rfl)
    have hl : lv_has ls 8 [(2, .long v_18), (4, .long r), (6, .long b)] := hl
    refine lv_lload hx hb d_M_oneByRoot_27 (lv_at hl 2 rfl) ?_
    refine lv_lconst (v := 0) hx hb d_M_oneByRoot_29 (by decide) ?_
    refine rl_le (tgt := 71) hx hb d_M_oneByRoot_30 d_M_oneByRoot_31 (by decide) (fun c_30 => ?_) (fun c_30 => ?_)
    · refine lv_lload hx hb d_M_oneByRoot_71 (lv_at hl 1 rfl) ?_
      refine lv_l2i hx hb d_M_oneByRoot_73 rfl ?_
      exact rtM_i hx hb hr hlk hK hP hD hS d_M_oneByRoot_74 ⟨rfl, Or.inr ⟨c_6, (RL_i (si_end hi c_30))⟩⟩
    · refine lv_lload hx hb d_M_oneByRoot_34 (lv_at hl 1 rfl) ?_
      refine lv_lload hx hb d_M_oneByRoot_36 (lv_at hl 2 rfl) ?_
      refine lv_ladd hx hb d_M_oneByRoot_38 ?_
      refine lv_lload hx hb d_M_oneByRoot_39 (lv_at hl 1 rfl) ?_
      refine lv_lload hx hb d_M_oneByRoot_41 (lv_at hl 2 rfl) ?_
      refine lv_ladd hx hb d_M_oneByRoot_43 ?_
      refine lv_lmul hx hb d_M_oneByRoot_44 ?_
      refine lv_lload_n hx hb d_M_oneByRoot_45 rfl (lv_at hl 0 rfl) ?_
      refine rl_gt (tgt := 58) hx hb d_M_oneByRoot_46 d_M_oneByRoot_47 (by decide) (fun c_46 => ?_) (fun c_46 => ?_)
      · refine lv_lload hx hb d_M_oneByRoot_58 (lv_at hl 1 rfl) ?_
        refine lv_lstore (lv' := [(4, .long r), (2, .long v_18), (6, .long b)]) hx hb d_M_oneByRoot_60 hl (by decide) rfl (fun ls hl => ?_)
        refine lv_lload hx hb d_M_oneByRoot_62 (lv_at hl 2 rfl) ?_
        refine lv_iconst (v := 1) hx hb d_M_oneByRoot_64 (by decide) ?_
        refine lv_lshr hx hb d_M_oneByRoot_65 rfl ?_
        refine lv_topl (fun v_66 e_66 => ?_)
        refine lv_lstore (lv' := [(6, .long v_66), (4, .long r), (2, .long v_18)]) hx hb d_M_oneByRoot_66 hl (by decide) rfl (fun ls hl => ?_)
        refine lv_goto (tgt := 27) hx hb d_M_oneByRoot_68 (by decide) ?_
        exact ih _ _ ((si_go (ox_v c_6 e_18).1 (om_b a) hi c_30 e_66).1 c_46) (si_go (ox_v c_6 e_18).1 (om_b a) hi c_30 e_66).2.2 ls (lv_sub hl [2, 1, 0] rfl)
      · refine lv_lload hx hb d_M_oneByRoot_50 (lv_at hl 1 rfl) ?_
        refine lv_lload hx hb d_M_oneByRoot_52 (lv_at hl 2 rfl) ?_
        refine lv_ladd hx hb d_M_oneByRoot_54 ?_
        refine lv_goto (tgt := 60) hx hb d_M_oneByRoot_55 (by decide) ?_
        refine lv_topl (fun v_60 e_60 => ?_)
        refine lv_lstore (lv' := [(4, .long v_60), (2, .long v_18), (6, .long b)]) hx hb d_M_oneByRoot_60 hl (by decide) rfl (fun ls hl => ?_)
        refine lv_lload hx hb d_M_oneByRoot_62 (lv_at hl 2 rfl) ?_
        refine lv_iconst (v := 1) hx hb d_M_oneByRoot_64 (by decide) ?_
        refine lv_lshr hx hb d_M_oneByRoot_65 rfl ?_
        refine lv_topl (fun v_66 e_66 => ?_)
        refine lv_lstore (lv' := [(6, .long v_66), (4, .long v_60), (2, .long v_18)]) hx hb d_M_oneByRoot_66 hl (by decide) rfl (fun ls hl => ?_)
        refine lv_goto (tgt := 27) hx hb d_M_oneByRoot_68 (by decide) ?_
        exact ih _ _ (by rw [e_60]; exact (si_go (ox_v c_6 e_18).1 (om_b a) hi c_30 e_66).2.1 c_46) (si_go (ox_v c_6 e_18).1 (om_b a) hi c_30 e_66).2.2 ls (lv_sub hl [2, 1, 0] rfl)
  · refine lv_ldc (v := 2147483647) hx hb hown (hg _ k_302) d_M_oneByRoot_9 ?_
    exact rtM_i hx hb hr hlk hK hP hD hS d_M_oneByRoot_11 ⟨rfl, Or.inl ⟨c_6, rfl⟩⟩
set_option maxHeartbeats 4000000 in
set_option maxRecDepth 100000 in
theorem c_M_multiply (l : Launch) (D : va_G) (h0 sz : Nat) (t : Int32) (u lo lf : Int64) (a : Int64) (b : Int64) : Met l y_M_multiply w_M_multiply ({ frames := 1, cells := 0, slots := 0, locals := 23 } : Room) (va_Pc [.ref h0, .long a, .long b] (M_B D h0 t u lo lf sz)) (va_Qv (fun f => f.1 = t ∧ uN f.2.1 * 18446744073709551616 + uN f.2.2.1 = uN a * uN b) (M_at D h0 (va_A (Mw h0 t u lo lf) sz)) (va_A (Mw h0 t u lo lf) sz)) 0 0 (va_A (Mw h0 t u lo lf) sz) := by
  refine pmM (y := y_M_multiply) (cc := b_M_multiply) (maxL := 8) (ret := none) (rm := ({ frames := 1, cells := 0, slots := 0, locals := 23 } : Room)) (fun A => va_Qv (fun f => f.1 = t ∧ uN f.2.1 * 18446744073709551616 + uN f.2.2.1 = uN a * uN b) (M_at D h0 A) A) D h0 t u lo lf sz [.long a, .long b] (by decide +kernel) (Nat.le_of_ble_eq_true rfl) (fun p e s m below meth c ls A hx hb hr hml hown hg hlk hnm hK hP hD hS hA hl => ?_)
  have hl : lv_has ls 8 [(0, .ref h0), (1, .long a), (3, .long b)] := hl
  refine lv_aload_n hx hb d_M_multiply_0 rfl (lv_at hl 0 rfl) ?_
  refine lv_lconst (v := 0) hx hb d_M_multiply_1 (by decide) ?_
  refine mp_u hx hb hown hg hK hP hD hS d_M_multiply_2 (fun H locs hP hD hS => ?_)
  refine lv_aload_n hx hb d_M_multiply_5 rfl (lv_at hl 0 rfl) ?_
  refine lv_lconst (v := 0) hx hb d_M_multiply_6 (by decide) ?_
  refine mp_lo hx hb hown hg hK hP hD hS d_M_multiply_7 (fun H locs hP hD hS => ?_)
  refine lv_bipush (v := 63) hx hb d_M_multiply_10 (by decide) ?_
  refine lv_istore (lv' := [(5, .int 63), (0, .ref h0), (1, .long a), (3, .long b)]) hx hb d_M_multiply_12 hl (by decide) rfl (fun ls hl => ?_)
  refine lw3 (α1 := Int32) (α2 := Int64) (α3 := Int64) (D := D) (cl := classes) (A := A) (H0 := s.heap) 14 8 (fun k _ _ => (k.toInt + 1).toNat) (fun k u lo => MI (uN a) (uN b) k u lo) (fun k u lo => [(0, .ref h0), (1, .long a), (3, .long b), (5, .int k)]) (fun k u lo => Mw h0 t u lo lf) (fun k u lo hi ih H locs hP hD hS ls hl => ?_) 63 0 0 (mi_0 (uN_lt b)) _ _ hP hD hS ls (lv_sub hl [1, 2, 3, 0] rfl)
  have hl : lv_has ls 8 [(0, .ref h0), (1, .long a), (3, .long b), (5, .int k)] := hl
  have hP : va_P D classes (Mw h0 t u lo lf) H := hP
  have hD : va_D A (Mw h0 t u lo lf) := hD
  obtain ⟨j, hj, hk, hV⟩ := hi
  refine lv_iload hx hb d_M_multiply_14 (lv_at hl 3 rfl) ?_
  refine lv_if_lt (tgt := 107) hx hb d_M_multiply_16 (by decide) (fun c_16 => ?_) (fun c_16 => ?_)
  · have j0 := k0 hk c_16
    subst j0
    rw [Nat.pow_zero, Nat.div_one] at hV
    exact rtM_v hx hb hr hlk hK hP hD hS d_M_multiply_107 ⟨rfl, hV⟩
  · obtain ⟨j1, ek, ek2⟩ := kj hk c_16 (by omega)
    refine lv_aload_n hx hb d_M_multiply_19 rfl (lv_at hl 0 rfl) ?_
    refine lv_aload_n hx hb d_M_multiply_20 rfl (lv_at hl 0 rfl) ?_
    refine mg_u hx hb hown hg hK hP d_M_multiply_21 ?_
    refine lv_iconst (v := 1) hx hb d_M_multiply_24 (by decide) ?_
    refine lv_lshl hx hb d_M_multiply_25 rfl ?_
    refine lv_aload_n hx hb d_M_multiply_26 rfl (lv_at hl 0 rfl) ?_
    refine mg_lo hx hb hown hg hK hP d_M_multiply_27 ?_
    refine lv_bipush (v := 63) hx hb d_M_multiply_30 (by decide) ?_
    refine lv_lushr hx hb d_M_multiply_32 rfl ?_
    refine lv_lor hx hb d_M_multiply_33 ?_
    refine lv_topl (fun v_34 e_34 => ?_)
    refine mp_u hx hb hown hg hK hP hD hS d_M_multiply_34 (fun H locs hP hD hS => ?_)
    refine lv_aload_n hx hb d_M_multiply_37 rfl (lv_at hl 0 rfl) ?_
    refine lv_aload_n hx hb d_M_multiply_38 rfl (lv_at hl 0 rfl) ?_
    refine mg_lo hx hb hown hg hK hP d_M_multiply_39 ?_
    refine lv_iconst (v := 1) hx hb d_M_multiply_42 (by decide) ?_
    refine lv_lshl hx hb d_M_multiply_43 rfl ?_
    refine lv_topl (fun v_44 e_44 => ?_)
    refine mp_lo hx hb hown hg hK hP hD hS d_M_multiply_44 (fun H locs hP hD hS => ?_)
    refine lv_lload_n hx hb d_M_multiply_47 rfl (lv_at hl 2 rfl) ?_
    refine lv_iload hx hb d_M_multiply_48 (lv_at hl 3 rfl) ?_
    refine lv_lushr hx hb d_M_multiply_50 rfl ?_
    refine lv_lconst (v := 1) hx hb d_M_multiply_51 (by decide) ?_
    refine lv_land hx hb d_M_multiply_52 ?_
    refine lv_lconst (v := 1) hx hb d_M_multiply_53 (by decide) ?_
    refine rl_ne (tgt := 101) hx hb d_M_multiply_54 d_M_multiply_55 (by decide) (fun c_54 => ?_) (fun c_54 => ?_)
    · obtain ⟨v_101, e_101⟩ : ∃ y : Int32, y = k + (-1) := ⟨_, rfl⟩
      refine lv_iinc (v := v_101) (lv' := [(5, .int v_101), (0, .ref h0), (1, .long a), (3, .long b)]) hx hb d_M_multiply_101 hl (k := 3) rfl (by rw [e_101]; rfl) (by decide) rfl (fun ls hl => ?_)
      refine lv_goto (tgt := 14) hx hb d_M_multiply_104 (by decide) ?_
      exact ih _ _ _ ((mi_s rfl rfl hj j1 ek (by rw [e_101]; exact ek2) hV e_34 e_44).1 c_54) (kmu hk j1 (by rw [e_101]; exact ek2)) _ _ hP hD hS ls (lv_sub hl [1, 2, 3, 0] rfl)
    · refine lv_aload_n hx hb d_M_multiply_58 rfl (lv_at hl 0 rfl) ?_
      refine mg_lo hx hb hown hg hK hP d_M_multiply_59 ?_
      refine lv_lload_n hx hb d_M_multiply_62 rfl (lv_at hl 1 rfl) ?_
      refine lv_ladd hx hb d_M_multiply_63 ?_
      refine lv_topl (fun v_64 e_64 => ?_)
      refine lv_lstore (lv' := [(6, .long v_64), (0, .ref h0), (1, .long a), (3, .long b), (5, .int k)]) hx hb d_M_multiply_64 hl (by decide) rfl (fun ls hl => ?_)
      refine lv_aload_n hx hb d_M_multiply_66 rfl (lv_at hl 1 rfl) ?_
      refine lv_lload hx hb d_M_multiply_67 (lv_at hl 0 rfl) ?_
      refine lv_aload_n hx hb d_M_multiply_69 rfl (lv_at hl 1 rfl) ?_
      refine mg_lo hx hb hown hg hK hP d_M_multiply_70 ?_
      refine cs_i [.long v_64, .long v_44] 2 rfl (rest := [.ref h0]) hx hb hml hown hg (c_M_below l v_64 v_44) k_332 k_333 k_3 k_334 (by decide +kernel) hl.1 rfl rfl ⟨Nat.le_of_ble_eq_true rfl, Nat.le_of_ble_eq_true rfl⟩ rfl (Nat.le_of_ble_eq_true rfl) ⟨Nat.zero_le _, Nat.zero_le _⟩ d_M_multiply_73 (fun r_73 h_73 => ?_)
      refine jn1 (α1 := Int64) 92 8 (fun w => w = if uN v_64 < uN v_44 then v_34 + 1 else v_34) (fun w => [(0, .ref h0), (1, .long a), (3, .long b), (5, .int k), (6, .long v_64)]) (fun w => [.long w, .ref h0]) (fun w hj_92 ls hl => ?_) (fun K_92 => ?_)
      · have hl : lv_has ls 8 [(0, .ref h0), (1, .long a), (3, .long b), (5, .int k), (6, .long v_64)] := hl
        refine mp_u hx hb hown hg hK hP hD hS d_M_multiply_92 (fun H locs hP hD hS => ?_)
        refine lv_aload_n hx hb d_M_multiply_95 rfl (lv_at hl 0 rfl) ?_
        refine lv_lload hx hb d_M_multiply_96 (lv_at hl 4 rfl) ?_
        refine mp_lo hx hb hown hg hK hP hD hS d_M_multiply_98 (fun H locs hP hD hS => ?_)
        obtain ⟨v_101, e_101⟩ : ∃ y : Int32, y = k + (-1) := ⟨_, rfl⟩
        refine lv_iinc (v := v_101) (lv' := [(5, .int v_101), (0, .ref h0), (1, .long a), (3, .long b), (6, .long v_64)]) hx hb d_M_multiply_101 hl (k := 3) rfl (by rw [e_101]; rfl) (by decide) rfl (fun ls hl => ?_)
        refine lv_goto (tgt := 14) hx hb d_M_multiply_104 (by decide) ?_
        exact ih _ _ _ ((mi_s rfl rfl hj j1 ek (by rw [e_101]; exact ek2) hV e_34 e_44).2 c_54 _ _ e_64 hj_92) (kmu hk j1 (by rw [e_101]; exact ek2)) _ _ hP hD hS ls (lv_sub hl [1, 2, 3, 0] rfl)
      · refine lv_if_eq (tgt := 88) hx hb d_M_multiply_76 (by decide) (fun c_76 => ?_) (fun c_76 => ?_)
        · refine lv_aload_n hx hb d_M_multiply_88 rfl (lv_at hl 1 rfl) ?_
          refine mg_u hx hb hown hg hK hP d_M_multiply_89 ?_
          exact K_92 _ (by rw [if_neg (b01 h_73 c_76)]) ls (lv_sub hl [1, 2, 3, 4, 0] rfl)
        · refine lv_aload_n hx hb d_M_multiply_79 rfl (lv_at hl 1 rfl) ?_
          refine mg_u hx hb hown hg hK hP d_M_multiply_80 ?_
          refine lv_lconst (v := 1) hx hb d_M_multiply_83 (by decide) ?_
          refine lv_ladd hx hb d_M_multiply_84 ?_
          refine lv_goto (tgt := 92) hx hb d_M_multiply_85 (by decide) ?_
          exact K_92 _ (by rw [if_pos (b01n h_73 c_76)]) ls (lv_sub hl [1, 2, 3, 4, 0] rfl)
set_option maxHeartbeats 4000000 in
set_option maxRecDepth 100000 in
theorem c_M_divide (l : Launch) (D : va_G) (h0 sz : Nat) (t : Int32) (u lo lf : Int64) (c0 : Int64) (hC : ¬ c0 = 0) : Met l y_M_divide w_M_divide ({ frames := 1, cells := 0, slots := 0, locals := 23 } : Room) (va_Pc [.ref h0, .long c0] (M_B D h0 t u lo lf sz)) (va_Qv (fun f => f.1 = t ∧ uN f.2.1 * 18446744073709551616 + uN f.2.2.1 = (uN u * 18446744073709551616 + uN lo) / uN c0 ∧ uN f.2.2.2 = (uN u * 18446744073709551616 + uN lo) % uN c0) (M_at D h0 (va_A (Mw h0 t u lo lf) sz)) (va_A (Mw h0 t u lo lf) sz)) 0 0 (va_A (Mw h0 t u lo lf) sz) := by
  refine pmM (y := y_M_divide) (cc := b_M_divide) (maxL := 13) (ret := none) (rm := ({ frames := 1, cells := 0, slots := 0, locals := 23 } : Room)) (fun A => va_Qv (fun f => f.1 = t ∧ uN f.2.1 * 18446744073709551616 + uN f.2.2.1 = (uN u * 18446744073709551616 + uN lo) / uN c0 ∧ uN f.2.2.2 = (uN u * 18446744073709551616 + uN lo) % uN c0) (M_at D h0 A) A) D h0 t u lo lf sz [.long c0] (by decide +kernel) (Nat.le_of_ble_eq_true rfl) (fun p e s m below meth c ls A hx hb hr hml hown hg hlk hnm hK hP hD hS hA hl => ?_)
  have hl : lv_has ls 13 [(0, .ref h0), (1, .long c0)] := hl
  refine lv_lconst (v := 0) hx hb d_M_divide_0 (by decide) ?_
  refine lv_lstore_n (lv' := [(3, .long 0), (0, .ref h0), (1, .long c0)]) hx hb d_M_divide_1 rfl hl (by decide) rfl (fun ls hl => ?_)
  refine lv_lconst (v := 0) hx hb d_M_divide_2 (by decide) ?_
  refine lv_lstore (lv' := [(5, .long 0), (3, .long 0), (0, .ref h0), (1, .long c0)]) hx hb d_M_divide_3 hl (by decide) rfl (fun ls hl => ?_)
  refine lv_lconst (v := 0) hx hb d_M_divide_5 (by decide) ?_
  refine lv_lstore (lv' := [(7, .long 0), (5, .long 0), (3, .long 0), (0, .ref h0), (1, .long c0)]) hx hb d_M_divide_6 hl (by decide) rfl (fun ls hl => ?_)
  refine lv_bipush (v := 127) hx hb d_M_divide_8 (by decide) ?_
  refine lv_istore (lv' := [(9, .int 127), (7, .long 0), (5, .long 0), (3, .long 0), (0, .ref h0), (1, .long c0)]) hx hb d_M_divide_10 hl (by decide) rfl (fun ls hl => ?_)
  have hV : uN u * 18446744073709551616 + uN lo < 340282366920938463463374607431768211456 := v128 u lo
  have hC0 : 0 < uN c0 := c_pos hC
  refine lq4 (α1 := Int64) (α2 := Int64) (α3 := Int64) (α4 := Int32) 12 13 (fun _ _ _ k => (k.toInt + 1).toNat) (fun hi low rs k => DI (uN u * 18446744073709551616 + uN lo) (uN c0) hi low rs k) (fun hi low rs k => [(0, .ref h0), (1, .long c0), (3, .long hi), (5, .long low), (7, .long rs), (9, .int k)]) (fun hi low rs k hI ih ls hl => ?_) 0 0 0 127 (di_0 hV) ls (lv_sub hl [4, 5, 3, 2, 1, 0] rfl)
  have hl : lv_has ls 13 [(0, .ref h0), (1, .long c0), (3, .long hi), (5, .long low), (7, .long rs), (9, .int k)] := hl
  obtain ⟨j, hj, hk, hq, hrs⟩ := hI
  refine lv_iload hx hb d_M_divide_12 (lv_at hl 5 rfl) ?_
  refine lv_if_lt (tgt := 121) hx hb d_M_divide_14 (by decide) (fun c_14 => ?_) (fun c_14 => ?_)
  · have j0 := k0 hk c_14
    subst j0
    rw [Nat.pow_zero, Nat.div_one] at hq hrs
    refine lv_aload_n hx hb d_M_divide_121 rfl (lv_at hl 0 rfl) ?_
    refine lv_lload_n hx hb d_M_divide_122 rfl (lv_at hl 2 rfl) ?_
    refine mp_u hx hb hown hg hK hP hD hS d_M_divide_123 (fun H locs hP hD hS => ?_)
    refine lv_aload_n hx hb d_M_divide_126 rfl (lv_at hl 0 rfl) ?_
    refine lv_lload hx hb d_M_divide_127 (lv_at hl 3 rfl) ?_
    refine mp_lo hx hb hown hg hK hP hD hS d_M_divide_129 (fun H locs hP hD hS => ?_)
    refine lv_aload_n hx hb d_M_divide_132 rfl (lv_at hl 0 rfl) ?_
    refine lv_lload hx hb d_M_divide_133 (lv_at hl 4 rfl) ?_
    refine mp_lf hx hb hown hg hK hP hD hS d_M_divide_135 (fun H locs hP hD hS => ?_)
    exact rtM_v hx hb hr hlk hK hP hD hS d_M_divide_138 ⟨rfl, hq, hrs⟩
  · obtain ⟨j1, ek, ek2⟩ := kj hk c_14 (by omega)
    refine lv_iload hx hb d_M_divide_17 (lv_at hl 5 rfl) ?_
    refine lv_bipush (v := 63) hx hb d_M_divide_19 (by decide) ?_
    refine jn1 (α1 := Int64) 48 13 (fun bt => uN bt = (uN u * 18446744073709551616 + uN lo) / 2 ^ (j - 1) % 2) (fun bt => [(0, .ref h0), (1, .long c0), (3, .long hi), (5, .long low), (7, .long rs), (9, .int k)]) (fun bt => [.long bt]) (fun bt hj_48 ls hl => ?_) (fun K_48 => ?_)
    · have hl : lv_has ls 13 [(0, .ref h0), (1, .long c0), (3, .long hi), (5, .long low), (7, .long rs), (9, .int k)] := hl
      refine lv_lstore (lv' := [(10, .long bt), (0, .ref h0), (1, .long c0), (3, .long hi), (5, .long low), (7, .long rs), (9, .int k)]) hx hb d_M_divide_48 hl (by decide) rfl (fun ls hl => ?_)
      refine lv_lload hx hb d_M_divide_50 (lv_at hl 5 rfl) ?_
      refine lv_lconst (v := 0) hx hb d_M_divide_52 (by decide) ?_
      refine jn1 (α1 := Int32) 62 13 (fun ov => ov = if 0 ≤ rs then 0 else 1) (fun ov => [(0, .ref h0), (1, .long c0), (3, .long hi), (5, .long low), (7, .long rs), (9, .int k), (10, .long bt)]) (fun ov => [.int ov]) (fun ov hj_62 ls hl => ?_) (fun K_62 => ?_)
      · have hl : lv_has ls 13 [(0, .ref h0), (1, .long c0), (3, .long hi), (5, .long low), (7, .long rs), (9, .int k), (10, .long bt)] := hl
        refine lv_istore (lv' := [(12, .int ov), (0, .ref h0), (1, .long c0), (3, .long hi), (5, .long low), (7, .long rs), (9, .int k), (10, .long bt)]) hx hb d_M_divide_62 hl (by decide) rfl (fun ls hl => ?_)
        refine lv_lload hx hb d_M_divide_64 (lv_at hl 5 rfl) ?_
        refine lv_iconst (v := 1) hx hb d_M_divide_66 (by decide) ?_
        refine lv_lshl hx hb d_M_divide_67 rfl ?_
        refine lv_lload hx hb d_M_divide_68 (lv_at hl 7 rfl) ?_
        refine lv_lor hx hb d_M_divide_70 ?_
        refine lv_topl (fun v_71 e_71 => ?_)
        refine lv_lstore (lv' := [(7, .long v_71), (12, .int ov), (0, .ref h0), (1, .long c0), (3, .long hi), (5, .long low), (9, .int k), (10, .long bt)]) hx hb d_M_divide_71 hl (by decide) rfl (fun ls hl => ?_)
        refine lv_lload_n hx hb d_M_divide_73 rfl (lv_at hl 4 rfl) ?_
        refine lv_iconst (v := 1) hx hb d_M_divide_74 (by decide) ?_
        refine lv_lshl hx hb d_M_divide_75 rfl ?_
        refine lv_lload hx hb d_M_divide_76 (lv_at hl 5 rfl) ?_
        refine lv_bipush (v := 63) hx hb d_M_divide_78 (by decide) ?_
        refine lv_lushr hx hb d_M_divide_80 rfl ?_
        refine lv_lor hx hb d_M_divide_81 ?_
        refine lv_topl (fun v_82 e_82 => ?_)
        refine lv_lstore_n (lv' := [(3, .long v_82), (7, .long v_71), (12, .int ov), (0, .ref h0), (1, .long c0), (5, .long low), (9, .int k), (10, .long bt)]) hx hb d_M_divide_82 rfl hl (by decide) rfl (fun ls hl => ?_)
        refine lv_lload hx hb d_M_divide_83 (lv_at hl 5 rfl) ?_
        refine lv_iconst (v := 1) hx hb d_M_divide_85 (by decide) ?_
        refine lv_lshl hx hb d_M_divide_86 rfl ?_
        refine lv_topl (fun v_87 e_87 => ?_)
        refine lv_lstore (lv' := [(5, .long v_87), (3, .long v_82), (7, .long v_71), (12, .int ov), (0, .ref h0), (1, .long c0), (9, .int k), (10, .long bt)]) hx hb d_M_divide_87 hl (by decide) rfl (fun ls hl => ?_)
        refine lv_iload hx hb d_M_divide_89 (lv_at hl 3 rfl) ?_
        refine lv_if_ne (tgt := 103) hx hb d_M_divide_91 (by decide) (fun c_91 => ?_) (fun c_91 => ?_)
        · refine lv_lload hx hb d_M_divide_103 (lv_at hl 2 rfl) ?_
          refine lv_lload_n hx hb d_M_divide_105 rfl (lv_at hl 5 rfl) ?_
          refine lv_lsub hx hb d_M_divide_106 ?_
          refine lv_topl (fun v_107 e_107 => ?_)
          refine lv_lstore (lv' := [(7, .long v_107), (5, .long v_87), (3, .long v_82), (12, .int ov), (0, .ref h0), (1, .long c0), (9, .int k), (10, .long bt)]) hx hb d_M_divide_107 hl (by decide) rfl (fun ls hl => ?_)
          refine lv_lload hx hb d_M_divide_109 (lv_at hl 1 rfl) ?_
          refine lv_lconst (v := 1) hx hb d_M_divide_111 (by decide) ?_
          refine lv_lor hx hb d_M_divide_112 ?_
          refine lv_topl (fun v_113 e_113 => ?_)
          refine lv_lstore (lv' := [(5, .long v_113), (7, .long v_107), (3, .long v_82), (12, .int ov), (0, .ref h0), (1, .long c0), (9, .int k), (10, .long bt)]) hx hb d_M_divide_113 hl (by decide) rfl (fun ls hl => ?_)
          obtain ⟨v_115, e_115⟩ : ∃ y : Int32, y = k + (-1) := ⟨_, rfl⟩
          refine lv_iinc (v := v_115) (lv' := [(9, .int v_115), (5, .long v_113), (7, .long v_107), (3, .long v_82), (12, .int ov), (0, .ref h0), (1, .long c0), (10, .long bt)]) hx hb d_M_divide_115 hl (k := 6) rfl (by rw [e_115]; rfl) (by decide) rfl (fun ls hl => ?_)
          refine lv_goto (tgt := 12) hx hb d_M_divide_118 (by decide) ?_
          exact ih _ _ _ _ (by rw [e_107, e_113]; exact (di_s hV rfl hC0 hj j1 (by rw [e_115]; exact ek2) hq hrs hj_48 hj_62 e_71 e_82 e_87).2 (Or.inl c_91)) (kmu hk j1 (by rw [e_115]; exact ek2)) ls (lv_sub hl [5, 6, 3, 1, 2, 0] rfl)
        · refine lv_lload hx hb d_M_divide_94 (lv_at hl 2 rfl) ?_
          refine lv_lload_n hx hb d_M_divide_96 rfl (lv_at hl 5 rfl) ?_
          refine cs_i [.long v_71, .long c0] 2 rfl (rest := []) hx hb hml hown hg (c_M_below l v_71 c0) k_332 k_333 k_3 k_334 (by decide +kernel) hl.1 rfl rfl ⟨Nat.le_of_ble_eq_true rfl, Nat.le_of_ble_eq_true rfl⟩ rfl (Nat.le_of_ble_eq_true rfl) ⟨Nat.zero_le _, Nat.zero_le _⟩ d_M_divide_97 (fun r_97 h_97 => ?_)
          refine lv_if_ne (tgt := 115) hx hb d_M_divide_100 (by decide) (fun c_100 => ?_) (fun c_100 => ?_)
          · obtain ⟨v_115, e_115⟩ : ∃ y : Int32, y = k + (-1) := ⟨_, rfl⟩
            refine lv_iinc (v := v_115) (lv' := [(9, .int v_115), (5, .long v_87), (3, .long v_82), (7, .long v_71), (12, .int ov), (0, .ref h0), (1, .long c0), (10, .long bt)]) hx hb d_M_divide_115 hl (k := 6) rfl (by rw [e_115]; rfl) (by decide) rfl (fun ls hl => ?_)
            refine lv_goto (tgt := 12) hx hb d_M_divide_118 (by decide) ?_
            exact ih _ _ _ _ ((di_s hV rfl hC0 hj j1 (by rw [e_115]; exact ek2) hq hrs hj_48 hj_62 e_71 e_82 e_87).1 c_91 (b01n h_97 c_100)) (kmu hk j1 (by rw [e_115]; exact ek2)) ls (lv_sub hl [5, 6, 2, 1, 3, 0] rfl)
          · refine lv_lload hx hb d_M_divide_103 (lv_at hl 2 rfl) ?_
            refine lv_lload_n hx hb d_M_divide_105 rfl (lv_at hl 5 rfl) ?_
            refine lv_lsub hx hb d_M_divide_106 ?_
            refine lv_topl (fun v_107 e_107 => ?_)
            refine lv_lstore (lv' := [(7, .long v_107), (5, .long v_87), (3, .long v_82), (12, .int ov), (0, .ref h0), (1, .long c0), (9, .int k), (10, .long bt)]) hx hb d_M_divide_107 hl (by decide) rfl (fun ls hl => ?_)
            refine lv_lload hx hb d_M_divide_109 (lv_at hl 1 rfl) ?_
            refine lv_lconst (v := 1) hx hb d_M_divide_111 (by decide) ?_
            refine lv_lor hx hb d_M_divide_112 ?_
            refine lv_topl (fun v_113 e_113 => ?_)
            refine lv_lstore (lv' := [(5, .long v_113), (7, .long v_107), (3, .long v_82), (12, .int ov), (0, .ref h0), (1, .long c0), (9, .int k), (10, .long bt)]) hx hb d_M_divide_113 hl (by decide) rfl (fun ls hl => ?_)
            obtain ⟨v_115, e_115⟩ : ∃ y : Int32, y = k + (-1) := ⟨_, rfl⟩
            refine lv_iinc (v := v_115) (lv' := [(9, .int v_115), (5, .long v_113), (7, .long v_107), (3, .long v_82), (12, .int ov), (0, .ref h0), (1, .long c0), (10, .long bt)]) hx hb d_M_divide_115 hl (k := 6) rfl (by rw [e_115]; rfl) (by decide) rfl (fun ls hl => ?_)
            refine lv_goto (tgt := 12) hx hb d_M_divide_118 (by decide) ?_
            exact ih _ _ _ _ (by rw [e_107, e_113]; exact (di_s hV rfl hC0 hj j1 (by rw [e_115]; exact ek2) hq hrs hj_48 hj_62 e_71 e_82 e_87).2 (Or.inr (b01 h_97 c_100))) (kmu hk j1 (by rw [e_115]; exact ek2)) ls (lv_sub hl [5, 6, 3, 1, 2, 0] rfl)
      · refine rl_ge (tgt := 61) hx hb d_M_divide_53 d_M_divide_54 (by decide) (fun c_53 => ?_) (fun c_53 => ?_)
        · refine lv_iconst (v := 0) hx hb d_M_divide_61 (by decide) ?_
          exact K_62 _ (by rw [if_pos c_53]) ls (lv_sub hl [1, 2, 3, 4, 5, 6, 0] rfl)
        · refine lv_iconst (v := 1) hx hb d_M_divide_57 (by decide) ?_
          refine lv_goto (tgt := 62) hx hb d_M_divide_58 (by decide) ?_
          exact K_62 _ (by rw [if_neg c_53]) ls (lv_sub hl [1, 2, 3, 4, 5, 6, 0] rfl)
    · refine lv_icmp_le (tgt := 39) hx hb d_M_divide_21 (by decide) (fun c_21 => ?_) (fun c_21 => ?_)
      · refine lv_aload_n hx hb d_M_divide_39 rfl (lv_at hl 0 rfl) ?_
        refine mg_lo hx hb hown hg hK hP d_M_divide_40 ?_
        refine lv_iload hx hb d_M_divide_43 (lv_at hl 5 rfl) ?_
        refine lv_lushr hx hb d_M_divide_45 rfl ?_
        refine lv_lconst (v := 1) hx hb d_M_divide_46 (by decide) ?_
        refine lv_land hx hb d_M_divide_47 ?_
        exact K_48 _ (di_bl ek hj c_21 rfl) ls (lv_sub hl [0, 1, 2, 3, 4, 5] rfl)
      · refine lv_aload_n hx hb d_M_divide_24 rfl (lv_at hl 0 rfl) ?_
        refine mg_u hx hb hown hg hK hP d_M_divide_25 ?_
        refine lv_iload hx hb d_M_divide_28 (lv_at hl 5 rfl) ?_
        refine lv_bipush (v := 64) hx hb d_M_divide_30 (by decide) ?_
        refine lv_isub hx hb d_M_divide_32 ?_
        refine lv_lushr hx hb d_M_divide_33 rfl ?_
        refine lv_lconst (v := 1) hx hb d_M_divide_34 (by decide) ?_
        refine lv_land hx hb d_M_divide_35 ?_
        refine lv_goto (tgt := 48) hx hb d_M_divide_36 (by decide) ?_
        exact K_48 _ (di_bh ek hj c_21 rfl) ls (lv_sub hl [0, 1, 2, 3, 4, 5] rfl)
end
section
theorem ex_fin {a b c u2 lo2 lf2 : Int64} {x y z Q F G : Nat} {mn : Int32} (hx : x = a.toInt.natAbs) (hy : y = b.toInt.natAbs) (hz : z = c.toInt.natAbs) (hc : ¬ c = 0) (hq : Q = x * y / z) (hf : F = x * y % z)
    (hm : ¬ mn = 0 ↔ (¬ SG a b c ∧ ¬ (Q = 0 ∧ F = 0))) (hG : G = if ¬ mn = 0 ∧ ¬ F = 0 then Q + 1 else Q) (h2 : uN u2 * 18446744073709551616 + uN lo2 = G)
    (hl : lf2 = if u2 = 0 ∧ (0 ≤ lo2 ∨ (¬ mn = 0 ∧ lo2 = -9223372036854775808)) then 0 else 1) : (mn = 0 → EX a b c lo2 lf2) ∧ (¬ mn = 0 → EX a b c (-lo2) lf2) := by
  have key := ex_end (mn := decide (¬ mn = 0)) (u2 := u2) (lo2 := lo2) (lf2 := lf2) (G := G) hx hy hz hc hq hf (by rw [decide_eq_true_eq]; exact hm) (by simp only [decide_eq_true_eq]; exact hG) h2 (by simp only [decide_eq_true_eq]; exact hl)
  simp only [decide_eq_true_eq] at key
  refine ⟨fun h => ?_, fun h => ?_⟩
  · rw [if_neg (fun q => q h)] at key; exact key
  · rw [if_pos h] at key; exact key
theorem sg_of {a b c : Int64} {sx s3 : Int32} (h1 : sx = if (0 ≤ a ↔ 0 ≤ b) then 0 else 1) (h3 : s3 = if 0 ≤ c then 0 else 1) : sx = s3 ↔ SG a b c := by
  have z : (0 : Int64).toInt = 0 := rfl
  have e : SG a b c ↔ ((0 ≤ a ↔ 0 ≤ b) ↔ 0 ≤ c) := by
    unfold SG
    rw [l_le, l_le, l_le, z]
    omega
  rw [e]
  constructor
  · intro h; exact s01 h1 h3 h
  · intro h; exact Classical.byContradiction (fun q => s01n h1 h3 q h)
theorem mn_0 {a b c : Int64} {sx s3 : Int32} {X : Prop} (h1 : sx = if (0 ≤ a ↔ 0 ≤ b) then 0 else 1) (h3 : s3 = if 0 ≤ c then 0 else 1) (e : sx = s3) : ¬ (0 : Int32) = 0 ↔ (¬ SG a b c ∧ X) :=
  ⟨fun q => absurd rfl q, fun q => absurd ((sg_of h1 h3).mp e) q.1⟩
theorem mn_1 {a b c : Int64} {sx s3 : Int32} {X : Prop} (h1 : sx = if (0 ≤ a ↔ 0 ≤ b) then 0 else 1) (h3 : s3 = if 0 ≤ c then 0 else 1) (e : ¬ sx = s3) (hX : X) : ¬ (1 : Int32) = 0 ↔ (¬ SG a b c ∧ X) :=
  ⟨fun _ => ⟨fun q => e ((sg_of h1 h3).mpr q), hX⟩, fun _ => by decide⟩
theorem mn_2 {P X : Prop} (hX : ¬ X) : ¬ (0 : Int32) = 0 ↔ (P ∧ X) := ⟨fun q => absurd rfl q, fun q => absurd q.2 hX⟩
theorem nz_u {u lo : Int64} {F : Nat} (h : ¬ u = 0) : ¬ (uN u * 18446744073709551616 + uN lo = 0 ∧ F = 0) := by
  intro q
  rw [uN_eq] at h
  have z : uN 0 = 0 := rfl
  have := q.1
  generalize uN u = x at *
  generalize uN lo = y at *
  omega
theorem nz_l {u lo : Int64} {F : Nat} (h : ¬ lo = 0) : ¬ (uN u * 18446744073709551616 + uN lo = 0 ∧ F = 0) := by
  intro q
  rw [uN_eq] at h
  have z : uN 0 = 0 := rfl
  have := q.1
  generalize uN u = x at *
  generalize uN lo = y at *
  omega
theorem nz_f {lf : Int64} {Q : Nat} (h : ¬ lf = 0) : ¬ (Q = 0 ∧ uN lf = 0) := fun q => h (uN_inj (q.2.trans rfl))
theorem zz_f {u lo lf : Int64} (h1 : ¬ ¬ u = 0) (h2 : ¬ ¬ lo = 0) (h3 : lf = 0) : ¬ ¬ (uN u * 18446744073709551616 + uN lo = 0 ∧ uN lf = 0) := by
  have h1 := Classical.not_not.mp h1
  have h2 := Classical.not_not.mp h2
  rw [h1, h2, h3]
  exact fun q => q ⟨rfl, rfl⟩
theorem lf0 {lf : Int64} : lf = 0 ↔ uN lf = 0 := by rw [uN_eq]; exact Iff.rfl
theorem nd_3 {x y z Q : Nat} (h : x * 18446744073709551616 + y = Q) (hQ : Q < 340282366920938463463374607431768211455) (hx : x < 18446744073709551616) (hy : y < 18446744073709551616) (hz : z = (y + 1) % 18446744073709551616) :
    (z = 0 → (x + 1) % 18446744073709551616 * 18446744073709551616 + z = Q + 1) ∧ (¬ z = 0 → x * 18446744073709551616 + z = Q + 1) := by
  refine ⟨fun w => ?_, fun w => ?_⟩
  · have y1 : y = 18446744073709551615 := by clear h hQ; omega
    have x1 : x + 1 < 18446744073709551616 := by clear hz w; omega
    rw [Nat.mod_eq_of_lt x1, Nat.add_mul, Nat.one_mul]
    clear hz x1 hx hy hQ
    subst y1
    subst w
    subst h
    rw [Nat.add_zero]
  · have z1 : z = y + 1 := by clear h hQ; omega
    rw [z1, ← h, Nat.add_assoc]
/-- one more, over 128 bits -/
theorem inc128 {u lo lo2 w : Int64} {Q : Nat} (h : uN u * 18446744073709551616 + uN lo = Q) (hQ : Q < 340282366920938463463374607431768211455) (e : lo2 = lo + 1) (hw : w = if lo2 = 0 then u + 1 else u) : uN w * 18446744073709551616 + uN lo2 = Q + 1 := by
  have one : uN 1 = 1 := rfl
  have u1 : uN lo2 = (uN lo + 1) % 18446744073709551616 := by rw [e, uN_add, one]
  have u2 : uN (u + 1) = (uN u + 1) % 18446744073709551616 := by rw [uN_add, one]
  have c := lf0 (lf := lo2)
  have n := nd_3 h hQ (uN_lt u) (uN_lt lo) u1
  by_cases q : lo2 = 0
  · rw [if_pos q] at hw
    rw [hw, u2]
    exact n.1 (c.mp q)
  · rw [if_neg q] at hw
    rw [hw]
    exact n.2 (fun t => q (c.mpr t))
theorem q128 {x y z : Nat} (hx : x < 18446744073709551616) (hy : y < 18446744073709551616) : x * y / z < 340282366920938463463374607431768211455 := by
  have a : x * y / z ≤ x * y := Nat.div_le_self _ _
  have b : x * y ≤ 18446744073709551615 * 18446744073709551615 := Nat.mul_le_mul (by omega) (by omega)
  generalize x * y / z = p at *
  generalize x * y = q at *
  omega
theorem cz_of {c r : Int64} (hc : ¬ c = 0) (h : uN r = c.toInt.natAbs) : ¬ r = 0 := by
  have z : (0 : Int64).toInt = 0 := rfl
  rw [l_eq, z] at hc
  rw [lf0, h]
  omega
/-! between -/
def BC (n d : Int64) : Prop := 0 < d ∧ 0 ≤ n ∧ n ≤ d
def BT (a b : Int32) (n d : Int64) (r th : Int32) : Prop := (BC n d ∧ th = 0 ∧ ∃ w : Int64, FD ((b.toInt - a.toInt) * n.toInt) d.toInt w.toInt ∧ r = Int64.toInt32 (Int32.toInt64 a + w)) ∨ (¬ BC n d ∧ th = 1)
theorem bt_x (a b : Int32) : (Int32.toInt64 b - Int32.toInt64 a).toInt = b.toInt - a.toInt := by
  have h1 := ib a
  have h2 := ib b
  rw [l_sub, l_i2l, l_i2l] <;> rw [l_i2l, l_i2l] <;> omega
theorem bt_in {a b : Int32} {n d : Int64} {q : Int} (h : BC n d) (hq : FD ((b.toInt - a.toInt) * n.toInt) d.toInt q) : -4294967296 ≤ q ∧ q ≤ 4294967296 := by
  obtain ⟨h1, h2, h3⟩ := h
  have z : (0 : Int64).toInt = 0 := rfl
  rw [l_lt, z] at h1
  rw [l_le, z] at h2
  rw [l_le] at h3
  have b1 := ib a
  have b2 := ib b
  have m := mul_bd (a := b.toInt - a.toInt) (b := n.toInt) (A := 4294967296) (A2 := 4294967296) (B := d.toInt) (by omega) (by omega) h2 h3 (by decide) (by decide)
  rw [FD_pos h1] at hq
  rw [hq]
  constructor
  · rw [Int.le_ediv_iff_mul_le h1]; omega
  · have : (b.toInt - a.toInt) * n.toInt / d.toInt < 4294967296 + 1 := by
      rw [Int.ediv_lt_iff_lt_mul h1, Int.add_mul]; omega
    omega
theorem bt_ok {a b : Int32} {n d w lf : Int64} (h : BC n d) (hw : EX (Int32.toInt64 b - Int32.toInt64 a) n d w lf) : BT a b n d (Int64.toInt32 (Int32.toInt64 a + w)) 0 := by
  rcases hw with ⟨-, hw⟩ | ⟨-, hw⟩
  · rw [bt_x] at hw
    exact Or.inl ⟨h, rfl, w, hw, rfl⟩
  · exfalso
    obtain ⟨h1, -, -⟩ := id h
    have z : (0 : Int64).toInt = 0 := rfl
    rw [l_lt, z] at h1
    have k := (FD_pos (X := (b.toInt - a.toInt) * n.toInt) h1).mpr rfl
    have r := bt_in h k
    rw [bt_x] at hw
    have := hw _ k
    omega
theorem bc_d {n d : Int64} (h : BC n d) : ¬ d = 0 := fun q => by
  have := h.1
  rw [q] at this
  exact absurd this Int64.lt_irrefl
theorem bt_v {n d : Int64} {v : Int32} [Decidable (BC n d)] (h : v = if BC n d then 0 else 1) : v ≤ 0 ↔ BC n d := by
  by_cases q : BC n d
  · rw [if_pos q] at h; rw [h]; exact ⟨fun _ => q, fun _ => by decide⟩
  · rw [if_neg q] at h; rw [h]; exact ⟨fun t => absurd t (by decide), fun t => absurd t q⟩
/-! bytes -/
def FXP (c r : Int32) : Prop := r.toInt = c.toInt * 257 + if 127 < c.toInt then 1 else 0
def FXC (c : Int32) : Prop := 0 ≤ c ∧ c ≤ 255
def SHP (x y r : Int32) : Prop := r.toInt = (x.toInt * y.toInt + 128 + (x.toInt * y.toInt + 128) / 256) / 256
def SHC (x y : Int32) : Prop := 0 ≤ x ∧ x ≤ 255 ∧ 0 ≤ y ∧ y ≤ 255
theorem i255 {c : Int32} (h0 : 0 ≤ c) (h : c ≤ 255) : ∃ C : Nat, C ≤ 255 ∧ c = nI C := by
  have z : (0 : Int32).toInt = 0 := rfl
  have z2 : (255 : Int32).toInt = 255 := rfl
  rw [i_le, z] at h0
  rw [i_le, z2] at h
  exact ⟨c.toInt.toNat, by omega, Int32.toInt_inj.mp (by rw [nI_toInt (by omega)]; omega)⟩
theorem cond01 {P : Prop} [Decidable P] {v : Int32} (h : v = if P then 0 else 1) : v ≤ 0 ↔ P := by
  by_cases q : P
  · rw [if_pos q] at h; rw [h]; exact ⟨fun _ => q, fun _ => by decide⟩
  · rw [if_neg q] at h; rw [h]; exact ⟨fun t => absurd t (by decide), fun t => absurd t q⟩
theorem if1 {p : Prop} [Decidable p] : (if p then 1 else 0 : Nat) ≤ 1 := by split <;> omega
theorem fx_m {c : Int32} {C : Nat} {r : Int32} (hC : C ≤ 255) (h : c = nI C) (hr : r = nI (65536 * C / 255 + if 255 ≤ 2 * (65536 * C % 255) then 1 else 0)) : FXP c r := by
  unfold FXP
  have b := if1 (p := 255 ≤ 2 * (65536 * C % 255))
  have t1 : c.toInt = C := by rw [h, nI_toInt (by omega)]
  have t2 : r.toInt = ((65536 * C / 255 + if 255 ≤ 2 * (65536 * C % 255) then 1 else 0 : Nat) : Int) := by rw [hr, nI_toInt (by omega)]
  rw [t1, t2]
  by_cases q : C = 255
  · subst q; rfl
  · have a : 65536 * C / 255 = 257 * C := by omega
    have d : 65536 * C % 255 = C := by omega
    rw [a, d]
    by_cases w : 127 < C
    · rw [if_pos (by omega), if_pos (by omega)]; omega
    · rw [if_neg (by omega), if_neg (by omega)]; omega
theorem sh_m {x y : Int32} {X Y : Nat} {r : Int32} (hX : X ≤ 255) (hY : Y ≤ 255) (h1 : x = nI X) (h2 : y = nI Y) (hr : r = nI (X * Y / 255 + if 255 ≤ 2 * (X * Y % 255) then 1 else 0)) : SHP x y r := by
  unfold SHP
  have m : X * Y ≤ 255 * 255 := Nat.mul_le_mul hX hY
  have e : ((X * Y : Nat) : Int) = (X : Int) * Y := Int.natCast_mul _ _
  have b := if1 (p := 255 ≤ 2 * (X * Y % 255))
  have t1 : x.toInt = X := by rw [h1, nI_toInt (by omega)]
  have t3 : y.toInt = Y := by rw [h2, nI_toInt (by omega)]
  have t2 : r.toInt = ((X * Y / 255 + if 255 ≤ 2 * (X * Y % 255) then 1 else 0 : Nat) : Int) := by rw [hr, nI_toInt (by omega)]
  rw [t1, t2, t3, ← e]
  clear hr t2 t1 t3 e b
  generalize X * Y = P at *
  by_cases w : 255 ≤ 2 * (P % 255)
  · rw [if_pos w]; omega
  · rw [if_neg w]; omega
theorem ch_m {a : Int32} {A : Nat} {r : Int32} (hA : A ≤ 65536) (h : a = nI A) (hr : r = nI (255 * A / 65536 + if 65536 ≤ 2 * (255 * A % 65536) then 1 else 0)) : CH a r := by
  unfold CH
  have b := if1 (p := 65536 ≤ 2 * (255 * A % 65536))
  have t1 : a.toInt = A := by rw [h, nI_toInt (by omega)]
  have t2 : r.toInt = ((255 * A / 65536 + if 65536 ≤ 2 * (255 * A % 65536) then 1 else 0 : Nat) : Int) := by rw [hr, nI_toInt (by omega)]
  rw [t1, if_neg (show ¬ (A : Int) < 0 by omega), if_neg (show ¬ 65536 < (A : Int) by omega), t2]
  by_cases w : 65536 ≤ 2 * (255 * A % 65536)
  · rw [if_pos w]; omega
  · rw [if_neg w]; omega
theorem ch_lo {a : Int32} (c : ¬ 0 ≤ a) : CH a 0 := by
  have z : (0 : Int32).toInt = 0 := rfl
  rw [i_le, z] at c
  unfold CH
  rw [if_pos (by omega)]; rfl
theorem ch_hi {a : Int32} (c : ¬ a ≤ 65536) : CH a 255 := by
  have z : (65536 : Int32).toInt = 65536 := rfl
  rw [i_le, z] at c
  unfold CH
  rw [if_neg (by omega), if_pos (by omega)]; rfl
theorem ch_A {a : Int32} (c1 : 0 ≤ a) (c2 : a ≤ 65536) : ∃ A : Nat, A ≤ 65536 ∧ a = nI A := by
  have z : (0 : Int32).toInt = 0 := rfl
  have z2 : (65536 : Int32).toInt = 65536 := rfl
  rw [i_le, z] at c1
  rw [i_le, z2] at c2
  exact ⟨a.toInt.toNat, by omega, Int32.toInt_inj.mp (by rw [nI_toInt (by omega)]; omega)⟩
/-! the reference's halves -/
theorem fm_w {E F S : Nat} {v w : Int64} {b : Int32} (hE : E < 31) (hF : F < 1024) (hb : b = if S = 0 then 0 else 1) (hv : v = lN (sq E F)) :
    (b = 0 → (v >>> ((Int32.toInt64 8) &&& 63)).toInt = fhW E F S) ∧ (¬ b = 0 → ((-v) >>> ((Int32.toInt64 8) &&& 63)).toInt = fhW E F S) := by
  have pw : 2 ^ (E - 1) ≤ 2 ^ 30 := Nat.pow_le_pow_right (by decide) (by omega)
  have m : (1024 + F) * 2 ^ (E - 1) ≤ 2047 * 2 ^ 30 := Nat.mul_le_mul (by omega) pw
  have sb : sq E F ≤ 2047 * 2 ^ 30 := by unfold sq; split <;> omega
  have vi : v.toInt = (sq E F : Int) := by rw [hv, lT (by omega)]
  have sI : ((sq E F : Nat) : Int) = if E = 0 then (F : Int) else (1024 + F) * 2 ^ (E - 1) := by
    unfold sq
    split
    · rfl
    · rw [Int.natCast_mul, Int.natCast_pow, Int.natCast_add]; rfl
  refine ⟨fun h => ?_, fun h => ?_⟩
  · have s0 := bt_0 hb h
    rw [sr_i _ 8 (by decide), vi, sI]
    unfold fhW fhV
    rw [if_pos s0]
    by_cases q : E = 0
    · rw [if_pos q, if_pos q, if_pos q]; rfl
    · rw [if_neg q, if_neg q, if_neg q]; rfl
  · have s0 := bt_1 hb h
    rw [sr_i _ 8 (by decide), l_neg (by omega), vi, sI]
    unfold fhW fhV
    rw [if_neg s0]
    by_cases q : E = 0
    · rw [if_pos q, if_pos q, if_pos q]; rfl
    · rw [if_neg q, if_neg q, if_neg q, Int.neg_mul]; rfl
def TI (M : Nat) (lw hg : Int32) : Prop := ∃ L G : Nat, lw = nI L ∧ hg = nI G ∧ L < G ∧ G ≤ 31744 ∧ sc L ≤ M * 256 ∧ M * 256 < sc G
theorem ti_0 {M : Nat} (h : M ≤ 2147483648) : TI M 0 31744 := ⟨0, 31744, rfl, rfl, by omega, by omega, by rw [show sc 0 = 0 from rfl]; omega, by rw [show sc 31744 = 1099511627776 from by decide +kernel]; omega⟩
theorem sc_b {n : Nat} (h : n ≤ 31744) : sc n ≤ 1099511627776 := by
  have := sc_le h
  rw [show sc 31744 = 1099511627776 from by decide +kernel] at this
  exact this
theorem sc_q {n : Nat} (h : n < 32768) : lN (sq (uI (nI n) / 1024 % 32) (uI (nI n) % 1024)) = lN (sc n) := by
  rw [uI_nI (by omega)]
  unfold sc
  rw [show n / 1024 % 32 = n / 1024 by omega]
theorem du_8 {M : Nat} {m du : Int64} (hm : uN m = M) (hM : M ≤ 2147483648) (e : du = m <<< ((Int32.toInt64 8) &&& 63)) : du = lN (M * 256) := by
  apply uN_inj
  rw [e, sl_u _ 8 (by decide), hm, uN_lN (by omega)]
  omega
theorem ti_mid {M : Nat} {lw hg md : Int32} {du r : Int64} (hM : M ≤ 2147483648) (hd : du = lN (M * 256)) (h : TI M lw hg) (c : ¬ hg - lw ≤ 1) (e : md = (lw + hg) >>> ((1 : Int32) &&& 31)) (hr : r = lN (sq (uI md / 1024 % 32) (uI md % 1024))) :
    (du < r → TI M lw md ∧ (md.toInt - lw.toInt).toNat < (hg.toInt - lw.toInt).toNat) ∧ (¬ du < r → TI M md hg ∧ (hg.toInt - md.toInt).toNat < (hg.toInt - lw.toInt).toNat) := by
  obtain ⟨L, G, h1, h2, h3, h4, h5, h6⟩ := h
  rw [h1, h2, pk_sub (by omega), show (1 : Int32) = nI 1 from rfl, nI_leI (by omega) (by omega)] at c
  have em : md = nI ((L + G) / 2) := by rw [e, h1, h2, nI_add, pk_shrN (by omega) _ 1 (by decide)]
  rw [em, sc_q (by omega)] at hr
  have sb := sc_b (n := (L + G) / 2) (by omega)
  have cc : du < r ↔ M * 256 < sc ((L + G) / 2) := by rw [hd, hr, pk_lLT (by omega) (by omega)]
  have t1 : lw.toInt = L := by rw [h1, nI_toInt (by omega)]
  have t2 : hg.toInt = G := by rw [h2, nI_toInt (by omega)]
  have t3 : md.toInt = ((L + G) / 2 : Nat) := by rw [em, nI_toInt (by omega)]
  refine ⟨fun q => ⟨⟨L, (L + G) / 2, h1, em, by omega, by omega, h5, cc.mp q⟩, by omega⟩, fun q => ⟨⟨(L + G) / 2, G, em, h2, by omega, h4, Nat.not_lt.mp (fun t => q (cc.mpr t)), h6⟩, by omega⟩⟩
theorem ti_end {a lw hg hh : Int32} {du r1 r2 un ov : Int64} (hM : a.toInt.natAbs ≤ 2147483648) (hd : du = lN (a.toInt.natAbs * 256)) (h : TI a.toInt.natAbs lw hg) (c : hg - lw ≤ 1) (hr1 : r1 = lN (sq (uI lw / 1024 % 32) (uI lw % 1024))) (hr2 : r2 = lN (sq (uI (lw + 1) / 1024 % 32) (uI (lw + 1) % 1024))) (e1 : un = du - r1) (e2 : ov = r2 - du)
    (e3 : hh = if un < ov ∨ (un = ov ∧ lw - lw / 2 * 2 = 0) then lw else lw + 1) : (0 ≤ a → TH a hh) ∧ (¬ 0 ≤ a → ¬ hh ≤ 0 ∧ TH a (hh ||| 32768)) := by
  obtain ⟨L, G, h1, h2, h3, h4, h5, h6⟩ := h
  rw [h1, h2, pk_sub (by omega), show (1 : Int32) = nI 1 from rfl, nI_leI (by omega) (by omega)] at c
  have gl : G = L + 1 := by omega
  subst gl
  have l1 : lw + 1 = nI (L + 1) := by rw [h1, nI_1]
  rw [h1, sc_q (by omega)] at hr1
  rw [l1, sc_q (by omega)] at hr2
  have b1 := sc_b (n := L) (by omega)
  have b2 := sc_b (n := L + 1) h4
  have u1 : un = lN (a.toInt.natAbs * 256 - sc L) := by rw [e1, hd, hr1, lN_sub (by omega)]
  have u2 : ov = lN (sc (L + 1) - a.toInt.natAbs * 256) := by rw [e2, hd, hr2, lN_sub (by omega)]
  have g1 : un < ov ↔ a.toInt.natAbs * 256 - sc L < sc (L + 1) - a.toInt.natAbs * 256 := by rw [u1, u2, pk_lLT (by omega) (by omega)]
  have g2 : un = ov ↔ a.toInt.natAbs * 256 - sc L = sc (L + 1) - a.toInt.natAbs * 256 := by rw [u1, u2, pk_lEQ (by omega) (by omega)]
  have g3 : lw - lw / 2 * 2 = 0 ↔ L % 2 = 0 := by rw [h1, show (2 : Int32) = nI 2 from rfl, pk_rem (by omega) (by decide) (by decide), show (0 : Int32) = nI 0 from rfl, nI_eq (by omega) (by omega)]
  obtain ⟨K, hK, eK⟩ : ∃ K : Nat, hh = nI K ∧ K = if a.toInt.natAbs * 256 - sc L < sc (L + 1) - a.toInt.natAbs * 256 ∨ (a.toInt.natAbs * 256 - sc L = sc (L + 1) - a.toInt.natAbs * 256 ∧ L % 2 = 0) then L else L + 1 := by
    by_cases t : un < ov ∨ (un = ov ∧ lw - lw / 2 * 2 = 0)
    · rw [if_pos t] at e3
      rw [g1, g2, g3] at t
      exact ⟨L, by rw [e3, h1], by rw [if_pos t]⟩
    · rw [if_neg t] at e3
      rw [g1, g2, g3] at t
      exact ⟨L + 1, by rw [e3, l1], by rw [if_neg t]⟩
  have z : (0 : Int32).toInt = 0 := rfl
  have ca : 0 ≤ a ↔ 0 ≤ a.toInt := by rw [i_le, z]
  have kb : K ≤ 31744 := by rw [eK]; split <;> omega
  refine ⟨fun p => ⟨L, by omega, h5, h6, ?_⟩, fun p => ?_⟩
  · rw [hK, ← eK, if_neg (by have := ca.mp p; omega), Nat.add_zero]
  · have an : a.toInt < 0 := by have : ¬ 0 ≤ a.toInt := fun t => p (ca.mpr t); omega
    have L0 : 0 < L := by
      rcases Nat.eq_zero_or_pos L with t | t
      · subst t
        have : sc (0 + 1) = 1 := by decide
        omega
      · exact t
    have kp : 0 < K := by rw [eK]; split <;> omega
    refine ⟨by rw [hK, show (0 : Int32) = nI 0 from rfl, nI_leI (by omega) (by omega)]; omega, L, by omega, h5, h6, ?_⟩
    rw [hK, ← eK, if_pos an, Int32.or_comm, show (32768 : Int32) = nI (2 ^ 15 * 1) from rfl, or_n, ← Nat.two_pow_add_eq_or_of_lt (by omega), Nat.add_comm]
end
section
set_option maxHeartbeats 4000000 in
set_option maxRecDepth 100000 in
theorem c_M_init (l : Launch) (D : va_G) (h0 sz : Nat) (t : Int32) (u lo lf : Int64)  : Met l y_M_init w_M_init ({ frames := 1, cells := 0, slots := 0, locals := 12 } : Room) (va_Pc [.ref h0] (M_B D h0 t u lo lf sz)) (va_Qv (fun f => f = (t, u, lo, lf)) (M_at D h0 (va_A (Mw h0 t u lo lf) sz)) (va_A (Mw h0 t u lo lf) sz)) 0 0 (va_A (Mw h0 t u lo lf) sz) := by
  refine pmM (y := y_M_init) (cc := b_M_init) (maxL := 1) (ret := none) (rm := ({ frames := 1, cells := 0, slots := 0, locals := 12 } : Room)) (fun A => va_Qv (fun f => f = (t, u, lo, lf)) (M_at D h0 A) A) D h0 t u lo lf sz [] (by decide +kernel) (Nat.le_of_ble_eq_true rfl) (fun p e s m below meth c ls A hx hb hr hml hown hg hlk hnm hK hP hD hS hA hl => ?_)
  have hl : lv_has ls 1 [(0, .ref h0)] := hl
  refine lv_aload_n hx hb d_M_init_0 rfl (lv_at hl 0 rfl) ?_
  refine W.objInit hx hb hown (hg _ k_275) (hg _ k_19) (hg _ k_20) rfl (by rw [hml]; exact hl.1) rfl d_M_init_1 (Nat.le_of_ble_eq_true rfl) (Nat.le_of_ble_eq_true rfl) ?_
  refine W.eq (g2 := F0 m 4 ls []) rfl ?_
  exact rtM_v hx hb hr hlk hK hP hD hS d_M_init_4 rfl
set_option maxHeartbeats 4000000 in
set_option maxRecDepth 100000 in
theorem c_M_exact (l : Launch) (D : va_G) (h0 sz : Nat) (t : Int32) (u lo lf : Int64) (a : Int64) (b : Int64) (c0 : Int64) (hC : ¬ c0 = 0) : Met l y_M_exact w_M_exact ({ frames := 2, cells := 0, slots := 0, locals := 55 } : Room) (va_Pc [.ref h0, .long a, .long b, .long c0] (M_B D h0 t u lo lf sz)) (va_Ql (fun r f => f.1 = t ∧ EX a b c0 r f.2.2.2) (M_at D h0 (va_A (Mw h0 t u lo lf) sz)) (va_A (Mw h0 t u lo lf) sz)) 0 0 (va_A (Mw h0 t u lo lf) sz) := by
  refine pmM (y := y_M_exact) (cc := b_M_exact) (maxL := 9) (ret := (some .long)) (rm := ({ frames := 2, cells := 0, slots := 0, locals := 55 } : Room)) (fun A => va_Ql (fun r f => f.1 = t ∧ EX a b c0 r f.2.2.2) (M_at D h0 A) A) D h0 t u lo lf sz [.long a, .long b, .long c0] (by decide +kernel) (Nat.le_of_ble_eq_true rfl) (fun p e s m below meth c ls A hx hb hr hml hown hg hlk hnm hK hP hD hS hA hl => ?_)
  have hl : lv_has ls 9 [(0, .ref h0), (1, .long a), (3, .long b), (5, .long c0)] := hl
  refine lv_aload_n hx hb d_M_exact_0 rfl (lv_at hl 0 rfl) ?_
  refine lv_lload_n hx hb d_M_exact_1 rfl (lv_at hl 1 rfl) ?_
  refine cs_l [.long a] 1 rfl (rest := [.ref h0]) hx hb hml hown hg (c_M_size l a) k_304 k_305 k_3 k_306 (by decide +kernel) hl.1 rfl rfl ⟨Nat.le_of_ble_eq_true rfl, Nat.le_of_ble_eq_true rfl⟩ rfl (Nat.le_of_ble_eq_true rfl) ⟨Nat.zero_le _, Nat.zero_le _⟩ d_M_exact_2 (fun r_2 h_2 => ?_)
  refine lv_lload_n hx hb d_M_exact_5 rfl (lv_at hl 2 rfl) ?_
  refine cs_l [.long b] 1 rfl (rest := [.long r_2, .ref h0]) hx hb hml hown hg (c_M_size l b) k_304 k_305 k_3 k_306 (by decide +kernel) hl.1 rfl rfl ⟨Nat.le_of_ble_eq_true rfl, Nat.le_of_ble_eq_true rfl⟩ rfl (Nat.le_of_ble_eq_true rfl) ⟨Nat.zero_le _, Nat.zero_le _⟩ d_M_exact_6 (fun r_6 h_6 => ?_)
  refine cm_v [.long r_2, .long r_6] 2 rfl (rest := []) hx hb hml hown hg hK hP hD hS hA (c_M_multiply l D h0 _ t u lo lf r_2 r_6) k_328 k_330 k_m2 k_331 (by decide +kernel) hl.1 rfl rfl ⟨Nat.le_of_ble_eq_true rfl, Nat.le_of_ble_eq_true rfl⟩ rfl (Nat.le_of_ble_eq_true rfl) ⟨Nat.zero_le _, Nat.zero_le _⟩ d_M_exact_9 (fun t2 u2 lo2 lf2 H locs hw1 hP hD hS => ?_)
  refine lv_aload_n hx hb d_M_exact_12 rfl (lv_at hl 0 rfl) ?_
  refine lv_lload hx hb d_M_exact_13 (lv_at hl 3 rfl) ?_
  refine cs_l [.long c0] 1 rfl (rest := [.ref h0]) hx hb hml hown hg (c_M_size l c0) k_304 k_305 k_3 k_306 (by decide +kernel) hl.1 rfl rfl ⟨Nat.le_of_ble_eq_true rfl, Nat.le_of_ble_eq_true rfl⟩ rfl (Nat.le_of_ble_eq_true rfl) ⟨Nat.zero_le _, Nat.zero_le _⟩ d_M_exact_15 (fun r_15 h_15 => ?_)
  refine cm_v [.long r_15] 1 rfl (rest := []) hx hb hml hown hg hK hP hD hS hA (c_M_divide l D h0 _ t2 u2 lo2 lf2 r_15 (cz_of hC h_15)) k_336 k_338 k_m1 k_339 (by decide +kernel) hl.1 rfl rfl ⟨Nat.le_of_ble_eq_true rfl, Nat.le_of_ble_eq_true rfl⟩ rfl (Nat.le_of_ble_eq_true rfl) ⟨Nat.zero_le _, Nat.zero_le _⟩ d_M_exact_18 (fun t3 u3 lo3 lf3 H locs hw2 hP hD hS => ?_)
  obtain ⟨hw3, hw4⟩ := hw1
  obtain ⟨hw5, hw6, hw7⟩ := hw2
  dsimp only at hw3 hw4 hw5 hw6 hw7
  rw [hw4] at hw6 hw7
  refine lv_lload_n hx hb d_M_exact_21 rfl (lv_at hl 1 rfl) ?_
  refine lv_lconst (v := 0) hx hb d_M_exact_22 (by decide) ?_
  refine jn1 (α1 := Int32) 32 9 (fun s1 => s1 = if 0 ≤ a then 0 else 1) (fun s1 => [(0, .ref h0), (1, .long a), (3, .long b), (5, .long c0)]) (fun s1 => [.int s1]) (fun s1 hj_32 ls hl => ?_) (fun K_32 => ?_)
  · have hl : lv_has ls 9 [(0, .ref h0), (1, .long a), (3, .long b), (5, .long c0)] := hl
    refine lv_lload_n hx hb d_M_exact_32 rfl (lv_at hl 2 rfl) ?_
    refine lv_lconst (v := 0) hx hb d_M_exact_33 (by decide) ?_
    refine jn1 (α1 := Int32) 43 9 (fun s2 => s2 = if 0 ≤ b then 0 else 1) (fun s2 => [(0, .ref h0), (1, .long a), (3, .long b), (5, .long c0)]) (fun s2 => [.int s2, .int s1]) (fun s2 hj_43 ls hl => ?_) (fun K_43 => ?_)
    · have hl : lv_has ls 9 [(0, .ref h0), (1, .long a), (3, .long b), (5, .long c0)] := hl
      refine jn1 (α1 := Int32) 51 9 (fun sx => sx = if (0 ≤ a ↔ 0 ≤ b) then 0 else 1) (fun sx => [(0, .ref h0), (1, .long a), (3, .long b), (5, .long c0)]) (fun sx => [.int sx]) (fun sx hj_51 ls hl => ?_) (fun K_51 => ?_)
      · have hl : lv_has ls 9 [(0, .ref h0), (1, .long a), (3, .long b), (5, .long c0)] := hl
        refine lv_lload hx hb d_M_exact_51 (lv_at hl 3 rfl) ?_
        refine lv_lconst (v := 0) hx hb d_M_exact_53 (by decide) ?_
        refine jn1 (α1 := Int32) 63 9 (fun s3 => s3 = if 0 ≤ c0 then 0 else 1) (fun s3 => [(0, .ref h0), (1, .long a), (3, .long b), (5, .long c0)]) (fun s3 => [.int s3, .int sx]) (fun s3 hj_63 ls hl => ?_) (fun K_63 => ?_)
        · have hl : lv_has ls 9 [(0, .ref h0), (1, .long a), (3, .long b), (5, .long c0)] := hl
          refine jn1 (α1 := Int32) 98 9 (fun mn => ¬ mn = 0 ↔ (¬ SG a b c0 ∧ ¬ (uN u3 * 18446744073709551616 + uN lo3 = 0 ∧ uN lf3 = 0))) (fun mn => [(0, .ref h0), (1, .long a), (3, .long b), (5, .long c0)]) (fun mn => [.int mn]) (fun mn hj_98 ls hl => ?_) (fun K_98 => ?_)
          · have hl : lv_has ls 9 [(0, .ref h0), (1, .long a), (3, .long b), (5, .long c0)] := hl
            refine lv_istore (lv' := [(7, .int mn), (0, .ref h0), (1, .long a), (3, .long b), (5, .long c0)]) hx hb d_M_exact_98 hl (by decide) rfl (fun ls hl => ?_)
            refine lv_iload hx hb d_M_exact_100 (lv_at hl 0 rfl) ?_
            refine jw2 (α1 := Int64) (α2 := Int64) (D := D) (cl := classes) (A := A) (H0 := s.heap) 150 9 (fun u4 lo4 => uN u4 * 18446744073709551616 + uN lo4 = if ¬ mn = 0 ∧ ¬ uN lf3 = 0 then uN u3 * 18446744073709551616 + uN lo3 + 1 else uN u3 * 18446744073709551616 + uN lo3) (fun _ _ => [(0, .ref h0), (7, .int mn)]) (fun _ _ => []) (fun u4 lo4 => Mw h0 t3 u4 lo4 lf3) (fun u4 lo4 hj_150 H locs hP hD hS ls hl => ?_) (fun K_150 => ?_)
            · have hl : lv_has ls 9 [(0, .ref h0), (7, .int mn)] := hl
              have hP : va_P D classes (Mw h0 t3 u4 lo4 lf3) H := hP
              have hD : va_D A (Mw h0 t3 u4 lo4 lf3) := hD
              refine lv_aload_n hx hb d_M_exact_150 rfl (lv_at hl 0 rfl) ?_
              refine mg_u hx hb hown hg hK hP d_M_exact_151 ?_
              refine lv_lconst (v := 0) hx hb d_M_exact_154 (by decide) ?_
              refine jn1 (α1 := Int32) 189 9 (fun ft => ft = if u4 = 0 ∧ (0 ≤ lo4 ∨ (¬ mn = 0 ∧ lo4 = -9223372036854775808)) then 1 else 0) (fun ft => [(0, .ref h0), (7, .int mn)]) (fun ft => [.int ft]) (fun ft hj_189 ls hl => ?_) (fun K_189 => ?_)
              · have hl : lv_has ls 9 [(0, .ref h0), (7, .int mn)] := hl
                refine lv_istore (lv' := [(8, .int ft), (0, .ref h0), (7, .int mn)]) hx hb d_M_exact_189 hl (by decide) rfl (fun ls hl => ?_)
                refine lv_aload_n hx hb d_M_exact_191 rfl (lv_at hl 1 rfl) ?_
                refine lv_iload hx hb d_M_exact_192 (lv_at hl 0 rfl) ?_
                refine jn1 (α1 := Int64) 202 9 (fun v => v = if u4 = 0 ∧ (0 ≤ lo4 ∨ (¬ mn = 0 ∧ lo4 = -9223372036854775808)) then 0 else 1) (fun v => [(0, .ref h0), (7, .int mn)]) (fun v => [.long v, .ref h0]) (fun v hj_202 ls hl => ?_) (fun K_202 => ?_)
                · have hl : lv_has ls 9 [(0, .ref h0), (7, .int mn)] := hl
                  refine mp_lf hx hb hown hg hK hP hD hS d_M_exact_202 (fun H locs hP hD hS => ?_)
                  refine lv_iload hx hb d_M_exact_205 (lv_at hl 1 rfl) ?_
                  have key := ex_fin h_2 h_6 h_15 hC hw6 hw7 hj_98 rfl hj_150 hj_202
                  refine lv_if_eq (tgt := 218) hx hb d_M_exact_207 (by decide) (fun c_207 => ?_) (fun c_207 => ?_)
                  · refine lv_aload_n hx hb d_M_exact_218 rfl (lv_at hl 0 rfl) ?_
                    refine mg_lo hx hb hown hg hK hP d_M_exact_219 ?_
                    exact rtM_l hx hb hr hlk hK hP hD hS d_M_exact_222 ⟨(hw5.trans hw3), key.1 c_207⟩
                  · refine lv_aload_n hx hb d_M_exact_210 rfl (lv_at hl 0 rfl) ?_
                    refine mg_lo hx hb hown hg hK hP d_M_exact_211 ?_
                    refine lv_lneg hx hb d_M_exact_214 ?_
                    refine lv_goto (tgt := 222) hx hb d_M_exact_215 (by decide) ?_
                    exact rtM_l hx hb hr hlk hK hP hD hS d_M_exact_222 ⟨(hw5.trans hw3), key.2 c_207⟩
                · refine lv_if_eq (tgt := 201) hx hb d_M_exact_194 (by decide) (fun c_194 => ?_) (fun c_194 => ?_)
                  · refine lv_lconst (v := 1) hx hb d_M_exact_201 (by decide) ?_
                    exact K_202 _ (by rw [if_neg (b01 hj_189 c_194)]) ls (lv_sub hl [1, 2] rfl)
                  · refine lv_lconst (v := 0) hx hb d_M_exact_197 (by decide) ?_
                    refine lv_goto (tgt := 202) hx hb d_M_exact_198 (by decide) ?_
                    exact K_202 _ (by rw [if_pos (b01n hj_189 c_194)]) ls (lv_sub hl [1, 2] rfl)
              · refine rl_ne (tgt := 188) hx hb d_M_exact_155 d_M_exact_156 (by decide) (fun c_155 => ?_) (fun c_155 => ?_)
                · refine lv_iconst (v := 0) hx hb d_M_exact_188 (by decide) ?_
                  exact K_189 _ (by rw [if_neg (fun q => c_155 q.1)]) ls (lv_sub hl [0, 1] rfl)
                · refine lv_aload_n hx hb d_M_exact_159 rfl (lv_at hl 0 rfl) ?_
                  refine mg_lo hx hb hown hg hK hP d_M_exact_160 ?_
                  refine lv_lconst (v := 0) hx hb d_M_exact_163 (by decide) ?_
                  refine rl_ge (tgt := 184) hx hb d_M_exact_164 d_M_exact_165 (by decide) (fun c_164 => ?_) (fun c_164 => ?_)
                  · refine lv_iconst (v := 1) hx hb d_M_exact_184 (by decide) ?_
                    refine lv_goto (tgt := 189) hx hb d_M_exact_185 (by decide) ?_
                    exact K_189 _ (by rw [if_pos ⟨c_155, Or.inl c_164⟩]) ls (lv_sub hl [0, 1] rfl)
                  · refine lv_iload hx hb d_M_exact_168 (lv_at hl 1 rfl) ?_
                    refine lv_if_eq (tgt := 188) hx hb d_M_exact_170 (by decide) (fun c_170 => ?_) (fun c_170 => ?_)
                    · refine lv_iconst (v := 0) hx hb d_M_exact_188 (by decide) ?_
                      exact K_189 _ (by rw [if_neg (fun q => q.2.elim c_164 (fun q => q.1 c_170))]) ls (lv_sub hl [0, 1] rfl)
                    · refine lv_aload_n hx hb d_M_exact_173 rfl (lv_at hl 0 rfl) ?_
                      refine mg_lo hx hb hown hg hK hP d_M_exact_174 ?_
                      refine lv_ldc2 (v := -9223372036854775808) hx hb hown (hg _ k_335) d_M_exact_177 ?_
                      refine rl_ne (tgt := 188) hx hb d_M_exact_180 d_M_exact_181 (by decide) (fun c_180 => ?_) (fun c_180 => ?_)
                      · refine lv_iconst (v := 0) hx hb d_M_exact_188 (by decide) ?_
                        exact K_189 _ (by rw [if_neg (fun q => q.2.elim c_164 (fun q => c_180 q.2))]) ls (lv_sub hl [0, 1] rfl)
                      · refine lv_iconst (v := 1) hx hb d_M_exact_184 (by decide) ?_
                        refine lv_goto (tgt := 189) hx hb d_M_exact_185 (by decide) ?_
                        exact K_189 _ (by rw [if_pos ⟨c_155, Or.inr ⟨c_170, c_180⟩⟩]) ls (lv_sub hl [0, 1] rfl)
            · refine lv_if_eq (tgt := 150) hx hb d_M_exact_102 (by decide) (fun c_102 => ?_) (fun c_102 => ?_)
              · exact K_150 _ _ (by rw [if_neg (fun q => q.1 c_102)]) _ _ hP hD hS ls (lv_sub hl [1, 0] rfl)
              · refine lv_aload_n hx hb d_M_exact_105 rfl (lv_at hl 1 rfl) ?_
                refine mg_lf hx hb hown hg hK hP d_M_exact_106 ?_
                refine lv_lconst (v := 0) hx hb d_M_exact_109 (by decide) ?_
                refine rl_eq (tgt := 150) hx hb d_M_exact_110 d_M_exact_111 (by decide) (fun c_110 => ?_) (fun c_110 => ?_)
                · exact K_150 _ _ (by rw [if_neg (fun q => q.2 (lf0.mp c_110))]) _ _ hP hD hS ls (lv_sub hl [1, 0] rfl)
                · refine lv_aload_n hx hb d_M_exact_114 rfl (lv_at hl 1 rfl) ?_
                  refine lv_aload_n hx hb d_M_exact_115 rfl (lv_at hl 1 rfl) ?_
                  refine mg_lo hx hb hown hg hK hP d_M_exact_116 ?_
                  refine lv_lconst (v := 1) hx hb d_M_exact_119 (by decide) ?_
                  refine lv_ladd hx hb d_M_exact_120 ?_
                  refine lv_topl (fun v_121 e_121 => ?_)
                  refine mp_lo hx hb hown hg hK hP hD hS d_M_exact_121 (fun H locs hP hD hS => ?_)
                  refine lv_aload_n hx hb d_M_exact_124 rfl (lv_at hl 1 rfl) ?_
                  refine lv_aload_n hx hb d_M_exact_125 rfl (lv_at hl 1 rfl) ?_
                  refine mg_lo hx hb hown hg hK hP d_M_exact_126 ?_
                  refine lv_lconst (v := 0) hx hb d_M_exact_129 (by decide) ?_
                  refine jn1 (α1 := Int64) 147 9 (fun w => w = if v_121 = 0 then u3 + 1 else u3) (fun w => [(0, .ref h0), (7, .int mn)]) (fun w => [.long w, .ref h0]) (fun w hj_147 ls hl => ?_) (fun K_147 => ?_)
                  · have hl : lv_has ls 9 [(0, .ref h0), (7, .int mn)] := hl
                    refine mp_u hx hb hown hg hK hP hD hS d_M_exact_147 (fun H locs hP hD hS => ?_)
                    exact K_150 _ _ (by rw [if_pos ⟨c_102, fun q => c_110 (lf0.mpr q)⟩]; exact inc128 rfl (by rw [hw6]; exact q128 (uN_lt _) (uN_lt _)) e_121 hj_147) _ _ hP hD hS ls (lv_sub hl [0, 1] rfl)
                  · refine rl_ne (tgt := 143) hx hb d_M_exact_130 d_M_exact_131 (by decide) (fun c_130 => ?_) (fun c_130 => ?_)
                    · refine lv_aload_n hx hb d_M_exact_143 rfl (lv_at hl 1 rfl) ?_
                      refine mg_u hx hb hown hg hK hP d_M_exact_144 ?_
                      exact K_147 _ (by rw [if_neg c_130]) ls (lv_sub hl [1, 0] rfl)
                    · refine lv_aload_n hx hb d_M_exact_134 rfl (lv_at hl 1 rfl) ?_
                      refine mg_u hx hb hown hg hK hP d_M_exact_135 ?_
                      refine lv_lconst (v := 1) hx hb d_M_exact_138 (by decide) ?_
                      refine lv_ladd hx hb d_M_exact_139 ?_
                      refine lv_goto (tgt := 147) hx hb d_M_exact_140 (by decide) ?_
                      exact K_147 _ (by rw [if_pos c_130]) ls (lv_sub hl [1, 0] rfl)
          · refine lv_icmp_eq (tgt := 97) hx hb d_M_exact_63 (by decide) (fun c_63 => ?_) (fun c_63 => ?_)
            · refine lv_iconst (v := 0) hx hb d_M_exact_97 (by decide) ?_
              exact K_98 _ (mn_0 hj_51 hj_63 c_63) ls (lv_sub hl [0, 1, 2, 3] rfl)
            · refine lv_aload_n hx hb d_M_exact_66 rfl (lv_at hl 0 rfl) ?_
              refine mg_u hx hb hown hg hK hP d_M_exact_67 ?_
              refine lv_lconst (v := 0) hx hb d_M_exact_70 (by decide) ?_
              refine rl_ne (tgt := 93) hx hb d_M_exact_71 d_M_exact_72 (by decide) (fun c_71 => ?_) (fun c_71 => ?_)
              · refine lv_iconst (v := 1) hx hb d_M_exact_93 (by decide) ?_
                refine lv_goto (tgt := 98) hx hb d_M_exact_94 (by decide) ?_
                exact K_98 _ (mn_1 hj_51 hj_63 c_63 (nz_u c_71)) ls (lv_sub hl [0, 1, 2, 3] rfl)
              · refine lv_aload_n hx hb d_M_exact_75 rfl (lv_at hl 0 rfl) ?_
                refine mg_lo hx hb hown hg hK hP d_M_exact_76 ?_
                refine lv_lconst (v := 0) hx hb d_M_exact_79 (by decide) ?_
                refine rl_ne (tgt := 93) hx hb d_M_exact_80 d_M_exact_81 (by decide) (fun c_80 => ?_) (fun c_80 => ?_)
                · refine lv_iconst (v := 1) hx hb d_M_exact_93 (by decide) ?_
                  refine lv_goto (tgt := 98) hx hb d_M_exact_94 (by decide) ?_
                  exact K_98 _ (mn_1 hj_51 hj_63 c_63 (nz_l c_80)) ls (lv_sub hl [0, 1, 2, 3] rfl)
                · refine lv_aload_n hx hb d_M_exact_84 rfl (lv_at hl 0 rfl) ?_
                  refine mg_lf hx hb hown hg hK hP d_M_exact_85 ?_
                  refine lv_lconst (v := 0) hx hb d_M_exact_88 (by decide) ?_
                  refine rl_eq (tgt := 97) hx hb d_M_exact_89 d_M_exact_90 (by decide) (fun c_89 => ?_) (fun c_89 => ?_)
                  · refine lv_iconst (v := 0) hx hb d_M_exact_97 (by decide) ?_
                    exact K_98 _ (mn_2 (zz_f (fun q => q c_71) (fun q => q c_80) c_89)) ls (lv_sub hl [0, 1, 2, 3] rfl)
                  · refine lv_iconst (v := 1) hx hb d_M_exact_93 (by decide) ?_
                    refine lv_goto (tgt := 98) hx hb d_M_exact_94 (by decide) ?_
                    exact K_98 _ (mn_1 hj_51 hj_63 c_63 (nz_f c_89)) ls (lv_sub hl [0, 1, 2, 3] rfl)
        · refine rl_ge (tgt := 62) hx hb d_M_exact_54 d_M_exact_55 (by decide) (fun c_54 => ?_) (fun c_54 => ?_)
          · refine lv_iconst (v := 0) hx hb d_M_exact_62 (by decide) ?_
            exact K_63 _ (by rw [if_pos c_54]) ls (lv_sub hl [0, 1, 2, 3] rfl)
          · refine lv_iconst (v := 1) hx hb d_M_exact_58 (by decide) ?_
            refine lv_goto (tgt := 63) hx hb d_M_exact_59 (by decide) ?_
            exact K_63 _ (by rw [if_neg c_54]) ls (lv_sub hl [0, 1, 2, 3] rfl)
      · refine lv_icmp_eq (tgt := 50) hx hb d_M_exact_43 (by decide) (fun c_43 => ?_) (fun c_43 => ?_)
        · refine lv_iconst (v := 0) hx hb d_M_exact_50 (by decide) ?_
          exact K_51 _ (by rw [if_pos (s01 hj_32 hj_43 c_43)]) ls (lv_sub hl [0, 1, 2, 3] rfl)
        · refine lv_iconst (v := 1) hx hb d_M_exact_46 (by decide) ?_
          refine lv_goto (tgt := 51) hx hb d_M_exact_47 (by decide) ?_
          exact K_51 _ (by rw [if_neg (s01n hj_32 hj_43 c_43)]) ls (lv_sub hl [0, 1, 2, 3] rfl)
    · refine rl_ge (tgt := 42) hx hb d_M_exact_34 d_M_exact_35 (by decide) (fun c_34 => ?_) (fun c_34 => ?_)
      · refine lv_iconst (v := 0) hx hb d_M_exact_42 (by decide) ?_
        exact K_43 _ (by rw [if_pos c_34]) ls (lv_sub hl [0, 1, 2, 3] rfl)
      · refine lv_iconst (v := 1) hx hb d_M_exact_38 (by decide) ?_
        refine lv_goto (tgt := 43) hx hb d_M_exact_39 (by decide) ?_
        exact K_43 _ (by rw [if_neg c_34]) ls (lv_sub hl [0, 1, 2, 3] rfl)
  · refine rl_ge (tgt := 31) hx hb d_M_exact_23 d_M_exact_24 (by decide) (fun c_23 => ?_) (fun c_23 => ?_)
    · refine lv_iconst (v := 0) hx hb d_M_exact_31 (by decide) ?_
      exact K_32 _ (by rw [if_pos c_23]) ls (lv_sub hl [0, 1, 2, 3] rfl)
    · refine lv_iconst (v := 1) hx hb d_M_exact_27 (by decide) ?_
      refine lv_goto (tgt := 32) hx hb d_M_exact_28 (by decide) ?_
      exact K_32 _ (by rw [if_neg c_23]) ls (lv_sub hl [0, 1, 2, 3] rfl)
set_option maxHeartbeats 4000000 in
set_option maxRecDepth 100000 in
theorem c_M_ratio (l : Launch) (D : va_G) (h0 sz : Nat) (t : Int32) (u lo lf : Int64) (a : Int64) (b : Int64) (c0 : Int64) : Met l y_M_ratio w_M_ratio ({ frames := 3, cells := 0, slots := 0, locals := 83 } : Room) (va_Pc [.ref h0, .long a, .long b, .long c0] (M_B D h0 t u lo lf sz)) (va_Ql (fun r f => (f.1 = 0 ∧ ¬ c0 = 0 ∧ FD (a.toInt * b.toInt) c0.toInt r.toInt) ∨ (f.1 = 1 ∧ (c0 = 0 ∨ ∀ q : Int, FD (a.toInt * b.toInt) c0.toInt q → q < -9223372036854775808 ∨ 9223372036854775808 ≤ q))) (M_at D h0 (va_A (Mw h0 t u lo lf) sz)) (va_A (Mw h0 t u lo lf) sz)) 0 0 (va_A (Mw h0 t u lo lf) sz) := by
  refine pmM (y := y_M_ratio) (cc := b_M_ratio) (maxL := 9) (ret := (some .long)) (rm := ({ frames := 3, cells := 0, slots := 0, locals := 83 } : Room)) (fun A => va_Ql (fun r f => (f.1 = 0 ∧ ¬ c0 = 0 ∧ FD (a.toInt * b.toInt) c0.toInt r.toInt) ∨ (f.1 = 1 ∧ (c0 = 0 ∨ ∀ q : Int, FD (a.toInt * b.toInt) c0.toInt q → q < -9223372036854775808 ∨ 9223372036854775808 ≤ q))) (M_at D h0 A) A) D h0 t u lo lf sz [.long a, .long b, .long c0] (by decide +kernel) (Nat.le_of_ble_eq_true rfl) (fun p e s m below meth c ls A hx hb hr hml hown hg hlk hnm hK hP hD hS hA hl => ?_)
  have hl : lv_has ls 9 [(0, .ref h0), (1, .long a), (3, .long b), (5, .long c0)] := hl
  refine lv_aload_n hx hb d_M_ratio_0 rfl (lv_at hl 0 rfl) ?_
  refine lv_iconst (v := 1) hx hb d_M_ratio_1 (by decide) ?_
  refine mp_t hx hb hown hg hK hP hD hS d_M_ratio_2 (fun H locs hP hD hS => ?_)
  refine lv_lload hx hb d_M_ratio_5 (lv_at hl 3 rfl) ?_
  refine lv_lconst (v := 0) hx hb d_M_ratio_7 (by decide) ?_
  refine rl_ne (tgt := 14) hx hb d_M_ratio_8 d_M_ratio_9 (by decide) (fun c_8 => ?_) (fun c_8 => ?_)
  · refine lv_aload_n hx hb d_M_ratio_14 rfl (lv_at hl 0 rfl) ?_
    refine lv_lload_n hx hb d_M_ratio_15 rfl (lv_at hl 1 rfl) ?_
    refine lv_lload_n hx hb d_M_ratio_16 rfl (lv_at hl 2 rfl) ?_
    refine lv_lload hx hb d_M_ratio_17 (lv_at hl 3 rfl) ?_
    refine cm_l [.long a, .long b, .long c0] 3 rfl (rest := []) hx hb hml hown hg hK hP hD hS hA (c_M_exact l D h0 _ 1 u lo lf a b c0 c_8) k_324 k_326 k_m3 k_327 (by decide +kernel) hl.1 rfl rfl ⟨Nat.le_of_ble_eq_true rfl, Nat.le_of_ble_eq_true rfl⟩ rfl (Nat.le_of_ble_eq_true rfl) ⟨Nat.zero_le _, Nat.zero_le _⟩ d_M_ratio_19 (fun r_19 t2 u2 lo2 lf2 H locs hw1 hP hD hS => ?_)
    refine lv_lstore (lv' := [(7, .long r_19), (0, .ref h0), (1, .long a), (3, .long b), (5, .long c0)]) hx hb d_M_ratio_22 hl (by decide) rfl (fun ls hl => ?_)
    refine lv_aload_n hx hb d_M_ratio_24 rfl (lv_at hl 1 rfl) ?_
    refine lv_aload_n hx hb d_M_ratio_25 rfl (lv_at hl 1 rfl) ?_
    refine mg_lf hx hb hown hg hK hP d_M_ratio_26 ?_
    refine lv_lconst (v := 0) hx hb d_M_ratio_29 (by decide) ?_
    dsimp only at hw1
    refine jn1 (α1 := Int32) 39 9 (fun v => v = if lf2 = 0 then 0 else 1) (fun v => [(0, .ref h0), (7, .long r_19)]) (fun v => [.int v, .ref h0]) (fun v hj_39 ls hl => ?_) (fun K_39 => ?_)
    · have hl : lv_has ls 9 [(0, .ref h0), (7, .long r_19)] := hl
      refine mp_t hx hb hown hg hK hP hD hS d_M_ratio_39 (fun H locs hP hD hS => ?_)
      refine lv_aload_n hx hb d_M_ratio_42 rfl (lv_at hl 0 rfl) ?_
      refine mg_lf hx hb hown hg hK hP d_M_ratio_43 ?_
      refine lv_lconst (v := 0) hx hb d_M_ratio_46 (by decide) ?_
      refine rl_ne (tgt := 56) hx hb d_M_ratio_47 d_M_ratio_48 (by decide) (fun c_47 => ?_) (fun c_47 => ?_)
      · refine lv_lconst (v := 0) hx hb d_M_ratio_56 (by decide) ?_
        exact rtM_l hx hb hr hlk hK hP hD hS d_M_ratio_57 (by rw [if_neg c_47] at hj_39; exact Or.inr ⟨hj_39, Or.inr (hw1.2.elim (fun q => absurd q.1 c_47) (fun q => q.2))⟩)
      · refine lv_lload hx hb d_M_ratio_51 (lv_at hl 1 rfl) ?_
        refine lv_goto (tgt := 57) hx hb d_M_ratio_53 (by decide) ?_
        exact rtM_l hx hb hr hlk hK hP hD hS d_M_ratio_57 (by rw [if_pos c_47] at hj_39; exact Or.inl ⟨hj_39, c_8, hw1.2.elim (fun q => q.2) (fun q => absurd c_47 q.1)⟩)
    · refine rl_ne (tgt := 38) hx hb d_M_ratio_30 d_M_ratio_31 (by decide) (fun c_30 => ?_) (fun c_30 => ?_)
      · refine lv_iconst (v := 1) hx hb d_M_ratio_38 (by decide) ?_
        exact K_39 _ (by rw [if_neg c_30]) ls (lv_sub hl [1, 0] rfl)
      · refine lv_iconst (v := 0) hx hb d_M_ratio_34 (by decide) ?_
        refine lv_goto (tgt := 39) hx hb d_M_ratio_35 (by decide) ?_
        exact K_39 _ (by rw [if_pos c_30]) ls (lv_sub hl [1, 0] rfl)
  · refine lv_lconst (v := 0) hx hb d_M_ratio_12 (by decide) ?_
    exact rtM_l hx hb hr hlk hK hP hD hS d_M_ratio_13 (Or.inr ⟨rfl, Or.inl c_8⟩)
set_option maxHeartbeats 4000000 in
set_option maxRecDepth 100000 in
theorem c_M_between (l : Launch) (D : va_G) (h0 sz : Nat) (t : Int32) (u lo lf : Int64) (a : Int32) (b : Int32) (n : Int64) (d0 : Int64) : Met l y_M_between w_M_between ({ frames := 3, cells := 0, slots := 0, locals := 83 } : Room) (va_Pc [.ref h0, .int a, .int b, .long n, .long d0] (M_B D h0 t u lo lf sz)) (va_Qi (fun r f => BT a b n d0 r f.1) (M_at D h0 (va_A (Mw h0 t u lo lf) sz)) (va_A (Mw h0 t u lo lf) sz)) 0 0 (va_A (Mw h0 t u lo lf) sz) := by
  refine pmM (y := y_M_between) (cc := b_M_between) (maxL := 7) (ret := (some .int)) (rm := ({ frames := 3, cells := 0, slots := 0, locals := 83 } : Room)) (fun A => va_Qi (fun r f => BT a b n d0 r f.1) (M_at D h0 A) A) D h0 t u lo lf sz [.int a, .int b, .long n, .long d0] (by decide +kernel) (Nat.le_of_ble_eq_true rfl) (fun p e s m below meth c ls A hx hb hr hml hown hg hlk hnm hK hP hD hS hA hl => ?_)
  have hl : lv_has ls 7 [(0, .ref h0), (1, .int a), (2, .int b), (3, .long n), (5, .long d0)] := hl
  refine lv_aload_n hx hb d_M_between_0 rfl (lv_at hl 0 rfl) ?_
  refine lv_lload hx hb d_M_between_1 (lv_at hl 4 rfl) ?_
  refine lv_lconst (v := 0) hx hb d_M_between_3 (by decide) ?_
  have dec : ∀ P : Prop, P ∨ ¬ P := Classical.em
  refine jn1 (α1 := Int32) 26 7 (fun v => (BC n d0 ∧ v = 0) ∨ (¬ BC n d0 ∧ v = 1)) (fun v => [(0, .ref h0), (1, .int a), (2, .int b), (3, .long n), (5, .long d0)]) (fun v => [.int v, .ref h0]) (fun v hj_26 ls hl => ?_) (fun K_26 => ?_)
  · have hl : lv_has ls 7 [(0, .ref h0), (1, .int a), (2, .int b), (3, .long n), (5, .long d0)] := hl
    refine mp_t hx hb hown hg hK hP hD hS d_M_between_26 (fun H locs hP hD hS => ?_)
    refine lv_aload_n hx hb d_M_between_29 rfl (lv_at hl 0 rfl) ?_
    refine mg_t hx hb hown hg hK hP d_M_between_30 ?_
    refine lv_if_le (tgt := 38) hx hb d_M_between_33 (by decide) (fun c_33 => ?_) (fun c_33 => ?_)
    · have hBC : BC n d0 := hj_26.elim (fun q => q.1) (fun q => absurd c_33 (by rw [q.2]; decide))
      have hv0 : v = 0 := hj_26.elim (fun q => q.2) (fun q => absurd hBC q.1)
      refine lv_iload_n hx hb d_M_between_38 rfl (lv_at hl 1 rfl) ?_
      refine lv_i2l hx hb d_M_between_39 rfl ?_
      refine lv_aload_n hx hb d_M_between_40 rfl (lv_at hl 0 rfl) ?_
      refine lv_iload_n hx hb d_M_between_41 rfl (lv_at hl 2 rfl) ?_
      refine lv_i2l hx hb d_M_between_42 rfl ?_
      refine lv_iload_n hx hb d_M_between_43 rfl (lv_at hl 1 rfl) ?_
      refine lv_i2l hx hb d_M_between_44 rfl ?_
      refine lv_lsub hx hb d_M_between_45 ?_
      refine lv_lload_n hx hb d_M_between_46 rfl (lv_at hl 3 rfl) ?_
      refine lv_lload hx hb d_M_between_47 (lv_at hl 4 rfl) ?_
      refine cm_l [.long ((Int32.toInt64 b) - (Int32.toInt64 a)), .long n, .long d0] 3 rfl (rest := [.long (Int32.toInt64 a)]) hx hb hml hown hg hK hP hD hS hA (c_M_exact l D h0 _ v u lo lf (Int32.toInt64 b - Int32.toInt64 a) n d0 (bc_d hBC)) k_324 k_326 k_m3 k_327 (by decide +kernel) hl.1 rfl rfl ⟨Nat.le_of_ble_eq_true rfl, Nat.le_of_ble_eq_true rfl⟩ rfl (Nat.le_of_ble_eq_true rfl) ⟨Nat.zero_le _, Nat.zero_le _⟩ d_M_between_49 (fun r_49 t2 u2 lo2 lf2 H locs hw1 hP hD hS => ?_)
      refine lv_ladd hx hb d_M_between_52 ?_
      refine lv_l2i hx hb d_M_between_53 rfl ?_
      dsimp only at hw1
      exact rtM_i hx hb hr hlk hK hP hD hS d_M_between_54 (by have q := bt_ok hBC hw1.2; rw [show t2 = 0 from hw1.1.trans hv0]; exact q)
    · refine lv_iconst (v := 0) hx hb d_M_between_36 (by decide) ?_
      exact rtM_i hx hb hr hlk hK hP hD hS d_M_between_37 (hj_26.elim (fun q => absurd (show v ≤ 0 by rw [q.2]; decide) c_33) (fun q => Or.inr q))
  · refine rl_le (tgt := 21) hx hb d_M_between_4 d_M_between_5 (by decide) (fun c_4 => ?_) (fun c_4 => ?_)
    · refine lv_iconst (v := 1) hx hb d_M_between_21 (by decide) ?_
      refine lv_goto (tgt := 26) hx hb d_M_between_22 (by decide) ?_
      exact K_26 _ (Or.inr ⟨fun q => Int64.not_le.mpr q.1 c_4, rfl⟩) ls (lv_sub hl [0, 1, 2, 3, 4] rfl)
    · refine lv_lload_n hx hb d_M_between_8 rfl (lv_at hl 3 rfl) ?_
      refine lv_lconst (v := 0) hx hb d_M_between_9 (by decide) ?_
      refine rl_lt (tgt := 21) hx hb d_M_between_10 d_M_between_11 (by decide) (fun c_10 => ?_) (fun c_10 => ?_)
      · refine lv_iconst (v := 1) hx hb d_M_between_21 (by decide) ?_
        refine lv_goto (tgt := 26) hx hb d_M_between_22 (by decide) ?_
        exact K_26 _ (Or.inr ⟨fun q => Int64.not_le.mpr c_10 q.2.1, rfl⟩) ls (lv_sub hl [0, 1, 2, 3, 4] rfl)
      · refine lv_lload_n hx hb d_M_between_14 rfl (lv_at hl 3 rfl) ?_
        refine lv_lload hx hb d_M_between_15 (lv_at hl 4 rfl) ?_
        refine rl_le (tgt := 25) hx hb d_M_between_17 d_M_between_18 (by decide) (fun c_17 => ?_) (fun c_17 => ?_)
        · refine lv_iconst (v := 0) hx hb d_M_between_25 (by decide) ?_
          exact K_26 _ (Or.inl ⟨⟨Int64.not_le.mp c_4, Int64.not_lt.mp c_10, c_17⟩, rfl⟩) ls (lv_sub hl [0, 1, 2, 3, 4] rfl)
        · refine lv_iconst (v := 1) hx hb d_M_between_21 (by decide) ?_
          refine lv_goto (tgt := 26) hx hb d_M_between_22 (by decide) ?_
          exact K_26 _ (Or.inr ⟨fun q => c_17 q.2.2, rfl⟩) ls (lv_sub hl [0, 1, 2, 3, 4] rfl)
set_option maxHeartbeats 4000000 in
set_option maxRecDepth 100000 in
theorem c_M_channel (l : Launch) (D : va_G) (h0 sz : Nat) (t : Int32) (u lo lf : Int64) (a : Int32) : Met l y_M_channel w_M_channel ({ frames := 1, cells := 0, slots := 0, locals := 22 } : Room) (va_Pc [.ref h0, .int a] (M_B D h0 t u lo lf sz)) (va_Qi (fun r f => f.1 = 0 ∧ CH a r) (M_at D h0 (va_A (Mw h0 t u lo lf) sz)) (va_A (Mw h0 t u lo lf) sz)) 0 0 (va_A (Mw h0 t u lo lf) sz) := by
  refine pmM (y := y_M_channel) (cc := b_M_channel) (maxL := 2) (ret := (some .int)) (rm := ({ frames := 1, cells := 0, slots := 0, locals := 22 } : Room)) (fun A => va_Qi (fun r f => f.1 = 0 ∧ CH a r) (M_at D h0 A) A) D h0 t u lo lf sz [.int a] (by decide +kernel) (Nat.le_of_ble_eq_true rfl) (fun p e s m below meth c ls A hx hb hr hml hown hg hlk hnm hK hP hD hS hA hl => ?_)
  have hl : lv_has ls 2 [(0, .ref h0), (1, .int a)] := hl
  refine lv_aload_n hx hb d_M_channel_0 rfl (lv_at hl 0 rfl) ?_
  refine lv_iconst (v := 0) hx hb d_M_channel_1 (by decide) ?_
  refine mp_t hx hb hown hg hK hP hD hS d_M_channel_2 (fun H locs hP hD hS => ?_)
  refine lv_iload_n hx hb d_M_channel_5 rfl (lv_at hl 1 rfl) ?_
  refine lv_if_ge (tgt := 13) hx hb d_M_channel_6 (by decide) (fun c_6 => ?_) (fun c_6 => ?_)
  · refine lv_iload_n hx hb d_M_channel_13 rfl (lv_at hl 1 rfl) ?_
    refine lv_ldc (v := 65536) hx hb hown (hg _ k_348) d_M_channel_14 ?_
    refine lv_icmp_le (tgt := 25) hx hb d_M_channel_16 (by decide) (fun c_16 => ?_) (fun c_16 => ?_)
    · obtain ⟨A0, hA0, eA⟩ := ch_A c_6 c_16
      refine lv_sipush (v := 255) hx hb d_M_channel_25 (by decide) ?_
      refine lv_iload_n hx hb d_M_channel_28 rfl (lv_at hl 1 rfl) ?_
      refine lv_imul hx hb d_M_channel_29 ?_
      refine lv_ldc (v := 65536) hx hb hown (hg _ k_348) d_M_channel_30 ?_
      refine cs_i [.int (255 * a), .int 65536] 2 rfl (rest := []) hx hb hml hown hg (c_M_nearest l (255 * a) 65536 (255 * A0) 65536 (by rw [eA]; exact pk_mul 255 A0) rfl (by omega) (by omega) (by omega)) k_349 k_350 k_3 k_351 (by decide +kernel) hl.1 rfl rfl ⟨Nat.le_of_ble_eq_true rfl, Nat.le_of_ble_eq_true rfl⟩ rfl (Nat.le_of_ble_eq_true rfl) ⟨Nat.zero_le _, Nat.zero_le _⟩ d_M_channel_32 (fun r_32 h_32 => ?_)
      exact rtM_i hx hb hr hlk hK hP hD hS d_M_channel_35 ⟨rfl, ch_m hA0 eA h_32⟩
    · refine lv_sipush (v := 255) hx hb d_M_channel_19 (by decide) ?_
      refine lv_goto (tgt := 35) hx hb d_M_channel_22 (by decide) ?_
      exact rtM_i hx hb hr hlk hK hP hD hS d_M_channel_35 ⟨rfl, ch_hi c_16⟩
  · refine lv_iconst (v := 0) hx hb d_M_channel_9 (by decide) ?_
    refine lv_goto (tgt := 35) hx hb d_M_channel_10 (by decide) ?_
    exact rtM_i hx hb hr hlk hK hP hD hS d_M_channel_35 ⟨rfl, ch_lo c_6⟩
set_option maxHeartbeats 4000000 in
set_option maxRecDepth 100000 in
theorem c_M_fixed (l : Launch) (D : va_G) (h0 sz : Nat) (t : Int32) (u lo lf : Int64) (c0 : Int32) : Met l y_M_fixed w_M_fixed ({ frames := 1, cells := 0, slots := 0, locals := 22 } : Room) (va_Pc [.ref h0, .int c0] (M_B D h0 t u lo lf sz)) (va_Qi (fun r f => (FXC c0 ∧ f.1 = 0 ∧ FXP c0 r) ∨ (¬ FXC c0 ∧ f.1 = 1)) (M_at D h0 (va_A (Mw h0 t u lo lf) sz)) (va_A (Mw h0 t u lo lf) sz)) 0 0 (va_A (Mw h0 t u lo lf) sz) := by
  refine pmM (y := y_M_fixed) (cc := b_M_fixed) (maxL := 2) (ret := (some .int)) (rm := ({ frames := 1, cells := 0, slots := 0, locals := 22 } : Room)) (fun A => va_Qi (fun r f => (FXC c0 ∧ f.1 = 0 ∧ FXP c0 r) ∨ (¬ FXC c0 ∧ f.1 = 1)) (M_at D h0 A) A) D h0 t u lo lf sz [.int c0] (by decide +kernel) (Nat.le_of_ble_eq_true rfl) (fun p e s m below meth c ls A hx hb hr hml hown hg hlk hnm hK hP hD hS hA hl => ?_)
  have hl : lv_has ls 2 [(0, .ref h0), (1, .int c0)] := hl
  refine lv_aload_n hx hb d_M_fixed_0 rfl (lv_at hl 0 rfl) ?_
  refine lv_iload_n hx hb d_M_fixed_1 rfl (lv_at hl 1 rfl) ?_
  refine jn1 (α1 := Int32) 17 2 (fun v => (FXC c0 ∧ v = 0) ∨ (¬ FXC c0 ∧ v = 1)) (fun v => [(0, .ref h0), (1, .int c0)]) (fun v => [.int v, .ref h0]) (fun v hj_17 ls hl => ?_) (fun K_17 => ?_)
  · have hl : lv_has ls 2 [(0, .ref h0), (1, .int c0)] := hl
    refine mp_t hx hb hown hg hK hP hD hS d_M_fixed_17 (fun H locs hP hD hS => ?_)
    refine lv_aload_n hx hb d_M_fixed_20 rfl (lv_at hl 0 rfl) ?_
    refine mg_t hx hb hown hg hK hP d_M_fixed_21 ?_
    refine lv_if_le (tgt := 31) hx hb d_M_fixed_24 (by decide) (fun c_24 => ?_) (fun c_24 => ?_)
    · have hBC : FXC c0 := hj_17.elim (fun q => q.1) (fun q => absurd c_24 (by rw [q.2]; decide))
      have hv0 : v = 0 := hj_17.elim (fun q => q.2) (fun q => absurd hBC q.1)
      obtain ⟨C, hC, eC⟩ := i255 hBC.1 hBC.2
      refine lv_ldc (v := 65536) hx hb hown (hg _ k_348) d_M_fixed_31 ?_
      refine lv_iload_n hx hb d_M_fixed_33 rfl (lv_at hl 1 rfl) ?_
      refine lv_imul hx hb d_M_fixed_34 ?_
      refine lv_sipush (v := 255) hx hb d_M_fixed_35 (by decide) ?_
      refine cs_i [.int (65536 * c0), .int 255] 2 rfl (rest := []) hx hb hml hown hg (c_M_nearest l (65536 * c0) 255 (65536 * C) 255 (by rw [eC]; exact pk_mul 65536 C) rfl (by omega) (by omega) (by omega)) k_349 k_350 k_3 k_351 (by decide +kernel) hl.1 rfl rfl ⟨Nat.le_of_ble_eq_true rfl, Nat.le_of_ble_eq_true rfl⟩ rfl (Nat.le_of_ble_eq_true rfl) ⟨Nat.zero_le _, Nat.zero_le _⟩ d_M_fixed_38 (fun r_38 h_38 => ?_)
      exact rtM_i hx hb hr hlk hK hP hD hS d_M_fixed_41 (Or.inl ⟨hBC, hv0, fx_m hC eC h_38⟩)
    · refine lv_iconst (v := 0) hx hb d_M_fixed_27 (by decide) ?_
      refine lv_goto (tgt := 41) hx hb d_M_fixed_28 (by decide) ?_
      exact rtM_i hx hb hr hlk hK hP hD hS d_M_fixed_41 (hj_17.elim (fun q => absurd (show v ≤ 0 by rw [q.2]; decide) c_24) (fun q => Or.inr q))
  · refine lv_if_lt (tgt := 12) hx hb d_M_fixed_2 (by decide) (fun c_2 => ?_) (fun c_2 => ?_)
    · refine lv_iconst (v := 1) hx hb d_M_fixed_12 (by decide) ?_
      refine lv_goto (tgt := 17) hx hb d_M_fixed_13 (by decide) ?_
      exact K_17 _ (Or.inr ⟨fun q => Int32.not_le.mpr c_2 q.1, rfl⟩) ls (lv_sub hl [0, 1] rfl)
    · refine lv_iload_n hx hb d_M_fixed_5 rfl (lv_at hl 1 rfl) ?_
      refine lv_sipush (v := 255) hx hb d_M_fixed_6 (by decide) ?_
      refine lv_icmp_le (tgt := 16) hx hb d_M_fixed_9 (by decide) (fun c_9 => ?_) (fun c_9 => ?_)
      · refine lv_iconst (v := 0) hx hb d_M_fixed_16 (by decide) ?_
        exact K_17 _ (Or.inl ⟨⟨Int32.not_lt.mp c_2, c_9⟩, rfl⟩) ls (lv_sub hl [0, 1] rfl)
      · refine lv_iconst (v := 1) hx hb d_M_fixed_12 (by decide) ?_
        refine lv_goto (tgt := 17) hx hb d_M_fixed_13 (by decide) ?_
        exact K_17 _ (Or.inr ⟨fun q => c_9 q.2, rfl⟩) ls (lv_sub hl [0, 1] rfl)
set_option maxHeartbeats 4000000 in
set_option maxRecDepth 100000 in
theorem c_M_shade (l : Launch) (D : va_G) (h0 sz : Nat) (t : Int32) (u lo lf : Int64) (x : Int32) (y : Int32) : Met l y_M_shade w_M_shade ({ frames := 1, cells := 0, slots := 0, locals := 22 } : Room) (va_Pc [.ref h0, .int x, .int y] (M_B D h0 t u lo lf sz)) (va_Qi (fun r f => (SHC x y ∧ f.1 = 0 ∧ SHP x y r) ∨ (¬ SHC x y ∧ f.1 = 1)) (M_at D h0 (va_A (Mw h0 t u lo lf) sz)) (va_A (Mw h0 t u lo lf) sz)) 0 0 (va_A (Mw h0 t u lo lf) sz) := by
  refine pmM (y := y_M_shade) (cc := b_M_shade) (maxL := 3) (ret := (some .int)) (rm := ({ frames := 1, cells := 0, slots := 0, locals := 22 } : Room)) (fun A => va_Qi (fun r f => (SHC x y ∧ f.1 = 0 ∧ SHP x y r) ∨ (¬ SHC x y ∧ f.1 = 1)) (M_at D h0 A) A) D h0 t u lo lf sz [.int x, .int y] (by decide +kernel) (Nat.le_of_ble_eq_true rfl) (fun p e s m below meth c ls A hx hb hr hml hown hg hlk hnm hK hP hD hS hA hl => ?_)
  have hl : lv_has ls 3 [(0, .ref h0), (1, .int x), (2, .int y)] := hl
  refine lv_aload_n hx hb d_M_shade_0 rfl (lv_at hl 0 rfl) ?_
  refine lv_iload_n hx hb d_M_shade_1 rfl (lv_at hl 1 rfl) ?_
  refine jn1 (α1 := Int32) 28 3 (fun v => (SHC x y ∧ v = 0) ∨ (¬ SHC x y ∧ v = 1)) (fun v => [(0, .ref h0), (1, .int x), (2, .int y)]) (fun v => [.int v, .ref h0]) (fun v hj_28 ls hl => ?_) (fun K_28 => ?_)
  · have hl : lv_has ls 3 [(0, .ref h0), (1, .int x), (2, .int y)] := hl
    refine mp_t hx hb hown hg hK hP hD hS d_M_shade_28 (fun H locs hP hD hS => ?_)
    refine lv_aload_n hx hb d_M_shade_31 rfl (lv_at hl 0 rfl) ?_
    refine mg_t hx hb hown hg hK hP d_M_shade_32 ?_
    refine lv_if_le (tgt := 42) hx hb d_M_shade_35 (by decide) (fun c_35 => ?_) (fun c_35 => ?_)
    · have hBC : SHC x y := hj_28.elim (fun q => q.1) (fun q => absurd c_35 (by rw [q.2]; decide))
      have hv0 : v = 0 := hj_28.elim (fun q => q.2) (fun q => absurd hBC q.1)
      obtain ⟨X, hX, eX⟩ := i255 hBC.1 hBC.2.1
      obtain ⟨Y, hY, eY⟩ := i255 hBC.2.2.1 hBC.2.2.2
      have hXY : X * Y ≤ 255 * 255 := Nat.mul_le_mul hX hY
      refine lv_iload_n hx hb d_M_shade_42 rfl (lv_at hl 1 rfl) ?_
      refine lv_iload_n hx hb d_M_shade_43 rfl (lv_at hl 2 rfl) ?_
      refine lv_imul hx hb d_M_shade_44 ?_
      refine lv_sipush (v := 255) hx hb d_M_shade_45 (by decide) ?_
      refine cs_i [.int (x * y), .int 255] 2 rfl (rest := []) hx hb hml hown hg (c_M_nearest l (x * y) 255 (X * Y) 255 (by rw [eX, eY]; exact pk_mul X Y) rfl (by omega) (by omega) (by omega)) k_349 k_350 k_3 k_351 (by decide +kernel) hl.1 rfl rfl ⟨Nat.le_of_ble_eq_true rfl, Nat.le_of_ble_eq_true rfl⟩ rfl (Nat.le_of_ble_eq_true rfl) ⟨Nat.zero_le _, Nat.zero_le _⟩ d_M_shade_48 (fun r_48 h_48 => ?_)
      exact rtM_i hx hb hr hlk hK hP hD hS d_M_shade_51 (Or.inl ⟨hBC, hv0, sh_m hX hY eX eY h_48⟩)
    · refine lv_iconst (v := 0) hx hb d_M_shade_38 (by decide) ?_
      refine lv_goto (tgt := 51) hx hb d_M_shade_39 (by decide) ?_
      exact rtM_i hx hb hr hlk hK hP hD hS d_M_shade_51 (hj_28.elim (fun q => absurd (show v ≤ 0 by rw [q.2]; decide) c_35) (fun q => Or.inr q))
  · refine lv_if_lt (tgt := 23) hx hb d_M_shade_2 (by decide) (fun c_2 => ?_) (fun c_2 => ?_)
    · refine lv_iconst (v := 1) hx hb d_M_shade_23 (by decide) ?_
      refine lv_goto (tgt := 28) hx hb d_M_shade_24 (by decide) ?_
      exact K_28 _ (Or.inr ⟨fun q => Int32.not_le.mpr c_2 q.1, rfl⟩) ls (lv_sub hl [0, 1, 2] rfl)
    · refine lv_iload_n hx hb d_M_shade_5 rfl (lv_at hl 1 rfl) ?_
      refine lv_sipush (v := 255) hx hb d_M_shade_6 (by decide) ?_
      refine lv_icmp_gt (tgt := 23) hx hb d_M_shade_9 (by decide) (fun c_9 => ?_) (fun c_9 => ?_)
      · refine lv_iconst (v := 1) hx hb d_M_shade_23 (by decide) ?_
        refine lv_goto (tgt := 28) hx hb d_M_shade_24 (by decide) ?_
        exact K_28 _ (Or.inr ⟨fun q => Int32.not_le.mpr c_9 q.2.1, rfl⟩) ls (lv_sub hl [0, 1, 2] rfl)
      · refine lv_iload_n hx hb d_M_shade_12 rfl (lv_at hl 2 rfl) ?_
        refine lv_if_lt (tgt := 23) hx hb d_M_shade_13 (by decide) (fun c_13 => ?_) (fun c_13 => ?_)
        · refine lv_iconst (v := 1) hx hb d_M_shade_23 (by decide) ?_
          refine lv_goto (tgt := 28) hx hb d_M_shade_24 (by decide) ?_
          exact K_28 _ (Or.inr ⟨fun q => Int32.not_le.mpr c_13 q.2.2.1, rfl⟩) ls (lv_sub hl [0, 1, 2] rfl)
        · refine lv_iload_n hx hb d_M_shade_16 rfl (lv_at hl 2 rfl) ?_
          refine lv_sipush (v := 255) hx hb d_M_shade_17 (by decide) ?_
          refine lv_icmp_le (tgt := 27) hx hb d_M_shade_20 (by decide) (fun c_20 => ?_) (fun c_20 => ?_)
          · refine lv_iconst (v := 0) hx hb d_M_shade_27 (by decide) ?_
            exact K_28 _ (Or.inl ⟨⟨Int32.not_lt.mp c_2, Int32.not_lt.mp c_9, Int32.not_lt.mp c_13, c_20⟩, rfl⟩) ls (lv_sub hl [0, 1, 2] rfl)
          · refine lv_iconst (v := 1) hx hb d_M_shade_23 (by decide) ?_
            refine lv_goto (tgt := 28) hx hb d_M_shade_24 (by decide) ?_
            exact K_28 _ (Or.inr ⟨fun q => c_20 q.2.2.2, rfl⟩) ls (lv_sub hl [0, 1, 2] rfl)
set_option maxHeartbeats 4000000 in
set_option maxRecDepth 100000 in
theorem c_M_fromHalf (l : Launch) (D : va_G) (h0 sz : Nat) (t : Int32) (u lo lf : Int64) (h : Int32) : Met l y_M_fromHalf w_M_fromHalf ({ frames := 1, cells := 0, slots := 0, locals := 23 } : Room) (va_Pc [.ref h0, .int h] (M_B D h0 t u lo lf sz)) (va_Qi (fun r f => f.1 = 0 ∧ FH h r) (M_at D h0 (va_A (Mw h0 t u lo lf) sz)) (va_A (Mw h0 t u lo lf) sz)) 0 0 (va_A (Mw h0 t u lo lf) sz) := by
  refine pmM (y := y_M_fromHalf) (cc := b_M_fromHalf) (maxL := 7) (ret := (some .int)) (rm := ({ frames := 1, cells := 0, slots := 0, locals := 23 } : Room)) (fun A => va_Qi (fun r f => f.1 = 0 ∧ FH h r) (M_at D h0 A) A) D h0 t u lo lf sz [.int h] (by decide +kernel) (Nat.le_of_ble_eq_true rfl) (fun p e s m below meth c ls A hx hb hr hml hown hg hlk hnm hK hP hD hS hA hl => ?_)
  have hl : lv_has ls 7 [(0, .ref h0), (1, .int h)] := hl
  refine lv_aload_n hx hb d_M_fromHalf_0 rfl (lv_at hl 0 rfl) ?_
  refine lv_iconst (v := 0) hx hb d_M_fromHalf_1 (by decide) ?_
  refine mp_t hx hb hown hg hK hP hD hS d_M_fromHalf_2 (fun H locs hP hD hS => ?_)
  refine lv_iload_n hx hb d_M_fromHalf_5 rfl (lv_at hl 1 rfl) ?_
  refine lv_bipush (v := 15) hx hb d_M_fromHalf_6 (by decide) ?_
  refine lv_ishr hx hb d_M_fromHalf_8 ?_
  refine lv_iconst (v := 1) hx hb d_M_fromHalf_9 (by decide) ?_
  refine lv_iand hx hb d_M_fromHalf_10 ?_
  refine lv_iconst (v := 1) hx hb d_M_fromHalf_11 (by decide) ?_
  have bF : uI h % 1024 < 1024 := Nat.mod_lt _ (by decide)
  have bE : uI h / 1024 % 32 < 32 := Nat.mod_lt _ (by decide)
  have hE : (h >>> ((10 : Int32) &&& 31)) &&& 31 = nI (uI h / 1024 % 32) := hE_x rfl
  have hF : h &&& 1023 = nI (uI h % 1024) := hF_x rfl
  refine jn1 (α1 := Int32) 20 7 (fun b => b = if uI h / 32768 % 2 = 0 then 0 else 1) (fun b => [(0, .ref h0), (1, .int h)]) (fun b => [.int b]) (fun b hj_20 ls hl => ?_) (fun K_20 => ?_)
  · have hl : lv_has ls 7 [(0, .ref h0), (1, .int h)] := hl
    refine lv_istore_n (lv' := [(2, .int b), (0, .ref h0), (1, .int h)]) hx hb d_M_fromHalf_20 rfl hl (by decide) rfl (fun ls hl => ?_)
    refine lv_iload_n hx hb d_M_fromHalf_21 rfl (lv_at hl 2 rfl) ?_
    refine lv_bipush (v := 10) hx hb d_M_fromHalf_22 (by decide) ?_
    refine lv_ishr hx hb d_M_fromHalf_24 ?_
    refine lv_bipush (v := 31) hx hb d_M_fromHalf_25 (by decide) ?_
    refine lv_iand hx hb d_M_fromHalf_27 ?_
    refine lv_bipush (v := 31) hx hb d_M_fromHalf_28 (by decide) ?_
    refine lv_icmp_ne (tgt := 57) hx hb d_M_fromHalf_30 (by decide) (fun c_30 => ?_) (fun c_30 => ?_)
    · have nE : ¬ uI h / 1024 % 32 = 31 := fun q => c_30 ((fh_31 hE).mpr q)
      have lE : uI h / 1024 % 32 < 31 := by omega
      refine lv_iload_n hx hb d_M_fromHalf_57 rfl (lv_at hl 0 rfl) ?_
      refine jn1 (α1 := Int64) 73 7 (fun v => (v >>> ((Int32.toInt64 8) &&& 63)).toInt = fhW (uI h / 1024 % 32) (uI h % 1024) (uI h / 32768 % 2)) (fun v => [(0, .ref h0), (1, .int h)]) (fun v => [.long v]) (fun v hj_73 ls hl => ?_) (fun K_73 => ?_)
      · have hl : lv_has ls 7 [(0, .ref h0), (1, .int h)] := hl
        refine lv_lstore_n (lv' := [(3, .long v), (0, .ref h0), (1, .int h)]) hx hb d_M_fromHalf_73 rfl hl (by decide) rfl (fun ls hl => ?_)
        refine lv_lload_n hx hb d_M_fromHalf_74 rfl (lv_at hl 0 rfl) ?_
        refine lv_bipush (v := 8) hx hb d_M_fromHalf_75 (by decide) ?_
        refine lv_lshr hx hb d_M_fromHalf_77 rfl ?_
        refine lv_topl (fun v_78 e_78 => ?_)
        refine lv_lstore (lv' := [(5, .long v_78), (3, .long v), (0, .ref h0), (1, .int h)]) hx hb d_M_fromHalf_78 hl (by decide) rfl (fun ls hl => ?_)
        refine lv_lload hx hb d_M_fromHalf_80 (lv_at hl 0 rfl) ?_
        refine lv_ldc2 (v := 2147483647) hx hb hown (hg _ k_307) d_M_fromHalf_82 ?_
        refine rl_le (tgt := 94) hx hb d_M_fromHalf_85 d_M_fromHalf_86 (by decide) (fun c_85 => ?_) (fun c_85 => ?_)
        · refine lv_lload hx hb d_M_fromHalf_94 (lv_at hl 0 rfl) ?_
          refine lv_ldc2 (v := -2147483648) hx hb hown (hg _ k_308) d_M_fromHalf_96 ?_
          refine rl_ge (tgt := 108) hx hb d_M_fromHalf_99 d_M_fromHalf_100 (by decide) (fun c_99 => ?_) (fun c_99 => ?_)
          · refine lv_lload hx hb d_M_fromHalf_108 (lv_at hl 0 rfl) ?_
            refine lv_l2i hx hb d_M_fromHalf_110 rfl ?_
            exact rtM_i hx hb hr hlk hK hP hD hS d_M_fromHalf_111 ⟨rfl, (fh_end nE (by rw [e_78]; exact hj_73) (cl_in c_85 c_99))⟩
          · refine lv_ldc (v := -2147483648) hx hb hown (hg _ k_303) d_M_fromHalf_103 ?_
            refine lv_goto (tgt := 111) hx hb d_M_fromHalf_105 (by decide) ?_
            exact rtM_i hx hb hr hlk hK hP hD hS d_M_fromHalf_111 ⟨rfl, (fh_end nE (by rw [e_78]; exact hj_73) (cl_lo c_99))⟩
        · refine lv_ldc (v := 2147483647) hx hb hown (hg _ k_302) d_M_fromHalf_89 ?_
          refine lv_goto (tgt := 111) hx hb d_M_fromHalf_91 (by decide) ?_
          exact rtM_i hx hb hr hlk hK hP hD hS d_M_fromHalf_111 ⟨rfl, (fh_end nE (by rw [e_78]; exact hj_73) (cl_hi c_85))⟩
      · refine lv_if_eq (tgt := 69) hx hb d_M_fromHalf_58 (by decide) (fun c_58 => ?_) (fun c_58 => ?_)
        · refine lv_iload_n hx hb d_M_fromHalf_69 rfl (lv_at hl 2 rfl) ?_
          refine cs_l [.int h] 1 rfl (rest := []) hx hb hml hown hg (c_M_scaled l h) k_364 k_365 k_3 k_366 (by decide +kernel) hl.1 rfl rfl ⟨Nat.le_of_ble_eq_true rfl, Nat.le_of_ble_eq_true rfl⟩ rfl (Nat.le_of_ble_eq_true rfl) ⟨Nat.zero_le _, Nat.zero_le _⟩ d_M_fromHalf_70 (fun r_70 h_70 => ?_)
          exact K_73 _ ((fm_w (w := 0) lE bF hj_20 h_70).1 c_58) ls (lv_sub hl [1, 2] rfl)
        · refine lv_iload_n hx hb d_M_fromHalf_61 rfl (lv_at hl 2 rfl) ?_
          refine cs_l [.int h] 1 rfl (rest := []) hx hb hml hown hg (c_M_scaled l h) k_364 k_365 k_3 k_366 (by decide +kernel) hl.1 rfl rfl ⟨Nat.le_of_ble_eq_true rfl, Nat.le_of_ble_eq_true rfl⟩ rfl (Nat.le_of_ble_eq_true rfl) ⟨Nat.zero_le _, Nat.zero_le _⟩ d_M_fromHalf_62 (fun r_62 h_62 => ?_)
          refine lv_lneg hx hb d_M_fromHalf_65 ?_
          refine lv_goto (tgt := 73) hx hb d_M_fromHalf_66 (by decide) ?_
          exact K_73 _ ((fm_w (w := 0) lE bF hj_20 h_62).2 c_58) ls (lv_sub hl [1, 2] rfl)
    · refine lv_iload_n hx hb d_M_fromHalf_33 rfl (lv_at hl 2 rfl) ?_
      refine lv_sipush (v := 1023) hx hb d_M_fromHalf_34 (by decide) ?_
      refine lv_iand hx hb d_M_fromHalf_37 ?_
      refine lv_if_le (tgt := 45) hx hb d_M_fromHalf_38 (by decide) (fun c_38 => ?_) (fun c_38 => ?_)
      · refine lv_iload_n hx hb d_M_fromHalf_45 rfl (lv_at hl 0 rfl) ?_
        refine lv_if_eq (tgt := 54) hx hb d_M_fromHalf_46 (by decide) (fun c_46 => ?_) (fun c_46 => ?_)
        · refine lv_ldc (v := 2147483647) hx hb hown (hg _ k_302) d_M_fromHalf_54 ?_
          exact rtM_i hx hb hr hlk hK hP hD hS d_M_fromHalf_56 ⟨rfl, by unfold FH; rw [if_pos ((fh_31 hE).mp c_30), if_neg ((fh_F hF).mp c_38), if_pos (bt_0 hj_20 c_46)]⟩
        · refine lv_ldc (v := -2147483648) hx hb hown (hg _ k_303) d_M_fromHalf_49 ?_
          refine lv_goto (tgt := 56) hx hb d_M_fromHalf_51 (by decide) ?_
          exact rtM_i hx hb hr hlk hK hP hD hS d_M_fromHalf_56 ⟨rfl, by unfold FH; rw [if_pos ((fh_31 hE).mp c_30), if_neg ((fh_F hF).mp c_38), if_neg (bt_1 hj_20 c_46)]⟩
      · refine lv_iconst (v := 0) hx hb d_M_fromHalf_41 (by decide) ?_
        refine lv_goto (tgt := 56) hx hb d_M_fromHalf_42 (by decide) ?_
        exact rtM_i hx hb hr hlk hK hP hD hS d_M_fromHalf_56 ⟨rfl, by unfold FH; rw [if_pos ((fh_31 hE).mp c_30), if_pos (Classical.byContradiction (fun q => c_38 ((fh_F hF).mpr q)))]⟩
  · refine lv_icmp_ne (tgt := 19) hx hb d_M_fromHalf_12 (by decide) (fun c_12 => ?_) (fun c_12 => ?_)
    · refine lv_iconst (v := 0) hx hb d_M_fromHalf_19 (by decide) ?_
      exact K_20 0 (by rw [if_pos (Classical.byContradiction (fun q => c_12 ((hS_m h).mpr q)))]) ls (lv_sub hl [0, 1] rfl)
    · refine lv_iconst (v := 1) hx hb d_M_fromHalf_15 (by decide) ?_
      refine lv_goto (tgt := 20) hx hb d_M_fromHalf_16 (by decide) ?_
      exact K_20 1 (by rw [if_neg ((hS_m h).mp c_12)]) ls (lv_sub hl [0, 1] rfl)
set_option maxHeartbeats 4000000 in
set_option maxRecDepth 100000 in
theorem c_M_toHalf (l : Launch) (D : va_G) (h0 sz : Nat) (t : Int32) (u lo lf : Int64) (a : Int32) : Met l y_M_toHalf w_M_toHalf ({ frames := 1, cells := 0, slots := 0, locals := 23 } : Room) (va_Pc [.ref h0, .int a] (M_B D h0 t u lo lf sz)) (va_Qi (fun r f => f.1 = 0 ∧ TH a r) (M_at D h0 (va_A (Mw h0 t u lo lf) sz)) (va_A (Mw h0 t u lo lf) sz)) 0 0 (va_A (Mw h0 t u lo lf) sz) := by
  refine pmM (y := y_M_toHalf) (cc := b_M_toHalf) (maxL := 11) (ret := (some .int)) (rm := ({ frames := 1, cells := 0, slots := 0, locals := 23 } : Room)) (fun A => va_Qi (fun r f => f.1 = 0 ∧ TH a r) (M_at D h0 A) A) D h0 t u lo lf sz [.int a] (by decide +kernel) (Nat.le_of_ble_eq_true rfl) (fun p e s m below meth c ls A hx hb hr hml hown hg hlk hnm hK hP hD hS hA hl => ?_)
  have hl : lv_has ls 11 [(0, .ref h0), (1, .int a)] := hl
  refine lv_aload_n hx hb d_M_toHalf_0 rfl (lv_at hl 0 rfl) ?_
  refine lv_iconst (v := 0) hx hb d_M_toHalf_1 (by decide) ?_
  refine mp_t hx hb hown hg hK hP hD hS d_M_toHalf_2 (fun H locs hP hD hS => ?_)
  refine lv_iload_n hx hb d_M_toHalf_5 rfl (lv_at hl 1 rfl) ?_
  refine lv_i2l hx hb d_M_toHalf_6 rfl ?_
  refine cs_l [.long (Int32.toInt64 a)] 1 rfl (rest := []) hx hb hml hown hg (c_M_size l (Int32.toInt64 a)) k_304 k_305 k_3 k_306 (by decide +kernel) hl.1 rfl rfl ⟨Nat.le_of_ble_eq_true rfl, Nat.le_of_ble_eq_true rfl⟩ rfl (Nat.le_of_ble_eq_true rfl) ⟨Nat.zero_le _, Nat.zero_le _⟩ d_M_toHalf_7 (fun r_7 h_7 => ?_)
  refine lv_bipush (v := 8) hx hb d_M_toHalf_10 (by decide) ?_
  refine lv_lshl hx hb d_M_toHalf_12 rfl ?_
  refine lv_topl (fun v_13 e_13 => ?_)
  refine lv_lstore_n (lv' := [(2, .long v_13), (0, .ref h0), (1, .int a)]) hx hb d_M_toHalf_13 rfl hl (by decide) rfl (fun ls hl => ?_)
  refine lv_iconst (v := 0) hx hb d_M_toHalf_14 (by decide) ?_
  refine lv_istore (lv' := [(4, .int 0), (2, .long v_13), (0, .ref h0), (1, .int a)]) hx hb d_M_toHalf_15 hl (by decide) rfl (fun ls hl => ?_)
  refine lv_sipush (v := 31744) hx hb d_M_toHalf_17 (by decide) ?_
  refine lv_istore (lv' := [(5, .int 31744), (4, .int 0), (2, .long v_13), (0, .ref h0), (1, .int a)]) hx hb d_M_toHalf_20 hl (by decide) rfl (fun ls hl => ?_)
  obtain ⟨hn, hN⟩ := qs_sz h_7
  have hdu := du_8 hn hN e_13
  refine lq2 (α1 := Int32) (α2 := Int32) 22 11 (fun lw hg2 => (hg2.toInt - lw.toInt).toNat) (fun lw hg2 => TI a.toInt.natAbs lw hg2) (fun lw hg2 => [(1, .int a), (2, .long v_13), (4, .int lw), (5, .int hg2)]) (fun lw hg2 hi ih ls hl => ?_) 0 31744 (ti_0 hN) ls (lv_sub hl [4, 2, 1, 0] rfl)
  have hl : lv_has ls 11 [(1, .int a), (2, .long v_13), (4, .int lw), (5, .int hg2)] := hl
  refine lv_iload hx hb d_M_toHalf_22 (lv_at hl 3 rfl) ?_
  refine lv_iload hx hb d_M_toHalf_24 (lv_at hl 2 rfl) ?_
  refine lv_isub hx hb d_M_toHalf_26 ?_
  refine lv_iconst (v := 1) hx hb d_M_toHalf_27 (by decide) ?_
  refine lv_icmp_le (tgt := 64) hx hb d_M_toHalf_28 (by decide) (fun c_28 => ?_) (fun c_28 => ?_)
  · refine lv_lload_n hx hb d_M_toHalf_64 rfl (lv_at hl 1 rfl) ?_
    refine lv_iload hx hb d_M_toHalf_65 (lv_at hl 2 rfl) ?_
    refine cs_l [.int lw] 1 rfl (rest := [.long v_13]) hx hb hml hown hg (c_M_scaled l lw) k_364 k_365 k_3 k_366 (by decide +kernel) hl.1 rfl rfl ⟨Nat.le_of_ble_eq_true rfl, Nat.le_of_ble_eq_true rfl⟩ rfl (Nat.le_of_ble_eq_true rfl) ⟨Nat.zero_le _, Nat.zero_le _⟩ d_M_toHalf_67 (fun r_67 h_67 => ?_)
    refine lv_lsub hx hb d_M_toHalf_70 ?_
    refine lv_topl (fun v_71 e_71 => ?_)
    refine lv_lstore (lv' := [(6, .long v_71), (1, .int a), (2, .long v_13), (4, .int lw), (5, .int hg2)]) hx hb d_M_toHalf_71 hl (by decide) rfl (fun ls hl => ?_)
    refine lv_iload hx hb d_M_toHalf_73 (lv_at hl 3 rfl) ?_
    refine lv_iconst (v := 1) hx hb d_M_toHalf_75 (by decide) ?_
    refine lv_iadd hx hb d_M_toHalf_76 ?_
    refine cs_l [.int (lw + 1)] 1 rfl (rest := []) hx hb hml hown hg (c_M_scaled l (lw + 1)) k_364 k_365 k_3 k_366 (by decide +kernel) hl.1 rfl rfl ⟨Nat.le_of_ble_eq_true rfl, Nat.le_of_ble_eq_true rfl⟩ rfl (Nat.le_of_ble_eq_true rfl) ⟨Nat.zero_le _, Nat.zero_le _⟩ d_M_toHalf_77 (fun r_77 h_77 => ?_)
    refine lv_lload_n hx hb d_M_toHalf_80 rfl (lv_at hl 2 rfl) ?_
    refine lv_lsub hx hb d_M_toHalf_81 ?_
    refine lv_topl (fun v_82 e_82 => ?_)
    refine lv_lstore (lv' := [(8, .long v_82), (6, .long v_71), (1, .int a), (2, .long v_13), (4, .int lw), (5, .int hg2)]) hx hb d_M_toHalf_82 hl (by decide) rfl (fun ls hl => ?_)
    refine lv_lload hx hb d_M_toHalf_84 (lv_at hl 1 rfl) ?_
    refine lv_lload hx hb d_M_toHalf_86 (lv_at hl 0 rfl) ?_
    refine jn1 (α1 := Int32) 116 11 (fun hh => hh = if v_71 < v_82 ∨ (v_71 = v_82 ∧ lw - lw / 2 * 2 = 0) then lw else lw + 1) (fun hh => [(1, .int a)]) (fun hh => [.int hh]) (fun hh hj_116 ls hl => ?_) (fun K_116 => ?_)
    · have hl : lv_has ls 11 [(1, .int a)] := hl
      have key := ti_end hN hdu hi c_28 h_67 h_77 e_71 e_82 hj_116
      refine lv_istore (lv' := [(10, .int hh), (1, .int a)]) hx hb d_M_toHalf_116 hl (by decide) rfl (fun ls hl => ?_)
      refine lv_iload_n hx hb d_M_toHalf_118 rfl (lv_at hl 1 rfl) ?_
      refine lv_if_ge (tgt := 135) hx hb d_M_toHalf_119 (by decide) (fun c_119 => ?_) (fun c_119 => ?_)
      · refine lv_iload hx hb d_M_toHalf_135 (lv_at hl 0 rfl) ?_
        exact rtM_i hx hb hr hlk hK hP hD hS d_M_toHalf_137 ⟨rfl, key.1 c_119⟩
      · refine lv_iload hx hb d_M_toHalf_122 (lv_at hl 0 rfl) ?_
        refine lv_if_le (tgt := 135) hx hb d_M_toHalf_124 (by decide) (fun c_124 => ?_) (fun c_124 => ?_)
        · exact absurd c_124 (key.2 c_119).1
        · refine lv_iload hx hb d_M_toHalf_127 (lv_at hl 0 rfl) ?_
          refine lv_ldc (v := 32768) hx hb hown (hg _ k_372) d_M_toHalf_129 ?_
          refine lv_ior hx hb d_M_toHalf_131 ?_
          refine lv_goto (tgt := 137) hx hb d_M_toHalf_132 (by decide) ?_
          exact rtM_i hx hb hr hlk hK hP hD hS d_M_toHalf_137 ⟨rfl, (key.2 c_119).2⟩
    · refine rl_lt (tgt := 107) hx hb d_M_toHalf_88 d_M_toHalf_89 (by decide) (fun c_88 => ?_) (fun c_88 => ?_)
      · refine lv_iload hx hb d_M_toHalf_107 (lv_at hl 4 rfl) ?_
        refine lv_goto (tgt := 116) hx hb d_M_toHalf_109 (by decide) ?_
        exact K_116 _ (by rw [if_pos (Or.inl c_88)]) ls (lv_sub hl [2] rfl)
      · refine lv_lload hx hb d_M_toHalf_92 (lv_at hl 1 rfl) ?_
        refine lv_lload hx hb d_M_toHalf_94 (lv_at hl 0 rfl) ?_
        refine rl_ne (tgt := 112) hx hb d_M_toHalf_96 d_M_toHalf_97 (by decide) (fun c_96 => ?_) (fun c_96 => ?_)
        · refine lv_iload hx hb d_M_toHalf_112 (lv_at hl 4 rfl) ?_
          refine lv_iconst (v := 1) hx hb d_M_toHalf_114 (by decide) ?_
          refine lv_iadd hx hb d_M_toHalf_115 ?_
          exact K_116 _ (by rw [if_neg (fun q => q.elim c_88 (fun q => c_96 q.1))]) ls (lv_sub hl [2] rfl)
        · refine lv_iload hx hb d_M_toHalf_100 (lv_at hl 4 rfl) ?_
          refine lv_iconst (v := 2) hx hb d_M_toHalf_102 (by decide) ?_
          refine lv_irem hx hb d_M_toHalf_103 (by decide) ?_
          refine lv_if_ne (tgt := 112) hx hb d_M_toHalf_104 (by decide) (fun c_104 => ?_) (fun c_104 => ?_)
          · refine lv_iload hx hb d_M_toHalf_112 (lv_at hl 4 rfl) ?_
            refine lv_iconst (v := 1) hx hb d_M_toHalf_114 (by decide) ?_
            refine lv_iadd hx hb d_M_toHalf_115 ?_
            exact K_116 _ (by rw [if_neg (fun q => q.elim c_88 (fun q => c_104 q.2))]) ls (lv_sub hl [2] rfl)
          · refine lv_iload hx hb d_M_toHalf_107 (lv_at hl 4 rfl) ?_
            refine lv_goto (tgt := 116) hx hb d_M_toHalf_109 (by decide) ?_
            exact K_116 _ (by rw [if_pos (Or.inr ⟨c_96, c_104⟩)]) ls (lv_sub hl [2] rfl)
  · refine lv_iload hx hb d_M_toHalf_31 (lv_at hl 2 rfl) ?_
    refine lv_iload hx hb d_M_toHalf_33 (lv_at hl 3 rfl) ?_
    refine lv_iadd hx hb d_M_toHalf_35 ?_
    refine lv_iconst (v := 1) hx hb d_M_toHalf_36 (by decide) ?_
    refine lv_ishr hx hb d_M_toHalf_37 ?_
    refine lv_topi (fun v_38 e_38 => ?_)
    refine lv_istore (lv' := [(6, .int v_38), (1, .int a), (2, .long v_13), (4, .int lw), (5, .int hg2)]) hx hb d_M_toHalf_38 hl (by decide) rfl (fun ls hl => ?_)
    refine lv_iload hx hb d_M_toHalf_40 (lv_at hl 0 rfl) ?_
    refine cs_l [.int v_38] 1 rfl (rest := []) hx hb hml hown hg (c_M_scaled l v_38) k_364 k_365 k_3 k_366 (by decide +kernel) hl.1 rfl rfl ⟨Nat.le_of_ble_eq_true rfl, Nat.le_of_ble_eq_true rfl⟩ rfl (Nat.le_of_ble_eq_true rfl) ⟨Nat.zero_le _, Nat.zero_le _⟩ d_M_toHalf_42 (fun r_42 h_42 => ?_)
    refine lv_lload_n hx hb d_M_toHalf_45 rfl (lv_at hl 2 rfl) ?_
    refine rl_gt (tgt := 57) hx hb d_M_toHalf_46 d_M_toHalf_47 (by decide) (fun c_46 => ?_) (fun c_46 => ?_)
    · refine lv_iload hx hb d_M_toHalf_57 (lv_at hl 0 rfl) ?_
      refine lv_istore (lv' := [(5, .int v_38), (6, .int v_38), (1, .int a), (2, .long v_13), (4, .int lw)]) hx hb d_M_toHalf_59 hl (by decide) rfl (fun ls hl => ?_)
      refine lv_goto (tgt := 22) hx hb d_M_toHalf_61 (by decide) ?_
      exact ih _ _ ((ti_mid hN hdu hi c_28 e_38 h_42).1 c_46).1 ((ti_mid hN hdu hi c_28 e_38 h_42).1 c_46).2 ls (lv_sub hl [2, 3, 4, 0] rfl)
    · refine lv_iload hx hb d_M_toHalf_50 (lv_at hl 0 rfl) ?_
      refine lv_istore (lv' := [(4, .int v_38), (6, .int v_38), (1, .int a), (2, .long v_13), (5, .int hg2)]) hx hb d_M_toHalf_52 hl (by decide) rfl (fun ls hl => ?_)
      refine lv_goto (tgt := 61) hx hb d_M_toHalf_54 (by decide) ?_
      refine lv_goto (tgt := 22) hx hb d_M_toHalf_61 (by decide) ?_
      exact ih _ _ ((ti_mid hN hdu hi c_28 e_38 h_42).2 c_46).1 ((ti_mid hN hdu hi c_28 e_38 h_42).2 c_46).2 ls (lv_sub hl [2, 3, 0, 4] rfl)
end
section
/-! what an exception's making needs beyond the good words -/
abbrev nAE : String := "java/lang/ArithmeticException"
abbrev nIA : String := "java/lang/IllegalArgumentException"
abbrev nRE : String := "java/lang/RuntimeException"
abbrev nEX : String := "java/lang/Exception"
abbrev nTH : String := "java/lang/Throwable"
def exL : List Cond := [.declares ⟨nRE, "<init>", "()V"⟩, .declares ⟨nEX, "<init>", "()V"⟩, .declares ⟨nTH, "<init>", "()V"⟩, .castable nAE nAE, .castable nIA nIA, .laysStatic nTH "UNASSIGNED_STACK" "[Ljava/lang/StackTraceElement;", .laysStatic nTH "SUPPRESSED_SENTINEL" "Ljava/util/List;", .isRef (.static nTH "UNASSIGNED_STACK" "[Ljava/lang/StackTraceElement;"), .isRef (.static nTH "SUPPRESSED_SENTINEL" "Ljava/util/List;")]
def exw (U : State) : Prop := ∀ w ∈ exL, w.before #[] U = true
theorem exw_args {U : State} (h : exw U) (A : Array Value) : ∀ w ∈ exL, w.before A U = true := by
  intro w hw
  have h1 := h w hw
  simp only [exL, List.mem_cons, List.not_mem_nil, or_false] at hw
  rcases hw with rfl | rfl | rfl | rfl | rfl | rfl | rfl | rfl | rfl <;> exact h1
theorem ex_ls {s U : State} (hvm : s.vm.Alike U.vm) (hst : ∀ (q : Nat) (cell : Cell), s.heap[q]? = some cell → cell.vm.isStatics = true → U.heap[q]? = some cell) {O n d : String} (h : (Cond.laysStatic O n d).before #[] s = true) : (Cond.laysStatic O n d).before #[] U = true := by
  obtain ⟨c, k, i, f, a, cell, hc, hi, hs, ha, hcell, hss, hcls, hlt, hty⟩ := Cond.laysStatic_spec h
  obtain ⟨k', hi', hek⟩ := State.fieldFound?_setVm hvm hi
  exact Cond.laysStatic_of (s := U) (by rw [hvm.findClass]; exact hc) hi' hs (by rw [hek]; exact ha) (hst a cell hcell hss) hss hcls hlt (by rw [hek]; exact hty)
theorem ex_rf {s U : State} (hvm : s.vm.Alike U.vm) (hst : ∀ (q : Nat) (cell : Cell), s.heap[q]? = some cell → cell.vm.isStatics = true → U.heap[q]? = some cell) {O n d : String} (hl : (Cond.laysStatic O n d).before #[] s = true) (h : (Cond.isRef (.static O n d)).before #[] s = true) : (Cond.isRef (.static O n d)).before #[] U = true := by
  obtain ⟨c, k, i, f, a, cell, hc, hi, hs, ha, hcell, hss, hcls, hlt, hty⟩ := Cond.laysStatic_spec hl
  obtain ⟨k', hi', hek⟩ := State.fieldFound?_setVm hvm hi
  have ha' : k'.statics = some a := by rw [hek]; exact ha
  have e1 : (Term.static O n d).eval #[] s none [] s = cell.slots[f.slot]? := by simp [Term.eval, State.fieldNamed?, hi, hs, ha, hcell, hss]
  have hiU : U.fieldFound? O n d = some (c, k', i, f) := hi'
  have e2 : (Term.static O n d).eval #[] U none [] U = cell.slots[f.slot]? := by simp [Term.eval, State.fieldNamed?, hiU, hs, ha', hst a cell hcell hss, hss]
  simp only [Cond.before, Cond.holds, Cond.value, e1] at h
  simp only [Cond.before, Cond.holds, Cond.value, e2]
  exact h
theorem exw_moved {s U : State} (hvm : s.vm.Alike U.vm) (hst : ∀ (q : Nat) (cell : Cell), s.heap[q]? = some cell → cell.vm.isStatics = true → U.heap[q]? = some cell) (h : exw s) : exw U := by
  intro w hw
  have h1 := h w hw
  have l1 := h (.laysStatic nTH "UNASSIGNED_STACK" "[Ljava/lang/StackTraceElement;") (by decide +kernel)
  have l2 := h (.laysStatic nTH "SUPPRESSED_SENTINEL" "Ljava/util/List;") (by decide +kernel)
  simp only [exL, List.mem_cons, List.not_mem_nil, or_false] at hw
  rcases hw with rfl | rfl | rfl | rfl | rfl | rfl | rfl | rfl | rfl
  · exact va_tabs rfl (rfl : (s.setVm U.vm).vm = U.vm) (by rw [Cond.declares_setVm hvm]; exact h1)
  · exact va_tabs rfl (rfl : (s.setVm U.vm).vm = U.vm) (by rw [Cond.declares_setVm hvm]; exact h1)
  · exact va_tabs rfl (rfl : (s.setVm U.vm).vm = U.vm) (by rw [Cond.declares_setVm hvm]; exact h1)
  · exact va_tabs rfl (rfl : (s.setVm U.vm).vm = U.vm) (by rw [Cond.castable_setVm hvm]; exact h1)
  · exact va_tabs rfl (rfl : (s.setVm U.vm).vm = U.vm) (by rw [Cond.castable_setVm hvm]; exact h1)
  · exact ex_ls hvm hst h1
  · exact ex_ls hvm hst h1
  · exact ex_rf hvm hst l1 h1
  · exact ex_rf hvm hst l2 h1
/-! contracts of methods that may throw -/
def MetT (l : Launch) (y : MethodName) (ws : List Cond) (rm : Room) (Pc : Array Value → State → Prop) (Qc : Array Value → State → Outcome → State → Prop) (mc ms : Nat) (free : Addr → Prop) : Prop :=
  MetFree l y (headSpec ws rm) Pc (fun _ _ _ _ _ => True) (fun a st o t => Qc a st o t ∧ st.WarmedH t.vm ∧ ∃ L, st.sameButNew ({ t with vm := st.vm } : State) L mc ms ∧ ∀ q ∈ L, free q.base)
def MQT (below : List Frame) (Qc : Array Value → State → Outcome → State → Prop) (a : Array Value) (s : State) (mc ms : Nat) (free : Addr → Prop) : State → Prop := fun t =>
  ∃ o, t.status = .running ∧ Ended t below o ∧ Qc a s o t ∧ s.WarmedH t.vm ∧ ∃ L, s.sameButNew ({ t with vm := s.vm } : State) L mc ms ∧ ∀ q ∈ L, free q.base
section TR
variable {p : Program} {l : Launch} {e : Env} {R : Room} {s : State} {m : MethodId} {args : Array Value} {below : List Frame} {meth : Method} {c : Code} {H : Heap} {locs : List Loc} {cells slots : Nat} {Q Q2 : State → Prop}
variable {cc : ByteArray} {pc : Nat} {ls : Array Slot} {rest st0 : List Value}
theorem wmono {g : JFrame} (h : ∀ t, Q t → Q2 t) (k : W p l e R s m args below meth c H locs cells slots Q g) : W p l e R s m args below meth c H locs cells slots Q2 g := by
  intro T hT X
  obtain ⟨t, a, b⟩ := k T hT X
  exact ⟨t, a, h t b⟩
/-- a return out of a method that may throw -/
theorem wret {g : JFrame} {Qc : Array Value → State → Outcome → State → Prop} {mc ms : Nat} {free : Addr → Prop} (k : W p l e R s m args below meth c H locs cells slots (MQ below Qc args s mc ms free) g) : W p l e R s m args below meth c H locs cells slots (MQT below Qc args s mc ms free) g :=
  wmono (fun _ ⟨o, h1, h2, h3, L, ⟨_, hW, hF⟩, hL⟩ => ⟨o, h1, h2, h3, hW, L, hF, hL⟩) k
end TR
theorem pmT {l : Launch} {y : MethodName} {cc : ByteArray} {maxL : Nat} {ret : Option FieldType} {rm : Room} {B : State → Prop} {Qc : Array Value → State → Outcome → State → Prop} {mc ms : Nat} {free : Addr → Prop} (av : List Value) (hy : plainFor y = true) (hn : (lg_sl av).length ≤ maxL)
    (body : ∀ (p : Program) (e : Env) (s : State) (m : MethodId) (below : List Frame) (meth : Method) (c : Code) (ls : Array Slot), p.tables.exec = Jvm.exec → c.code = cc → meth.sig.returnType = ret → c.maxLocals = maxL → s.vm.findClass y.cls = some m.cls → (∀ w ∈ lw_gd, w.before av.toArray s = true) → meth.locks = false → c.exceptionTable.toList = [] → B s → lv_has ls maxL (lv_args 0 av) →
      W p l e rm s m av.toArray below meth c s.heap [] 0 0 (MQT below Qc av.toArray s mc ms free) (F0 m 0 ls [])) : MetT l y (Cond.code y cc maxL ret :: lw_gd) rm (va_Pc av B) Qc mc ms free := by
  refine MetFree.of_bodySF (code := cc) (maxLocals := maxL) (ret := ret) hy ?_ ?_
  · intro args s m h hn
    obtain ⟨meth, c, h1, h2, h3, h4, h5, h6, -, -⟩ := Cond.code_spec hn (atoms_spec (ws := Cond.code y cc maxL ret :: lw_gd) h _ List.mem_cons_self)
    exact ⟨meth, c, h1, h2, h3, h4, h5, h6⟩
  · intro p e s m args below meth c s₁ B0 hml hv _
    obtain ⟨rfl, hB⟩ := hv
    have hts := atoms_spec (ws := Cond.code y cc maxL ret :: lw_gd) B0.pre
    have hh0 : s₁.heap = s.heap := by rw [B0.state]; rfl
    have hne := B0.noHandlers (hts _ List.mem_cons_self)
    have h0 : c.exceptionTable.toList = [] := by
      have q : c.exceptionTable.size = 0 := by simpa [Array.isEmpty] using hne
      exact List.eq_nil_of_length_eq_zero (by simpa using q)
    have hl := lv_entry av (n := maxL) hn
    have K := body p e s m below meth c _ B0.exec B0.bytes B0.returns hml (findClass_of_methodNamed B0.named) (fun w h => hts w (List.mem_cons_of_mem _ h)) B0.notSynchronized h0 hB hl
    rw [← lg_entry_eq (m := m)] at K
    obtain ⟨t, a1, o, b1, b2, b3⟩ := K s₁ hh0 (Stand.of_body B0)
    exact ⟨t, o, a1, b1, b2, b3⟩
section TC
variable {p : Program} {l : Launch} {e : Env} {R : Room} {s : State} {m : MethodId} {args : Array Value} {below : List Frame} {meth : Method} {c : Code} {H : Heap} {locs : List Loc} {cells slots : Nat} {Q : State → Prop}
variable {cc : ByteArray} {pc : Nat} {ls : Array Slot} {rest st0 : List Value}
/-- behind the call of a method that may throw: back in the frame, or the note over it -/
def endT (T : State) (g : JFrame) (len : Nat) : Outcome → State
  | .returned v => T.setTop { g with pc := g.pc + len, stack := v.toList ++ g.stack }
  | .threw x => (T.setTop g).pushFrame (.throwing x)
theorem callT {y : MethodName} {ws : List Cond} {rm : Room} {Pc : Array Value → State → Prop} {Qc : Array Value → State → Outcome → State → Prop} {mc ms maxL : Nat} {free : Addr → Prop} {T : State} {a : Array Value} {g : JFrame} {ig : Instr} {len : Nat} {mk : MethodId} {methY : Method} {cY : Code}
    (hM : MetT l y ws rm Pc Qc mc ms free) (X : Stand p l e R s m args below meth c T locs cells slots) (hg : g.method = m) (hsize : g.locals.size = c.maxLocals) (hdg : decode c.code g.pc = .ok (ig, len)) (hW : 2 * g.monitorRoom + (g.stack.map fun v => v.category).sum ≤ 8)
    (hn : T.methodNamed? y = some mk) (hmY : T.vm.method? mk = some methY) (hcY : methY.code = some cY) (hlY : cY.maxLocals = maxL) (hini : (Cond.initialized y.cls).before a T = true) (hws : ∀ w ∈ ws, w.before a T = true) (hfr : rm.frames + 1 ≤ R.frames) (hlo : 8 + (maxL + 11) + rm.locals ≤ R.locals) (hc : cells + rm.cells ≤ R.cells) (hs : slots + rm.slots ≤ R.slots) (hP : Pc a (T.calling g mk a)) :
    ∃ (o : Outcome) (t T' : State) (L : List Loc), Stand p l e R s m args below meth c T' (locs ++ L) (cells + mc) (slots + ms) ∧ (∀ q ∈ L, free q.base) ∧ T'.heap = t.heap ∧ T'.vm = t.vm ∧ Qc a (T.calling g mk a) o t ∧ Steps p.tables e below (doInvoke e (T.setTop g) [] mk a).1 (endT T' g len o) := by
  obtain ⟨kY, hkY, -⟩ := className_of_methodNamed hn
  have hinitY : kY.init = .initialized := Cond.initialized_spec (findClass_of_methodNamed hn) hkY hini
  have h : At T g.method c below := by rw [hg]; exact X.here
  have happ : (headSpec ws rm).appliesLoose y e.platform (T.calling g mk a) = true :=
    Spec.appliesLoose_calling (g := g) h hdg hn hkY hinitY (X.room_calling (g := g) (R' := rm) hsize hmY hcY hfr (by rw [hlY]; omega) hc hs) (atoms_intro (fun w hw => hws w hw))
  obtain ⟨mid, hmid⟩ := h.above
  have hfr2 : (T.setTop g).frames = (.java g :: mid) ++ below := by rw [State.frames_setTop' g h.top, hmid]; rfl
  obtain ⟨o, t, hsteps, -, hend, hq, hW2, L, hsame, hL⟩ := Steps.callFree hM p X.admits X.cas X.clock (acts := []) hfr2 happ hP trivial
  have hF : (T.setTop g).frames = .java g :: below := by rw [State.frames_setTop' _ X.here.top, X.tail]
  rw [hF] at hend
  cases o with
  | returned v =>
    obtain ⟨T', X', -, -, et⟩ := X.outOf hg hdg hend hW2 hsame
    exact ⟨.returned v, t, T', L, X', hL, by rw [et]; rfl, by rw [et]; rfl, hq, by rw [show endT T' g len (.returned v) = t from et.symm]; exact hsteps⟩
  | threw x =>
    obtain ⟨T', X', -, -, et⟩ := X.outOfThrown hg hend hW2 hsame
    exact ⟨.threw x, t, T', L, X', hL, by rw [et, Stand.throwing_heap], by rw [et, Stand.throwing_vm], hq, by rw [show endT T' g len (.threw x) = t from et.symm]; exact hsteps⟩
/-- a call of a method that may throw, as a walk sees it -/
def RunT (p : Program) (l : Launch) (e : Env) (R : Room) (s : State) (m : MethodId) (args : Array Value) (below : List Frame) (meth : Method) (c : Code) (H : Heap) (locs : List Loc) (cells slots mc ms : Nat) (g g2 : JFrame) (Qa : State → Outcome → State → Prop) (free : Addr → Prop) : Prop :=
  ∀ T : State, T.heap = H → Stand p l e R s m args below meth c T locs cells slots → ∃ (o : Outcome) (st₀ t T' : State) (L : List Loc), st₀.heap = H ∧ s.WarmedH st₀.vm ∧ Stand p l e R s m args below meth c T' (locs ++ L) (cells + mc) (slots + ms) ∧ (∀ q ∈ L, free q.base) ∧ T'.heap = t.heap ∧ T'.vm = t.vm ∧ Qa st₀ o t ∧
    ∀ target, Steps p.tables e below (endT T' g2 3 o) target → Steps p.tables e below (T.setTop g) target
theorem runTS {y : MethodName} {bytes : ByteArray} {maxL nL index : Nat} {ret : Option FieldType} {rm : Room} {own : String} {Pc : Array Value → State → Prop} {Qc : Array Value → State → Outcome → State → Prop} {mc ms : Nat} {free : Addr → Prop} (As : List Value) (n : Nat) (hn : As.length = n) (hx : p.tables.exec = Jvm.exec) (hb : c.code = cc) (hml : c.maxLocals = nL) (hown : s.vm.findClass own = some m.cls) (hg : ∀ w ∈ lw_gd, w.before args s = true) (hM : MetT l y (Cond.code y bytes maxL ret :: lw_gd) rm Pc Qc mc ms free)
    (h1 : Cond.methodLink own index y ∈ lw_gd) (h2 : Cond.static y ∈ lw_gd) (h3 : Cond.initialized y.cls ∈ lw_gd) (h4 : Cond.code y bytes maxL ret ∈ lw_gd) (hd : y.cls ≠ "java/lang/invoke/MethodHandle" ∧ y.cls ≠ "java/lang/invoke/VarHandle" ∧ (parseMethodDescriptor y.desc).map (fun d => d.parameters.length) = some n)
    (hsz : ls.size = nL) (hc : rm.cells = mc) (hs : rm.slots = ms) (hR : rm.frames + 1 ≤ R.frames ∧ 8 + (maxL + 11) + rm.locals ≤ R.locals) (hst : st0 = As.reverse ++ rest) (hW : (rest.map fun v => v.category).sum ≤ 8) (hf : cells + mc ≤ R.cells ∧ slots + ms ≤ R.slots) (hdg : decode cc pc = .ok (.invokestatic index, 3))
    (hP : ∀ U : State, U.heap = H → s.WarmedH U.vm → Pc As.toArray U) (hbl : FrameBlind Pc) : RunT p l e R s m args below meth c H locs cells slots mc ms (F0 m pc ls st0) (F0 m pc ls rest) (Qc As.toArray) free := by
  intro T hT X
  have hcode := hg _ h4
  obtain ⟨mk, hnamed⟩ := Cond.code_named hcode
  obtain ⟨methM, cM, hmethM, hcM, -, hlM, -, -, -, hsigM⟩ := Cond.code_spec hnamed hcode
  have hstatic : methM.isStatic = true := Cond.static_spec hnamed hmethM (hg _ h2)
  obtain ⟨kP, hkP, -⟩ := className_of_methodNamed hnamed
  have hinitP : kP.init = .initialized := Cond.initialized_spec (findClass_of_methodNamed hnamed) hkP (hg _ h3)
  have hlen : As.length = methM.sig.parameters.length := by
    have q := hd.2.2
    rw [hsigM] at q
    rw [hn]; exact (Option.some.inj q).symm
  obtain ⟨vm₁, X₁, hstep₁⟩ := X.invokestatic hx hown (hg _ h1) hnamed hmethM hstatic hkP hinitP ⟨hd.1, hd.2.1⟩ (g := F0 m pc ls st0) rfl (argsL := As) (rest := rest) hlen hst (by rw [hb]; exact hdg)
  have hw2 : ∀ w ∈ Cond.code y bytes maxL ret :: lw_gd, w.before As.toArray (T.setVm vm₁) = true := fun w hw => by
    have k : w ∈ lw_gd := by
      rcases List.mem_cons.mp hw with rfl | h
      · exact h4
      · exact h
    exact word_at (U := T.setVm vm₁) X₁.warmed (gd_good k) (hg w k)
  obtain ⟨o, t, T', L, X', hL, e1, e2, hq, st⟩ := callT (g := F0 m pc ls rest) hM X₁ rfl (hsz.trans hml.symm) (by rw [hb]; exact hdg) (lv_room hW) (X₁.named hnamed) (by rw [X₁.warmed.alike.method?]; exact hmethM) hcM hlM (word_at (U := T.setVm vm₁) X₁.warmed (gd_good h3) (hg _ h3)) hw2 hR.1 hR.2 (by rw [hc]; exact hf.1) (by rw [hs]; exact hf.2) (hbl _ _ _ _ (hP (T.setVm vm₁) hT X₁.warmed))
  exact ⟨o, (T.setVm vm₁).calling (F0 m pc ls rest) mk As.toArray, t, T', L, hT, X₁.warmed, X', hL, e1, e2, hq, fun target h => hstep₁ _ fun acts => by rw [doInvoke_state]; exact st.trans h⟩
theorem runTV {y : MethodName} {bytes : ByteArray} {maxL nL index : Nat} {ret : Option FieldType} {rm : Room} {own C : String} {b : Nat} {Pc : Array Value → State → Prop} {Qc : Array Value → State → Outcome → State → Prop} {mc ms : Nat} {free : Addr → Prop} (As : List Value) (n : Nat) (hn : As.length = n) (hx : p.tables.exec = Jvm.exec) (hb : c.code = cc) (hml : c.maxLocals = nL) (hown : s.vm.findClass own = some m.cls) (hg : ∀ w ∈ lw_gd, w.before args s = true) (hM : MetT l y (Cond.code y bytes maxL ret :: lw_gd) rm Pc Qc mc ms free)
    (hrc : ∃ cell : Cell, H[b]? = some cell ∧ cell.vm.isStatics = false ∧ s.vm.findClass C = some cell.cls) (h1 : Cond.methodLink own index y ∈ lw_gd) (h2 : Cond.instanceMethod y ∈ lw_gd) (h3 : Cond.selects C y y ∈ lw_gd) (h4 : Cond.initialized y.cls ∈ lw_gd) (h5 : Cond.code y bytes maxL ret ∈ lw_gd) (hd : y.cls ≠ "java/lang/invoke/MethodHandle" ∧ y.cls ≠ "java/lang/invoke/VarHandle" ∧ (parseMethodDescriptor y.desc).map (fun d => d.parameters.length) = some n)
    (hsz : ls.size = nL) (hc : rm.cells = mc) (hs : rm.slots = ms) (hR : rm.frames + 1 ≤ R.frames ∧ 8 + (maxL + 11) + rm.locals ≤ R.locals) (hst : st0 = As.reverse ++ .ref b :: rest) (hW : (rest.map fun v => v.category).sum ≤ 8) (hf : cells + mc ≤ R.cells ∧ slots + ms ≤ R.slots) (hdg : decode cc pc = .ok (.invokevirtual index, 3))
    (hP : ∀ U : State, U.heap = H → s.WarmedH U.vm → Pc (Value.ref b :: As).toArray U) (hbl : FrameBlind Pc) : RunT p l e R s m args below meth c H locs cells slots mc ms (F0 m pc ls st0) (F0 m pc ls rest) (Qc (Value.ref b :: As).toArray) free := by
  intro T hT X
  have hcode := hg _ h5
  obtain ⟨cellB, hcB, hoB, hclB⟩ := hrc
  obtain ⟨mk, methM, hnamed, hmethM, hstM, habM⟩ := Cond.instanceMethod_spec (hg _ h2)
  obtain ⟨methM', cM, hmethM', hcM, -, hlM, -, -, -, hsigM⟩ := Cond.code_spec hnamed hcode
  cases hmethM.symm.trans hmethM'
  obtain ⟨c2, r2, m2, q1, q2, q3, q4, kP, hkP, hkPi⟩ := Cond.selects_spec (hg _ h3)
  cases hclB.symm.trans q1
  cases (State.methodFound?_of_named hnamed ⟨hd.1, hd.2.1⟩).symm.trans q2
  cases hnamed.symm.trans q3
  have hselP : selectMethod e.platform s.vm cellB.cls mk = .method mk := by rw [Launch.admits_selectMethod X.admits]; exact q4
  have hlen : As.length = methM.sig.parameters.length := by
    have q := hd.2.2
    rw [hsigM] at q
    rw [hn]; exact (Option.some.inj q).symm
  obtain ⟨vm₁, X₁, hstep₁⟩ := X.invokevirtual hx hown (hg _ h1) hnamed hmethM hstM hkP hkPi ⟨hd.1, hd.2.1⟩ (a := b) (cell := cellB) (by rw [hT]; exact hcB)
    (fun z h => by rw [h] at hoB; cases hoB) hselP hmethM habM hkP hkPi (g := F0 m pc ls st0) rfl (argsL := As) (rest := rest) hlen hst (by rw [hb]; exact hdg)
  have hw2 : ∀ w ∈ Cond.code y bytes maxL ret :: lw_gd, w.before (Value.ref b :: As).toArray (T.setVm vm₁) = true := fun w hw => by
    have k : w ∈ lw_gd := by
      rcases List.mem_cons.mp hw with rfl | h
      · exact h5
      · exact h
    exact word_at (U := T.setVm vm₁) X₁.warmed (gd_good k) (hg w k)
  obtain ⟨o, t, T', L, X', hL, e1, e2, hq, st⟩ := callT (g := F0 m pc ls rest) hM X₁ rfl (hsz.trans hml.symm) (by rw [hb]; exact hdg) (lv_room hW) (X₁.named hnamed) (by rw [X₁.warmed.alike.method?]; exact hmethM) hcM hlM (word_at (U := T.setVm vm₁) X₁.warmed (gd_good h4) (hg _ h4)) hw2 hR.1 hR.2 (by rw [hc]; exact hf.1) (by rw [hs]; exact hf.2) (hbl _ _ _ _ (hP (T.setVm vm₁) hT X₁.warmed))
  exact ⟨o, (T.setVm vm₁).calling (F0 m pc ls rest) mk (Value.ref b :: As).toArray, t, T', L, hT, X₁.warmed, X', hL, e1, e2, hq, fun target h => hstep₁ _ fun acts => by rw [doInvoke_state]; exact st.trans h⟩
end TC
end
section
/-! the rules of a throw, of its passing on and of its catch -/
theorem a_AE : ∀ a ∈ Bundle.ownAtoms0 "FixedNumbers" 71 nAE [nRE, nEX], a ∈ lw_gd ∨ a ∈ exL := by decide +kernel
theorem a_IA : ∀ a ∈ Bundle.ownAtoms0 "FixedNumbers" 18 nIA [nRE, nEX], a ∈ lw_gd ∨ a ∈ exL := by decide +kernel
section TQ
variable {p : Program} {l : Launch} {e : Env} {R : Room} {s : State} {m : MethodId} {args : Array Value} {below : List Frame} {meth : Method} {c : Code} {H : Heap} {locs : List Loc} {cells slots : Nat} {Q : State → Prop}
variable {cc : ByteArray} {pc : Nat} {ls : Array Slot} {rest st0 : List Value}
theorem thr {Qc : Array Value → State → Outcome → State → Prop} {free : Addr → Prop} {cls : String} {ix ic nL : Nat} (hfl : l.flags = flags0) (hx : p.tables.exec = Jvm.exec) (hb : c.code = cc) (hml : c.maxLocals = nL) (hown : s.vm.findClass "FixedNumbers" = some m.cls) (hg : ∀ w ∈ lw_gd, w.before args s = true) (hlk : meth.locks = false) (htab : c.exceptionTable.toList = []) (hex : exw s)
    (hat : ∀ a ∈ Bundle.ownAtoms0 "FixedNumbers" ic cls [nRE, nEX], a ∈ lw_gd ∨ a ∈ exL) (hfit : Bundle.fit cls = true) (h1 : Cond.classLink "FixedNumbers" ix cls ∈ lw_gd) (h2 : Cond.instantiable cls 6 ∈ lw_gd) (h3 : Cond.initialized cls ∈ lw_gd)
    (hsz : ls.size = nL) (hR : 5 < R.frames ∧ 81 ≤ R.locals) (hf : cells + 1 ≤ R.cells ∧ slots + 6 ≤ R.slots) (hH : s.heap.size ≤ H.size) (hlocs : ∀ x ∈ locs, ∀ cell, s.heap[x.base]? = some cell → cell.vm.isStatics = false) (hfree : ∀ q ∈ locs, free q.base)
    (d0 : decode cc pc = .ok (.new ix, 3)) (d1 : decode cc (pc + 3) = .ok (.dup, 1)) (d2 : decode cc (pc + 4) = .ok (.invokespecial ic, 3)) (d3 : decode cc (pc + 7) = .ok (.athrow, 1))
    (hq : ∀ (U : State) (x : Nat) (ce : Cell), s.WarmedH U.vm → s.sameButNew ({ U with vm := s.vm } : State) locs (cells + 1) (slots + 6) → s.heap.size ≤ x → U.heap[x]? = some ce → ce.vm = .none → s.vm.findClass cls = some ce.cls → Qc args s (.threw x) U) :
    W p l e R s m args below meth c H locs cells slots (MQT below Qc args s (cells + 1) (slots + 6) free) (F0 m pc ls []) := by
  refine W.newc hx hb hown (hg _ h1) (hg _ h2) (hg _ h3) rfl d0 hf.1 hf.2 (fun cC kC e1 e2 _ _ => ?_)
  refine W.eq (g2 := F0 m (pc + 3) ls [.ref H.size]) rfl ?_
  refine lv_dup hx hb d1 rfl ?_
  intro T hT X
  obtain ⟨U, st, hrun, hend, hW, hsame, ce, hce, K⟩ := X.ctorThrow0 hx (Launch.traces_off hfl X.admits) (own := "FixedNumbers") (cls := cls) (names := [nRE, nEX]) (ic := ic) hown hfit (by decide +kernel)
    (fun a ha => (hat a ha).elim (fun q => hg a q) (fun q => exw_args hex _ a q)) hlocs e1 e2 (a := H.size) (by rw [hT]; simp [freshCell]) hH
    (g := F0 m (pc + 4) ls [.ref H.size, .ref H.size]) rfl (hsz.trans hml.symm) rfl rfl (rest := []) rfl (by rw [hb]; exact d2) (by rw [hb]; exact d3) (by rw [htab]; intro x hx; cases hx) hR.1 hR.2 hlk
  exact ⟨U, st, .threw H.size, hrun, hend, hq U H.size ce hW hsame hH hce K.vm K.cls, hW, locs, hsame, hfree⟩
/-- the walk with an exception under way over the frame -/
def Wt (p : Program) (l : Launch) (e : Env) (R : Room) (s : State) (m : MethodId) (args : Array Value) (below : List Frame) (meth : Method) (c : Code) (H : Heap) (locs : List Loc) (cells slots : Nat) (Q : State → Prop) (g : JFrame) (x : Addr) : Prop :=
  ∀ T : State, T.heap = H → Stand p l e R s m args below meth c T locs cells slots → ∃ t, Steps p.tables e below ((T.setTop g).pushFrame (.throwing x)) t ∧ Q t
theorem goT {mc ms : Nat} {g g2 : JFrame} {Qa : State → Outcome → State → Prop} {free : Addr → Prop} (hr : RunT p l e R s m args below meth c H locs cells slots mc ms g g2 Qa free)
    (kr : ∀ (v : Option Value) (st₀ t : State) (L : List Loc), st₀.heap = H → s.WarmedH st₀.vm → s.WarmedH t.vm → (∀ q ∈ L, free q.base) → Qa st₀ (.returned v) t → W p l e R s m args below meth c t.heap (locs ++ L) (cells + mc) (slots + ms) Q { g2 with pc := g2.pc + 3, stack := v.toList ++ g2.stack })
    (kt : ∀ (x : Addr) (st₀ t : State) (L : List Loc), st₀.heap = H → s.WarmedH st₀.vm → s.WarmedH t.vm → (∀ q ∈ L, free q.base) → Qa st₀ (.threw x) t → Wt p l e R s m args below meth c t.heap (locs ++ L) (cells + mc) (slots + ms) Q g2 x) : W p l e R s m args below meth c H locs cells slots Q g := by
  intro T hT X
  obtain ⟨o, st₀, t, T', L, e1, e2, X', hL, e3, e4, hq, st⟩ := hr T hT X
  have hW : s.WarmedH t.vm := by rw [← e4]; exact X'.warmed
  cases o with
  | returned v =>
    obtain ⟨u, a1, b1⟩ := kr v st₀ t L e1 e2 hW hL hq T' e3 X'
    exact ⟨u, st u a1, b1⟩
  | threw x =>
    obtain ⟨u, a1, b1⟩ := kt x st₀ t L e1 e2 hW hL hq T' e3 X'
    exact ⟨u, st u a1, b1⟩
/-- the method passes the exception on -/
theorem onT {Qc : Array Value → State → Outcome → State → Prop} {free : Addr → Prop} {x : Addr} (hlk : meth.locks = false) (htab : c.exceptionTable.toList = []) (hfree : ∀ q ∈ locs, free q.base) (hq : ∀ U : State, U.heap = H → s.WarmedH U.vm → s.sameButNew ({ U with vm := s.vm } : State) locs cells slots → Qc args s (.threw x) U) :
    Wt p l e R s m args below meth c H locs cells slots (MQT below Qc args s cells slots free) (F0 m pc ls rest) x := by
  intro T hT X
  obtain ⟨st, hrun, hend, hW, hsame⟩ := X.leaveThrown x (g := F0 m pc ls rest) rfl rfl rfl (by rw [htab]; intro y hy; cases hy) hlk
  exact ⟨_, st, .threw x, hrun, hend, hq _ (by rw [← hT]; rfl) hW hsame, hW, locs, hsame, hfree⟩
end TQ
/-! a catch whose type may not be resolved yet -/
theorem coldGo {Q : Handler → Pre} {E : CtlPost} {e : Env} {d : Bool} {acts : List Action} {s : State} {f : JFrame} {a : Addr} {x : ExceptionTableEntry} {t : List ExceptionTableEntry} {c : ClassId} {vm' : Vm} {cell : Cell} (hx : covers x f.pc = true) (h0 : x.catchType ≠ 0)
    (hg : (Jvm.resolveClass f.method.cls x.catchType).Gives e.toSetting s.vm (.ok c) vm') (hsz : vm'.classes.size ≤ s.vm.classes.size) (hcell : s.heap[a]? = some cell) (hobj : ∀ k, cell.vm ≠ .statics k)
    (hk : ∃ k, vm'.classes[cell.cls]? = some k) (hc : ∃ k, vm'.classes[c]? = some k) (hfit : vm'.assignable cell.cls c = true) :
    wp (findHandler.go f a (x :: t)) Q E e d acts s ↔ Q (.found x.handlerPc) d acts (s.setVm vm') := by
  simp only [covers] at hx
  obtain ⟨ha, ht⟩ := hg.op (op := VmOp.resolveClass f.method.cls x.catchType) rfl
  simp [findHandler.go, hx, h0, ha, ht, hsz, hcell, hobj, hk, hc, hfit, VmOp.dirties, VmOp.acts]
theorem coldStep {e : Env} {s s' : State} {a : Addr} {f : JFrame} {r : List Frame} {pc : Nat} (hfind : ∀ (Q : Handler → Pre) (E : CtlPost) (d : Bool) (acts : List Action), wp (findHandler f a) Q E e d acts s ↔ Q (.found pc) d acts s') :
    (stepThrowing e s a (.java f :: r)).Is (s'.setFrames (.java { f with pc := pc, stack := [.ref a] } :: r)) [] := by
  simp only [stepThrowing, searchFrame, vmDo]
  generalize hr : Sem.go _ e false [] s = res
  obtain ⟨as, rfl, ha⟩ := Sem.eq_ok_of hr (a := Handler.found pc) (s' := s') (acts' := []) (by simp [hfind _ _ _ _])
  exact ⟨rfl, ha⟩
section TK
variable {p : Program} {l : Launch} {e : Env} {R : Room} {s : State} {m : MethodId} {args : Array Value} {below : List Frame} {meth : Method} {c : Code} {H : Heap} {locs : List Loc} {cells slots : Nat} {Q : State → Prop}
variable {pc : Nat} {ls : Array Slot} {rest : List Value}
theorem cat {own cls : String} {en : ExceptionTableEntry} {x : Addr} {ce : Cell} {ix hp : Nat} (htab : c.exceptionTable.toList = [en]) (hcov : covers en pc = true) (hct : en.catchType = ix) (hix : ix ≠ 0) (hhp : en.handlerPc = hp) (hown : s.vm.findClass own = some m.cls) (hl : (Cond.classLink own ix cls).before args s = true)
    (hce : H[x]? = some ce) (hvm : ce.vm = .none) (hcls : s.vm.findClass cls = some ce.cls) (hcast : (Cond.castable cls cls).before args s = true) (h6 : (Cond.instantiable cls 6).before args s = true) (kk : W p l e R s m args below meth c H locs cells slots Q (F0 m hp ls [.ref x])) : Wt p l e R s m args below meth c H locs cells slots Q (F0 m pc ls rest) x := by
  intro T hT X
  have hpl : e.platform.magicAccessors = ({} : Platform).magicAccessors := by rw [X.admits.platform]
  obtain ⟨cC, hfcc, hcl⟩ := Cond.classLink_spec hown hl e.platform hpl
  cases hcls.symm.trans hfcc
  obtain ⟨c1, c2, f1, f2, hasg⟩ := Cond.castable_spec hcast
  cases hcls.symm.trans f1
  cases hcls.symm.trans f2
  obtain ⟨hg₁, hwarm₁, hready₁⟩ := State.classEntry (e := e) X.warmed hcl
  generalize T.vm.noted m.cls ix (.cls ce.cls) = vm₁ at hg₁ hwarm₁ hready₁
  obtain ⟨t, a1, b1⟩ := kk (T.setVm vm₁) hT (X.noted hwarm₁)
  refine ⟨t, ?_, b1⟩
  have h : At T (F0 m pc ls rest).method c below := X.here
  obtain ⟨hgo, hw⟩ := h.throwing (g := F0 m pc ls rest) x
  refine Steps.head hgo hw ?_
  have hm1 : ((T.setTop (F0 m pc ls rest)).pushFrame (.throwing x)).vm.method? m = some meth := by rw [Stand.throwing_vm]; exact X.method'
  have hk0 : ∃ k, s.vm.classes[ce.cls]? = some k := by
    obtain ⟨c3, k3, f3, hk3, -⟩ := Cond.instantiable_spec h6
    cases hcls.symm.trans f3
    exact ⟨k3, hk3⟩
  have hk1 : ∃ k, vm₁.classes[ce.cls]? = some k := by
    obtain ⟨k, hk⟩ := hk0
    obtain ⟨k', hk', -⟩ := hwarm₁.alike.2.2 _ _ hk
    exact ⟨k', hk'⟩
  have hfind : ∀ (Q : Handler → Pre) (E : CtlPost) (d : Bool) (acts : List Action), wp (findHandler (F0 m pc ls rest) x) Q E e d acts ((T.setTop (F0 m pc ls rest)).pushFrame (.throwing x)) ↔ Q (.found hp) d acts (((T.setTop (F0 m pc ls rest)).pushFrame (.throwing x)).setVm vm₁) := by
    intro Q E d acts
    rw [W.findHandler_eq hm1 X.code, htab, coldGo (s := (T.setTop (F0 m pc ls rest)).pushFrame (.throwing x)) (c := ce.cls) (vm' := vm₁) (cell := ce) hcov (by rw [hct]; exact hix) (by rw [hct, Stand.throwing_vm]; exact hg₁) (by rw [Stand.throwing_vm]; no_record) (by rw [Stand.throwing_heap, hT]; exact hce) (fun k => by rw [hvm]; exact fun h => by cases h) hk1 hk1 (by rw [hwarm₁.alike.assignable]; exact hasg), hhp]
  rw [stepThread_throwing (frames_entered h.top _), (coldStep (s := (T.setTop (F0 m pc ls rest)).pushFrame (.throwing x)) hfind).1]
  obtain ⟨g₀, hg⟩ := Option.isSome_iff_exists.mp h.top
  obtain ⟨r, hr⟩ := State.topJava?_eq_some.mp hg
  have e1 : ((T.setTop (F0 m pc ls rest)).pushFrame (.throwing x)).setVm vm₁ = (((T.setVm vm₁).setTop (F0 m pc ls rest)).pushFrame (.throwing x)) := rfl
  have hr' : (T.setVm vm₁).frames = .java g₀ :: r := hr
  rw [e1, State.pushFrame, State.setFrames_setFrames, State.setTop_of_frames _ hr', State.setFrames_setFrames]
  rw [State.setTop_of_frames _ hr'] at a1
  rw [hr]
  exact a1
end TK
end
section
/-! the long division's digits -/
theorem dq_mul (Q h l : Nat) : Q * (h * 4294967296 + l) = Q * h * 4294967296 + Q * l := by rw [Nat.mul_add, Nat.mul_assoc]
theorem dq_i {R n h l : Nat} (hh : 2147483648 ≤ h) (hl : l < 4294967296) (hR : R < h * 4294967296 + l) (hn : n < 4294967296) :
    R * 4294967296 + n < (R / h + 1) * (h * 4294967296 + l) ∧ R / h ≤ 4294967297 := by
  constructor
  · rw [dq_mul]
    have h1 : R < (R / h + 1) * h := by
      have q := Nat.lt_mul_div_succ R (show 0 < h by omega)
      rw [Nat.mul_comm] at q; exact q
    generalize (R / h + 1) * h = x at h1 ⊢
    generalize (R / h + 1) * l = y
    omega
  · have h1 : R < 4294967298 * h := by omega
    have := Nat.div_lt_of_lt_mul (m := R) (n := h) (k := 4294967298) (by rw [Nat.mul_comm]; exact h1)
    omega
theorem dq_1 {R n B Q : Nat} (hR : R < B) (hn : n < 4294967296) (hQ : 4294967296 ≤ Q) : R * 4294967296 + n < Q * B := by
  have h1 : 4294967296 * B ≤ Q * B := Nat.mul_le_mul_right B hQ
  have h2 : 4294967296 * (R + 1) ≤ 4294967296 * B := Nat.mul_le_mul_left _ hR
  refine Nat.lt_of_lt_of_le ?_ (Nat.le_trans h2 h1)
  rw [Nat.mul_add, Nat.mul_one, Nat.mul_comm]
  exact Nat.add_lt_add_left hn _
theorem dq_2 {R n h l Q S : Nat} (e : Q * h + S = R) (c : S * 4294967296 + n < Q * l) : R * 4294967296 + n < Q * (h * 4294967296 + l) := by
  rw [dq_mul, ← e, Nat.add_mul, Nat.add_assoc]
  exact Nat.add_lt_add_left c _
theorem dq_3 {R n h l Q S : Nat} (e : Q * h + S = R) (c : Q * l ≤ S * 4294967296 + n) : Q * (h * 4294967296 + l) ≤ R * 4294967296 + n := by
  rw [dq_mul, ← e, Nat.add_mul, Nat.add_assoc]
  exact Nat.add_le_add_left c _
theorem dq_4 {R n h l Q S : Nat} (e : Q * h + S = R) (hQ : Q ≤ 4294967296) (hl : l < 4294967296) (c : 4294967296 ≤ S) : Q * (h * 4294967296 + l) ≤ R * 4294967296 + n := by
  refine dq_3 e ?_
  have h1 : Q * l ≤ 4294967296 * 4294967295 := Nat.mul_le_mul hQ (by omega)
  omega
theorem or32 {x y : Int64} (h : uN y < 4294967296) : uN ((x <<< ((Int32.toInt64 32) &&& 63)) ||| y) = uN x % 4294967296 * 4294967296 + uN y := by
  rw [uN_lor, sl_u x 32 (by decide)]
  have h1 : uN x * 2 ^ 32 % 18446744073709551616 = 2 ^ 32 * (uN x % 4294967296) := by
    generalize uN x = a
    omega
  rw [h1, ← Nat.two_pow_add_eq_or_of_lt (show uN y < 2 ^ 32 from h)]
  generalize uN x % 4294967296 = a
  omega
theorem cu_le {r : Int32} {a b : Nat} (h : r = if a < b then -1 else if a = b then 0 else 1) : r ≤ 0 ↔ a ≤ b := by
  by_cases h1 : a < b
  · rw [if_pos h1] at h; rw [h]; exact ⟨fun _ => Nat.le_of_lt h1, fun _ => by decide⟩
  · rw [if_neg h1] at h
    by_cases h2 : a = b
    · rw [if_pos h2] at h; rw [h]; exact ⟨fun _ => Nat.le_of_eq h2, fun _ => by decide⟩
    · rw [if_neg h2] at h; rw [h]; exact ⟨fun q => absurd q (by decide), fun q => by omega⟩
theorem cu_lt {r : Int32} {a b : Nat} (h : r = if a < b then -1 else if a = b then 0 else 1) : r < 0 ↔ a < b := by
  by_cases h1 : a < b
  · rw [if_pos h1] at h; rw [h]; exact ⟨fun _ => h1, fun _ => by decide⟩
  · rw [if_neg h1] at h
    by_cases h2 : a = b
    · rw [if_pos h2] at h; rw [h]; exact ⟨fun q => absurd q (by decide), fun q => absurd q h1⟩
    · rw [if_neg h2] at h; rw [h]; exact ⟨fun q => absurd q (by decide), fun q => absurd q h1⟩
theorem sm_gt {q : Int64} (h : uN q < 9223372036854775808) : (4294967295 < q ↔ 4294967296 ≤ uN q) ∧ (q ≤ 4294967295 ↔ uN q ≤ 4294967295) := by
  have h1 := uN_int q
  rw [if_pos (by omega)] at h1
  rw [l_lt, l_le, h1, show (4294967295 : Int64).toInt = 4294967295 from by decide]
  omega
theorem hp_of {B v : Int64} (hB : 9223372036854775808 ≤ uN B) (e : v = (Int64.toUInt64 B >>> ((Int32.toInt64 32).toUInt64 &&& Int64.toUInt64 63)).toInt64) : 0 < v ∧ uN v = uN B / 4294967296 ∧ 2147483648 ≤ uN v ∧ uN v < 4294967296 := by
  have h1 : uN v = uN B / 4294967296 := by rw [e]; exact uN_s32 B
  have h2 := uN_lt B
  have h3 := uN_int v
  generalize uN B = b at *
  rw [if_pos (by omega)] at h3
  refine ⟨?_, h1, by omega, by omega⟩
  rw [l_lt, h3, show (0 : Int64).toInt = 0 from rfl]
  omega
def DG (R n h l : Nat) (q r : Int64) : Prop := uN q * h + uN r = R ∧ R * 4294967296 + n < (uN q + 1) * (h * 4294967296 + l) ∧ uN q ≤ 4294967297 ∧ uN r ≤ 4294967295
def DE (R n h l : Nat) (q : Int64) : Prop := uN q * (h * 4294967296 + l) ≤ R * 4294967296 + n ∧ R * 4294967296 + n < (uN q + 1) * (h * 4294967296 + l)
theorem dg_0 {R n h l : Nat} {q r : Int64} (hh : 2147483648 ≤ h) (hh2 : h < 4294967296) (hl : l < 4294967296) (hR : R < h * 4294967296 + l) (hn : n < 4294967296) (hq : uN q = R / h) (hr : uN r = R % h) : DG R n h l q r := by
  obtain ⟨h1, h2⟩ := dq_i hh hl hR hn
  unfold DG
  rw [hq, hr]
  have h3 := Nat.mod_lt R (show 0 < h by omega)
  exact ⟨by rw [Nat.mul_comm]; exact Nat.div_add_mod R h, h1, h2, by omega⟩
theorem dg_q {R n h l : Nat} {q r : Int64} (hh : DG R n h l q r) : uN q < 9223372036854775808 ∧ uN r < 9223372036854775808 := ⟨by have := hh.2.2.1; omega, by have := hh.2.2.2; omega⟩
theorem dg_x {R n h l : Nat} {q r x y w N : Int64} {z : Int32} (hh : DG R n h l q r) (hl : uN y = l) (hl2 : l < 4294967296) (hn : uN N = n) (hn2 : n < 4294967296) (c : ¬ 4294967295 < q) (ex : x = q * y) (ew : w = (r <<< ((Int32.toInt64 32) &&& 63)) ||| N) (hz : z = if uN x < uN w then -1 else if uN x = uN w then 0 else 1) :
    (z ≤ 0 → DE R n h l q) ∧ (¬ z ≤ 0 → R * 4294967296 + n < uN q * (h * 4294967296 + l)) := by
  have hq : uN q ≤ 4294967295 := by
    have := (sm_gt (dg_q hh).1).1
    have h2 : ¬ 4294967296 ≤ uN q := fun q => c (this.mpr q)
    omega
  have h1 : uN x = uN q * l := by
    rw [ex, uN_mul, hl]
    refine Nat.mod_eq_of_lt ?_
    have : uN q * l ≤ 4294967295 * 4294967295 := Nat.mul_le_mul hq (by omega)
    omega
  have h2 : uN w = uN r * 4294967296 + n := by
    rw [ew, or32 (by rw [hn]; exact hn2), hn, Nat.mod_eq_of_lt (by have := hh.2.2.2; omega)]
  rw [h1, h2] at hz
  refine ⟨fun q => ⟨dq_3 hh.1 ((cu_le hz).mp q), hh.2.1⟩, fun q => dq_2 hh.1 (Nat.lt_of_not_le (fun g => q ((cu_le hz).mpr g)))⟩
theorem dg_y {R n h l : Nat} {q r : Int64} (hh : DG R n h l q r) (hR : R < h * 4294967296 + l) (hn : n < 4294967296) (c : 4294967295 < q) : R * 4294967296 + n < uN q * (h * 4294967296 + l) :=
  dq_1 hR hn ((sm_gt (dg_q hh).1).1.mp c)
theorem dg_s {R n h l : Nat} {q r v q2 r2 : Int64} (hh : DG R n h l q r) (hh2 : h < 4294967296) (hv : uN v = h) (hl2 : l < 4294967296) (c : R * 4294967296 + n < uN q * (h * 4294967296 + l)) (e1 : q2 = q - 1) (e2 : r2 = r + v) :
    uN q2 < uN q ∧ (r2 ≤ 4294967295 → DG R n h l q2 r2) ∧ (¬ r2 ≤ 4294967295 → DE R n h l q2) := by
  have hq0 : 0 < uN q := by
    rcases Nat.eq_zero_or_pos (uN q) with z | z
    · rw [z, Nat.zero_mul] at c; omega
    · exact z
  have hq1 := hh.2.2.1
  have hr1 := hh.2.2.2
  have h1 : uN q2 = uN q - 1 := by
    rw [e1, uN_sub, show uN (1 : Int64) = 1 from rfl]
    omega
  have h2 : uN r2 = uN r + h := by rw [e2, uN_add, hv]; omega
  have h3 : uN q2 + 1 = uN q := by omega
  have h4 : uN q2 * h + uN r2 = R := by
    have q := hh.1
    rw [← h3, Nat.add_mul, Nat.one_mul] at q
    omega
  have h5 := (sm_gt (q := r2) (by omega)).2
  refine ⟨by omega, fun g => ⟨h4, by rw [h3]; exact c, by omega, h5.mp g⟩, fun g => ⟨dq_4 h4 (by omega) hl2 ?_, by rw [h3]; exact c⟩⟩
  have : ¬ uN r2 ≤ 4294967295 := fun z => g (h5.mpr z)
  omega
theorem wrapN {t n y : Nat} (h1 : y ≤ t * 4294967296 + n) (h2 : t * 4294967296 + n < y + 18446744073709551616) : (t % 4294967296 * 4294967296 + n + (18446744073709551616 - y % 18446744073709551616)) % 18446744073709551616 = t * 4294967296 + n - y := by omega
theorem de_end {R n h l : Nat} {q f rr N B : Int64} (hh : DE R n h l q) (hB : uN B = h * 4294967296 + l) (hR : uN rr = R) (hn : uN N = n) (hn2 : n < 4294967296) (e : f = ((rr <<< ((Int32.toInt64 32) &&& 63)) ||| N) - q * B) :
    uN q = (R * 4294967296 + n) / (h * 4294967296 + l) ∧ uN f = (R * 4294967296 + n) % (h * 4294967296 + l) := by
  have hB2 := uN_lt B
  have h1 : (R * 4294967296 + n) / (h * 4294967296 + l) = uN q := Nat.div_eq_of_lt_le hh.1 hh.2
  have h3 := hh.2
  rw [Nat.add_mul, Nat.one_mul] at h3
  refine ⟨h1.symm, ?_⟩
  have h2 := Nat.div_add_mod (R * 4294967296 + n) (h * 4294967296 + l)
  rw [h1, Nat.mul_comm] at h2
  rw [e, uN_sub, uN_mul, or32 (by rw [hn]; exact hn2), hR, hn, ← hB]
  rw [← hB] at h2 h3
  have h4 := hh.1
  rw [← hB] at h4
  rw [wrapN h4 (by omega)]
  omega
/-! the long division itself -/
theorem pow64 {k : Nat} (h : k ≤ 64) : 2 ^ (64 - k) * 2 ^ k = 18446744073709551616 := by rw [← Nat.pow_add, show 64 - k + k = 64 by omega]
theorem dv_k {B : Nat} {z : Int32} (hB : 0 < B) (h : ∃ n, LZ 64 B n ∧ z = nI n) : ∃ k, k < 64 ∧ z = nI k ∧ B * 2 ^ k < 18446744073709551616 ∧ 9223372036854775808 ≤ B * 2 ^ k := by
  obtain ⟨k, ⟨h1, h2, h3⟩, hz⟩ := h
  have hk : k < 64 := by
    rcases h3 with h3 | h3
    · rw [h3] at h2; rw [show 64 - 64 = 0 from rfl, Nat.pow_zero] at h2; omega
    · rcases Nat.lt_or_ge k 64 with g | g
      · exact g
      · rw [show 64 - k = 0 by omega, Nat.pow_zero] at h2; omega
  refine ⟨k, hk, hz, ?_, ?_⟩
  · rw [← pow64 (k := k) (by omega)]
    exact Nat.mul_lt_mul_of_pos_right h2 (Nat.two_pow_pos k)
  · have h4 : 2 ^ (64 - k - 1) ≤ B := h3.elim (fun q => absurd q (by omega)) id
    have h5 := Nat.mul_le_mul_right (2 ^ k) h4
    rw [← Nat.pow_add, show 64 - k - 1 + k = 63 by omega] at h5
    exact h5
theorem dv_b {B b2 : Int64} {z : Int32} {k : Nat} (hk : k < 64) (hz : z = nI k) (h : uN B * 2 ^ k < 18446744073709551616) (e : b2 = B <<< ((Int32.toInt64 z) &&& 63)) : uN b2 = uN B * 2 ^ k := by
  rw [e, hz, sl_u B k (sk_l k hk), Nat.mod_eq_of_lt h]
theorem dv_l {L l2 : Int64} {z : Int32} {k : Nat} (hk : k < 64) (hz : z = nI k) (e : l2 = L <<< ((Int32.toInt64 z) &&& 63)) : uN l2 = uN L * 2 ^ k % 18446744073709551616 := by
  rw [e, hz, sl_u L k (sk_l k hk)]
theorem dv_h0 {H L l2 : Int64} {z : Int32} {k : Nat} (hk : k < 64) (hz : z = nI k) (c : z = 0) (e2 : uN l2 = uN L * 2 ^ k % 18446744073709551616) : uN H * 18446744073709551616 + uN l2 = (uN H * 18446744073709551616 + uN L) * 2 ^ k := by
  have k0 : k = 0 := by
    have q := congrArg uI (hz.symm.trans c)
    rw [uI_nI (by omega)] at q
    exact q
  rw [e2, k0, Nat.pow_zero, Nat.mul_one, Nat.mul_one, Nat.mod_eq_of_lt (uN_lt L)]
theorem sub64 : ∀ k, k < 64 → ¬ k = 0 → (64 - nI k : Int32) = nI (64 - k) := by decide +kernel
theorem dv_h1 {H L l2 x : Int64} {z : Int32} {k : Nat} (hk : k < 64) (hz : z = nI k) (c : ¬ z = 0) (hH : uN H * 2 ^ k < 18446744073709551616) (e2 : uN l2 = uN L * 2 ^ k % 18446744073709551616)
    (e : x = (H <<< ((Int32.toInt64 z) &&& 63)) ||| (Int64.toUInt64 L >>> ((Int32.toInt64 (64 - z)).toUInt64 &&& Int64.toUInt64 63)).toInt64) : uN x * 18446744073709551616 + uN l2 = (uN H * 18446744073709551616 + uN L) * 2 ^ k := by
  have k0 : ¬ k = 0 := fun q => c (by rw [hz, q]; rfl)
  have h1 : uN (Int64.toUInt64 L >>> ((Int32.toInt64 (64 - z)).toUInt64 &&& Int64.toUInt64 63)).toInt64 = uN L / 2 ^ (64 - k) := by
    rw [hz, sub64 k hk k0, su_u L (64 - k) (sk_u (64 - k) (by omega))]
  have h2 : uN L / 2 ^ (64 - k) < 2 ^ k := by
    refine Nat.div_lt_of_lt_mul ?_
    rw [pow64 (by omega)]; exact uN_lt L
  have h3 : uN x = uN H * 2 ^ k + uN L / 2 ^ (64 - k) := by
    rw [e, uN_lor, h1, hz, sl_u H k (sk_l k hk), Nat.mod_eq_of_lt hH, Nat.mul_comm, ← Nat.two_pow_add_eq_or_of_lt h2]
  have h4 : uN L * 2 ^ k / 18446744073709551616 = uN L / 2 ^ (64 - k) := by
    rw [← pow64 (k := k) (by omega), Nat.mul_div_mul_right _ _ (Nat.two_pow_pos k)]
  have h5 := Nat.div_add_mod (uN L * 2 ^ k) 18446744073709551616
  rw [h4] at h5
  rw [h3, e2, Nat.add_mul (uN H * 18446744073709551616), Nat.mul_right_comm (uN H) 18446744073709551616]
  clear h4 h3 h2 h1 e e2 hH
  generalize uN L / 2 ^ (64 - k) = b at h5 ⊢
  generalize uN L * 2 ^ k = t at h5 ⊢
  generalize uN H * 2 ^ k = d
  omega
theorem dv_hb {H2 L2 H L B P : Nat} (hP : 0 < P) (e : H2 * 18446744073709551616 + L2 = (H * 18446744073709551616 + L) * P) (hL : L < 18446744073709551616) (h : H < B) : H2 < B * P := by
  have h1 : H * 18446744073709551616 + L < B * 18446744073709551616 := by omega
  have h2 := Nat.mul_lt_mul_of_pos_right h1 hP
  rw [← e, Nat.mul_right_comm] at h2
  generalize B * P = x at h2 ⊢
  omega
theorem dv_n {H2 L2 B2 : Nat} (h : H2 < B2) (hL : L2 < 18446744073709551616) : (H2 * 4294967296 + L2 / 4294967296) / B2 < 4294967296 := by
  refine Nat.div_lt_of_lt_mul ?_
  omega
theorem dv_m {R L2 B2 : Nat} (h : R < B2) : (R * 4294967296 + L2 % 4294967296) / B2 < 4294967296 := by
  refine Nat.div_lt_of_lt_mul ?_
  omega
theorem dv_v {H2 L2 B2 q1 r1 q0 r0 : Nat} (hB : 0 < B2) (h1 : q1 = (H2 * 4294967296 + L2 / 4294967296) / B2) (h2 : r1 = (H2 * 4294967296 + L2 / 4294967296) % B2) (h3 : q0 = (r1 * 4294967296 + L2 % 4294967296) / B2) (h4 : r0 = (r1 * 4294967296 + L2 % 4294967296) % B2) :
    q1 * 4294967296 + q0 = (H2 * 18446744073709551616 + L2) / B2 ∧ r0 = (H2 * 18446744073709551616 + L2) % B2 := by
  have g1 := Nat.div_add_mod (H2 * 4294967296 + L2 / 4294967296) B2
  rw [← h1, ← h2] at g1
  have g2 := Nat.div_add_mod (r1 * 4294967296 + L2 % 4294967296) B2
  rw [← h3, ← h4] at g2
  have hr : r0 < B2 := by rw [h4]; exact Nat.mod_lt _ hB
  have key : H2 * 18446744073709551616 + L2 = B2 * (q1 * 4294967296 + q0) + r0 := by
    rw [Nat.mul_add, ← Nat.mul_assoc]
    clear h1 h2 h3 h4 hr hB
    generalize B2 * q1 = x at g1 ⊢
    generalize B2 * q0 = y at g2 ⊢
    omega
  rw [key]
  constructor
  · rw [Nat.mul_add_div hB, Nat.div_eq_of_lt hr, Nat.add_zero]
  · rw [Nat.mul_add_mod, Nat.mod_eq_of_lt hr]
theorem dv_end {H L B qh ql lf q f : Int64} {z : Int32} {k H2 L2 : Nat} (hk : k < 64) (hz : z = nI k) (hB : 0 < uN B) (e : H2 * 18446744073709551616 + L2 = (uN H * 18446744073709551616 + uN L) * 2 ^ k) (hL2 : L2 < 18446744073709551616) (hH : uN H < uN B) {r1 : Nat}
    (h1 : uN qh = (H2 * 4294967296 + L2 / 4294967296) / (uN B * 2 ^ k)) (h2 : r1 = (H2 * 4294967296 + L2 / 4294967296) % (uN B * 2 ^ k)) (h3 : uN ql = (r1 * 4294967296 + L2 % 4294967296) / (uN B * 2 ^ k)) (h4 : uN lf = (r1 * 4294967296 + L2 % 4294967296) % (uN B * 2 ^ k))
    (e1 : q = (qh <<< ((Int32.toInt64 32) &&& 63)) ||| ql) (e2 : f = (Int64.toUInt64 lf >>> ((Int32.toInt64 z).toUInt64 &&& Int64.toUInt64 63)).toInt64) :
    uN q = (uN H * 18446744073709551616 + uN L) / uN B ∧ uN f = (uN H * 18446744073709551616 + uN L) % uN B := by
  have hP := Nat.two_pow_pos k
  have hB2 : 0 < uN B * 2 ^ k := Nat.mul_pos hB hP
  have hH2 := dv_hb hP e (uN_lt L) hH
  have a1 : uN qh < 4294967296 := by rw [h1]; exact dv_n hH2 hL2
  have a2 : r1 < uN B * 2 ^ k := by rw [h2]; exact Nat.mod_lt _ hB2
  have a3 : uN ql < 4294967296 := by rw [h3]; exact dv_m a2
  obtain ⟨b1, b2⟩ := dv_v hB2 h1 h2 h3 h4
  rw [e, Nat.mul_div_mul_right _ _ hP] at b1
  rw [e, Nat.mul_mod_mul_right] at b2
  refine ⟨?_, ?_⟩
  · rw [e1, or32 a3, Nat.mod_eq_of_lt a1, b1]
  · rw [e2, hz, su_u lf k (sk_u k hk), b2, Nat.mul_div_cancel _ hP]
end
section
abbrev Dw (h1 : Nat) (v1 v2 : Value) : va_W := [(h1, .inr (1, [v1, v2]))]
abbrev Df : Type := Value × Value
def D_B (D : va_G) (h1 : Nat) (v1 v2 : Value) (sz : Nat) (U : State) : Prop := U.heap.size = sz ∧ va_P D classes (Dw h1 v1 v2) U.heap ∧ va_K D classes [] U ∧ va_D (fun _ => True) (Dw h1 v1 v2)
def D_at (D : va_G) (h1 : Nat) (A : Nat → Prop) (f : Df) (t : State) : Prop := va_P D classes (Dw h1 f.1 f.2) t.heap ∧ va_K D classes [] t ∧ va_D A (Dw h1 f.1 f.2)
theorem pmD {l : Launch} {y : MethodName} {cc : ByteArray} {maxL : Nat} {ret : Option FieldType} {rm : Room} (Qc : (Nat → Prop) → Array Value → State → Outcome → State → Prop) (D : va_G) (h1 : Nat) (v1 v2 : Value) (sz : Nat) (As : List Value) (hy : plainFor y = true) (hn : (lg_sl (.ref h1 :: As)).length ≤ maxL)
    (body : ∀ (p : Program) (e : Env) (s : State) (m : MethodId) (below : List Frame) (meth : Method) (c : Code) (ls : Array Slot) (A : Nat → Prop), p.tables.exec = Jvm.exec → c.code = cc → meth.sig.returnType = ret → c.maxLocals = maxL → s.vm.findClass y.cls = some m.cls → (∀ w ∈ lw_gd, w.before (Value.ref h1 :: As).toArray s = true) → meth.locks = false → meth.name = y.name →
      va_K D classes [] s → va_P D classes (Dw h1 v1 v2) s.heap → va_D A (Dw h1 v1 v2) → va_S A s.heap s.heap [] → (∀ q, s.heap.size ≤ q → A q) → lv_has ls maxL (lv_args 0 (.ref h1 :: As)) →
      W p l e rm s m (Value.ref h1 :: As).toArray below meth c s.heap [] 0 0 (MQ below (Qc A) (Value.ref h1 :: As).toArray s 0 0 A) (F0 m 0 ls [])) : Met l y (Cond.code y cc maxL ret :: lw_gd) rm (va_Pc (.ref h1 :: As) (D_B D h1 v1 v2 sz)) (Qc (va_A (Dw h1 v1 v2) sz)) 0 0 (va_A (Dw h1 v1 v2) sz) := by
  refine pm (.ref h1 :: As) hy hn (fun p e s m below meth c ls hx hb hr hml hown hg hlk hnm hB hl => ?_)
  obtain ⟨hsz, hP, hK, hD0⟩ := hB
  subst hsz
  exact body p e s m below meth c ls _ hx hb hr hml hown hg hlk hnm hK hP hD0.self va_S.rf (fun q h => Or.inr h) hl
section DR
variable {p : Program} {l : Launch} {e : Env} {R : Room} {s : State} {m : MethodId} {args : Array Value} {below : List Frame} {meth : Method} {c : Code} {H : Heap} {locs : List Loc} {cells slots : Nat} {Q : State → Prop}
variable {cc : ByteArray} {pc : Nat} {ls : Array Slot} {rest st0 : List Value} {D : va_G} {A : Nat → Prop} {h1 : Nat} {v1 v2 : Value}
theorem dg_getq (hx : p.tables.exec = Jvm.exec) (hb : c.code = cc) (hown : s.vm.findClass "FixedNumbers$Division" = some m.cls) (hg : ∀ w ∈ lw_gd, w.before args s = true) (hK : va_K D classes [] s) (hP : va_P D classes (Dw h1 v1 v2) H) (hd : decode cc pc = .ok (.getfield 38, 3)) (kk : W p l e R s m args below meth c H locs cells slots Q (F0 m (pc + 3) ls (v1 :: rest))) : W p l e R s m args below meth c H locs cells slots Q (F0 m pc ls (.ref h1 :: rest)) :=
  va_get (D := D) (ci := 1) (C := "FixedNumbers$Division") (T := F_D) (N := 2) hx hb hg i_D hown hK hP 0 rfl rfl 0 (by decide) (hg _ k_27) (fun _ h => h) rfl hd kk
theorem dp_q {v : Int64} (hx : p.tables.exec = Jvm.exec) (hb : c.code = cc) (hown : s.vm.findClass "FixedNumbers$Division" = some m.cls) (hg : ∀ w ∈ lw_gd, w.before args s = true) (hK : va_K D classes [] s) (hP : va_P D classes (Dw h1 v1 v2) H) (hD : va_D A (Dw h1 v1 v2)) (hS : va_S A s.heap H locs) (hd : decode cc pc = .ok (.putfield 38, 3))
    (kk : ∀ (H : Heap) (locs : List Loc), va_P D classes (Dw h1 (.long v) v2) H → va_D A (Dw h1 (.long v) v2) → va_S A s.heap H locs → W p l e R s m args below meth c H locs cells slots Q (F0 m (pc + 3) ls rest)) : W p l e R s m args below meth c H locs cells slots Q (F0 m pc ls (.long v :: .ref h1 :: rest)) :=
  va_put (D := D) (ci := 1) (v := .long v) (ty := .long) (C := "FixedNumbers$Division") (T := F_D) (N := 2) hx hb hg i_D t_D t_D_ok n_D hown hK hP hD hS 0 rfl rfl 0 (by decide) (hg _ k_27) (fun _ h => h) rfl (by decide +kernel) rfl rfl (Nat.le_of_ble_eq_true rfl) hd kk
theorem dg_getf (hx : p.tables.exec = Jvm.exec) (hb : c.code = cc) (hown : s.vm.findClass "FixedNumbers$Division" = some m.cls) (hg : ∀ w ∈ lw_gd, w.before args s = true) (hK : va_K D classes [] s) (hP : va_P D classes (Dw h1 v1 v2) H) (hd : decode cc pc = .ok (.getfield 24, 3)) (kk : W p l e R s m args below meth c H locs cells slots Q (F0 m (pc + 3) ls (v2 :: rest))) : W p l e R s m args below meth c H locs cells slots Q (F0 m pc ls (.ref h1 :: rest)) :=
  va_get (D := D) (ci := 1) (C := "FixedNumbers$Division") (T := F_D) (N := 2) hx hb hg i_D hown hK hP 0 rfl rfl 1 (by decide) (hg _ k_29) (fun _ h => h) rfl hd kk
theorem dp_f {v : Int64} (hx : p.tables.exec = Jvm.exec) (hb : c.code = cc) (hown : s.vm.findClass "FixedNumbers$Division" = some m.cls) (hg : ∀ w ∈ lw_gd, w.before args s = true) (hK : va_K D classes [] s) (hP : va_P D classes (Dw h1 v1 v2) H) (hD : va_D A (Dw h1 v1 v2)) (hS : va_S A s.heap H locs) (hd : decode cc pc = .ok (.putfield 24, 3))
    (kk : ∀ (H : Heap) (locs : List Loc), va_P D classes (Dw h1 v1 (.long v)) H → va_D A (Dw h1 v1 (.long v)) → va_S A s.heap H locs → W p l e R s m args below meth c H locs cells slots Q (F0 m (pc + 3) ls rest)) : W p l e R s m args below meth c H locs cells slots Q (F0 m pc ls (.long v :: .ref h1 :: rest)) :=
  va_put (D := D) (ci := 1) (v := .long v) (ty := .long) (C := "FixedNumbers$Division") (T := F_D) (N := 2) hx hb hg i_D t_D t_D_ok n_D hown hK hP hD hS 0 rfl rfl 1 (by decide) (hg _ k_29) (fun _ h => h) rfl (by decide +kernel) rfl rfl (Nat.le_of_ble_eq_true rfl) hd kk
theorem rtD_l {post : Int64 → Df → Prop} {v : Int64} (hx : p.tables.exec = Jvm.exec) (hb : c.code = cc) (hr : meth.sig.returnType = some .long) (hlk : meth.locks = false) (hK : va_K D classes [] s) (hP : va_P D classes (Dw h1 v1 v2) H) (hD : va_D A (Dw h1 v1 v2)) (hS : va_S A s.heap H locs) (hd : decode cc pc = .ok (.lreturn, 1)) (hp : post v (v1, v2)) : W p l e R s m args below meth c H locs cells slots (MQ below (va_Ql post (D_at D h1 A) A) args s cells slots A) (F0 m pc ls [.long v]) :=
  W.lret (free := A) (Qc := va_Ql post (D_at D h1 A) A) hx hb hr (fun x ht hW => ⟨⟨v, (v1, v2), rfl, hp, by rw [ht]; exact hP, va_K.moved hW.alike hK, hD⟩, hS.F ht⟩) hS.2.2 hd hlk
theorem rtD_v {post : Df → Prop} (hx : p.tables.exec = Jvm.exec) (hb : c.code = cc) (hr : meth.sig.returnType = none) (hlk : meth.locks = false) (hK : va_K D classes [] s) (hP : va_P D classes (Dw h1 v1 v2) H) (hD : va_D A (Dw h1 v1 v2)) (hS : va_S A s.heap H locs) (hd : decode cc pc = .ok (.return_, 1)) (hp : post (v1, v2)) : W p l e R s m args below meth c H locs cells slots (MQ below (va_Qv post (D_at D h1 A) A) args s cells slots A) (F0 m pc ls []) :=
  W.vret (free := A) (Qc := va_Qv post (D_at D h1 A) A) hx hb hr (fun x ht hW => ⟨⟨(v1, v2), rfl, hp, by rw [ht]; exact hP, va_K.moved hW.alike hK, hD⟩, hS.F ht⟩) hS.2.2 hd hlk
/-- a call of a method on the division -/
theorem cd_v {own : String} {y : MethodName} {bytes : ByteArray} {maxL nL index : Nat} {ret : Option FieldType} {rm : Room} {post : Df → Prop} (As : List Value) (n : Nat) (hn : As.length = n) (hx : p.tables.exec = Jvm.exec) (hb : c.code = cc) (hml : c.maxLocals = nL) (hown : s.vm.findClass own = some m.cls) (hg : ∀ w ∈ lw_gd, w.before args s = true) (hK : va_K D classes [] s) (hP : va_P D classes (Dw h1 v1 v2) H) (hD : va_D A (Dw h1 v1 v2)) (hS : va_S A s.heap H locs) (hA : ∀ q, s.heap.size ≤ q → A q)
    (hM : Met l y (Cond.code y bytes maxL ret :: lw_gd) rm (va_Pc (.ref h1 :: As) (D_B D h1 v1 v2 H.size)) (va_Qv post (D_at D h1 (va_A (Dw h1 v1 v2) H.size)) (va_A (Dw h1 v1 v2) H.size)) 0 0 (va_A (Dw h1 v1 v2) H.size))
    (l1 : Cond.methodLink own index y ∈ lw_gd) (l2 : Cond.instanceMethod y ∈ lw_gd) (l3 : Cond.selects "FixedNumbers$Division" y y ∈ lw_gd) (l5 : Cond.code y bytes maxL ret ∈ lw_gd) (hd : y.cls = "FixedNumbers$Division" ∧ y.cls ≠ "java/lang/invoke/MethodHandle" ∧ y.cls ≠ "java/lang/invoke/VarHandle" ∧ (parseMethodDescriptor y.desc).map (fun d => d.parameters.length) = some n)
    (hsz : ls.size = nL) (hc : rm.cells = 0) (hs : rm.slots = 0) (hR : rm.frames + 1 ≤ R.frames ∧ 8 + (maxL + 11) + rm.locals ≤ R.locals) (hst : st0 = As.reverse ++ .ref h1 :: rest) (hW : (rest.map fun v => v.category).sum ≤ 8) (hf : cells ≤ R.cells ∧ slots ≤ R.slots) (hdg : decode cc pc = .ok (.invokevirtual index, 3))
    (kk : ∀ (w1 w2 : Value) (H : Heap) (locs : List Loc), post (w1, w2) → va_P D classes (Dw h1 w1 w2) H → va_D A (Dw h1 w1 w2) → va_S A s.heap H locs → W p l e R s m args below meth c H locs cells slots Q (F0 m (pc + 3) ls (rest))) : W p l e R s m args below meth c H locs cells slots Q (F0 m pc ls st0) := by
  have hFc := va_free (wc := Dw h1 v1 v2) hD hS hA [0] rfl
  refine va_callv (va_runV (As := As) (rest := rest) (C := "FixedNumbers$Division") ⟨hx, hb, hml, hown, hg⟩ hM (cwV n hg (gi_V l1 l2 l3 k_2 l5) rfl hc hs hd hR) ⟨fun a U g mk q => by obtain ⟨q0, q1, qP, qK, qD⟩ := q; exact ⟨q0, q1, qP, va_K.moved (u := U) (U := U.calling g mk a) (Vm.Alike.refl U.vm) qK, qD⟩, va_recv hK hP (ci := 1) (q0 := 0) rfl rfl, fun U hU hW => ⟨rfl, by rw [hU], by rw [hU]; exact hP, va_K.moved hW.alike hK, hD.weaken (fun _ _ _ _ => trivial)⟩⟩ rfl hn hsz hst (lv_room hW) hdg hf) hS (fun q _ h => hFc q h) hFc (fun f t H1 locs ht hvm hw hB hz1 hk1 hS => ?_)
  obtain ⟨hP1, hK1, hD1⟩ := hB
  rw [ht] at hP1
  exact kk f.1 f.2 H1 locs hw hP1 (hD1.weaken (fun _ q _ h => hFc q.1 h)) hS
/-- a call of a method on the division -/
theorem cd_l {own : String} {y : MethodName} {bytes : ByteArray} {maxL nL index : Nat} {ret : Option FieldType} {rm : Room} {post : Int64 → Df → Prop} (As : List Value) (n : Nat) (hn : As.length = n) (hx : p.tables.exec = Jvm.exec) (hb : c.code = cc) (hml : c.maxLocals = nL) (hown : s.vm.findClass own = some m.cls) (hg : ∀ w ∈ lw_gd, w.before args s = true) (hK : va_K D classes [] s) (hP : va_P D classes (Dw h1 v1 v2) H) (hD : va_D A (Dw h1 v1 v2)) (hS : va_S A s.heap H locs) (hA : ∀ q, s.heap.size ≤ q → A q)
    (hM : Met l y (Cond.code y bytes maxL ret :: lw_gd) rm (va_Pc (.ref h1 :: As) (D_B D h1 v1 v2 H.size)) (va_Ql post (D_at D h1 (va_A (Dw h1 v1 v2) H.size)) (va_A (Dw h1 v1 v2) H.size)) 0 0 (va_A (Dw h1 v1 v2) H.size))
    (l1 : Cond.methodLink own index y ∈ lw_gd) (l2 : Cond.instanceMethod y ∈ lw_gd) (l3 : Cond.selects "FixedNumbers$Division" y y ∈ lw_gd) (l5 : Cond.code y bytes maxL ret ∈ lw_gd) (hd : y.cls = "FixedNumbers$Division" ∧ y.cls ≠ "java/lang/invoke/MethodHandle" ∧ y.cls ≠ "java/lang/invoke/VarHandle" ∧ (parseMethodDescriptor y.desc).map (fun d => d.parameters.length) = some n)
    (hsz : ls.size = nL) (hc : rm.cells = 0) (hs : rm.slots = 0) (hR : rm.frames + 1 ≤ R.frames ∧ 8 + (maxL + 11) + rm.locals ≤ R.locals) (hst : st0 = As.reverse ++ .ref h1 :: rest) (hW : (rest.map fun v => v.category).sum ≤ 8) (hf : cells ≤ R.cells ∧ slots ≤ R.slots) (hdg : decode cc pc = .ok (.invokevirtual index, 3))
    (kk : ∀ (r : Int64) (w1 w2 : Value) (H : Heap) (locs : List Loc), post r (w1, w2) → va_P D classes (Dw h1 w1 w2) H → va_D A (Dw h1 w1 w2) → va_S A s.heap H locs → W p l e R s m args below meth c H locs cells slots Q (F0 m (pc + 3) ls (.long r :: rest))) : W p l e R s m args below meth c H locs cells slots Q (F0 m pc ls st0) := by
  have hFc := va_free (wc := Dw h1 v1 v2) hD hS hA [0] rfl
  refine va_calll (va_runV (As := As) (rest := rest) (C := "FixedNumbers$Division") ⟨hx, hb, hml, hown, hg⟩ hM (cwV n hg (gi_V l1 l2 l3 k_2 l5) rfl hc hs hd hR) ⟨fun a U g mk q => by obtain ⟨q0, q1, qP, qK, qD⟩ := q; exact ⟨q0, q1, qP, va_K.moved (u := U) (U := U.calling g mk a) (Vm.Alike.refl U.vm) qK, qD⟩, va_recv hK hP (ci := 1) (q0 := 0) rfl rfl, fun U hU hW => ⟨rfl, by rw [hU], by rw [hU]; exact hP, va_K.moved hW.alike hK, hD.weaken (fun _ _ _ _ => trivial)⟩⟩ rfl hn hsz hst (lv_room hW) hdg hf) hS (fun q _ h => hFc q h) hFc (fun r f t H1 locs ht hvm hw hB hz1 hk1 hS => ?_)
  obtain ⟨hP1, hK1, hD1⟩ := hB
  rw [ht] at hP1
  exact kk r f.1 f.2 H1 locs hw hP1 (hD1.weaken (fun _ q _ h => hFc q.1 h)) hS
end DR
theorem dm32 (b : Nat) : b = b / 4294967296 * 4294967296 + b % 4294967296 := by omega
theorem d32 {b : Nat} (h : b < 18446744073709551616) : b / 4294967296 < 4294967296 := by omega
set_option maxHeartbeats 4000000 in
set_option maxRecDepth 100000 in
theorem c_D_init (l : Launch) (D : va_G) (h1 sz : Nat) (v1 v2 : Value)  : Met l y_D_init w_D_init ({ frames := 1, cells := 0, slots := 0, locals := 12 } : Room) (va_Pc [.ref h1] (D_B D h1 v1 v2 sz)) (va_Qv (fun f => f = (v1, v2)) (D_at D h1 (va_A (Dw h1 v1 v2) sz)) (va_A (Dw h1 v1 v2) sz)) 0 0 (va_A (Dw h1 v1 v2) sz) := by
  refine pmD (y := y_D_init) (cc := b_D_init) (maxL := 1) (ret := none) (rm := ({ frames := 1, cells := 0, slots := 0, locals := 12 } : Room)) (fun A => va_Qv (fun f => f = (v1, v2)) (D_at D h1 A) A) D h1 v1 v2 sz [] (by decide +kernel) (Nat.le_of_ble_eq_true rfl) (fun p e s m below meth c ls A hx hb hr hml hown hg hlk hnm hK hP hD hS hA hl => ?_)
  have hl : lv_has ls 1 [(0, .ref h1)] := hl
  refine lv_aload_n hx hb d_D_init_0 rfl (lv_at hl 0 rfl) ?_
  refine W.objInit hx hb hown (hg _ k_26) (hg _ k_19) (hg _ k_20) rfl (by rw [hml]; exact hl.1) rfl d_D_init_1 (Nat.le_of_ble_eq_true rfl) (Nat.le_of_ble_eq_true rfl) ?_
  refine W.eq (g2 := F0 m 4 ls []) rfl ?_
  exact rtD_v hx hb hr hlk hK hP hD hS d_D_init_4 rfl
set_option maxHeartbeats 4000000 in
set_option maxRecDepth 100000 in
theorem c_D_digit (l : Launch) (D : va_G) (h1 sz : Nat) (v1 v2 : Value) (a : Int64) (n : Int64) (B : Int64) (hB : 9223372036854775808 ≤ uN B) (ha : uN a < uN B) (hn : uN n < 4294967296) : Met l y_D_digit w_D_digit ({ frames := 2, cells := 0, slots := 0, locals := 46 } : Room) (va_Pc [.ref h1, .long a, .long n, .long B] (D_B D h1 v1 v2 sz)) (va_Ql (fun q f => f.1 = v1 ∧ ∃ z : Int64, f.2 = .long z ∧ uN q = (uN a * 4294967296 + uN n) / uN B ∧ uN z = (uN a * 4294967296 + uN n) % uN B) (D_at D h1 (va_A (Dw h1 v1 v2) sz)) (va_A (Dw h1 v1 v2) sz)) 0 0 (va_A (Dw h1 v1 v2) sz) := by
  refine pmD (y := y_D_digit) (cc := b_D_digit) (maxL := 15) (ret := (some .long)) (rm := ({ frames := 2, cells := 0, slots := 0, locals := 46 } : Room)) (fun A => va_Ql (fun q f => f.1 = v1 ∧ ∃ z : Int64, f.2 = .long z ∧ uN q = (uN a * 4294967296 + uN n) / uN B ∧ uN z = (uN a * 4294967296 + uN n) % uN B) (D_at D h1 A) A) D h1 v1 v2 sz [.long a, .long n, .long B] (by decide +kernel) (Nat.le_of_ble_eq_true rfl) (fun p e s m below meth c ls A hx hb hr hml hown hg hlk hnm hK hP hD hS hA hl => ?_)
  have hl : lv_has ls 15 [(0, .ref h1), (1, .long a), (3, .long n), (5, .long B)] := hl
  refine lv_lload hx hb d_D_digit_0 (lv_at hl 3 rfl) ?_
  refine lv_bipush (v := 32) hx hb d_D_digit_2 (by decide) ?_
  refine lv_lushr hx hb d_D_digit_4 rfl ?_
  refine lv_topl (fun v_5 e_5 => ?_)
  refine lv_lstore (lv' := [(7, .long v_5), (0, .ref h1), (1, .long a), (3, .long n), (5, .long B)]) hx hb d_D_digit_5 hl (by decide) rfl (fun ls hl => ?_)
  refine lv_lload hx hb d_D_digit_7 (lv_at hl 4 rfl) ?_
  refine lv_ldc2 (v := 4294967295) hx hb hown (hg _ k_219) d_D_digit_9 ?_
  refine lv_land hx hb d_D_digit_12 ?_
  refine lv_topl (fun v_13 e_13 => ?_)
  refine lv_lstore (lv' := [(9, .long v_13), (7, .long v_5), (0, .ref h1), (1, .long a), (3, .long n), (5, .long B)]) hx hb d_D_digit_13 hl (by decide) rfl (fun ls hl => ?_)
  refine lv_lload_n hx hb d_D_digit_15 rfl (lv_at hl 3 rfl) ?_
  refine lv_lload hx hb d_D_digit_16 (lv_at hl 1 rfl) ?_
  obtain ⟨hv0, hv1, hv2, hv3⟩ := hp_of hB e_5
  have hw1 : uN v_13 = uN B % 4294967296 := by rw [e_13]; exact uN_lo B
  have hw2 : uN v_13 < 4294967296 := by rw [hw1]; exact Nat.mod_lt _ (by decide)
  have hBB : uN B = uN v_5 * 4294967296 + uN v_13 := by rw [hv1, hw1]; exact (dm32 _)
  have haa : uN a < uN v_5 * 4294967296 + uN v_13 := by rw [← hBB]; exact ha
  refine cs_l [.long a, .long v_5] 2 rfl (rest := []) hx hb hml hown hg (c_J_du l a v_5 hv0) k_220 k_221 k_5 k_222 (by decide +kernel) hl.1 rfl rfl ⟨Nat.le_of_ble_eq_true rfl, Nat.le_of_ble_eq_true rfl⟩ rfl (Nat.le_of_ble_eq_true rfl) ⟨Nat.zero_le _, Nat.zero_le _⟩ d_D_digit_18 (fun r_18 h_18 => ?_)
  refine lv_lstore (lv' := [(11, .long r_18), (9, .long v_13), (7, .long v_5), (0, .ref h1), (1, .long a), (3, .long n), (5, .long B)]) hx hb d_D_digit_21 hl (by decide) rfl (fun ls hl => ?_)
  refine lv_lload_n hx hb d_D_digit_23 rfl (lv_at hl 4 rfl) ?_
  refine lv_lload hx hb d_D_digit_24 (lv_at hl 2 rfl) ?_
  refine cs_l [.long a, .long v_5] 2 rfl (rest := []) hx hb hml hown hg (c_J_ru l a v_5 hv0) k_224 k_225 k_5 k_226 (by decide +kernel) hl.1 rfl rfl ⟨Nat.le_of_ble_eq_true rfl, Nat.le_of_ble_eq_true rfl⟩ rfl (Nat.le_of_ble_eq_true rfl) ⟨Nat.zero_le _, Nat.zero_le _⟩ d_D_digit_26 (fun r_26 h_26 => ?_)
  refine lv_lstore (lv' := [(13, .long r_26), (11, .long r_18), (9, .long v_13), (7, .long v_5), (0, .ref h1), (1, .long a), (3, .long n), (5, .long B)]) hx hb d_D_digit_29 hl (by decide) rfl (fun ls hl => ?_)
  refine lq2 (α1 := Int64) (α2 := Int64) 31 15 (fun q _ => uN q) (fun q r => DG (uN a) (uN n) (uN v_5) (uN v_13) q r) (fun q r => [(0, .ref h1), (1, .long a), (3, .long n), (5, .long B), (7, .long v_5), (9, .long v_13), (11, .long q), (13, .long r)]) (fun q r hi ih ls hl => ?_) r_18 r_26 (dg_0 hv2 hv3 hw2 haa hn h_18 h_26) ls (lv_sub hl [4, 5, 6, 7, 3, 2, 1, 0] rfl)
  have hl : lv_has ls 15 [(0, .ref h1), (1, .long a), (3, .long n), (5, .long B), (7, .long v_5), (9, .long v_13), (11, .long q), (13, .long r)] := hl
  refine jn1 (α1 := Int64) 92 15 (fun qe => DE (uN a) (uN n) (uN v_5) (uN v_13) qe) (fun qe => [(0, .ref h1), (1, .long a), (3, .long n), (5, .long B), (11, .long qe)]) (fun qe => []) (fun qe hj_92 ls hl => ?_) (fun K_92 => ?_)
  · have hl : lv_has ls 15 [(0, .ref h1), (1, .long a), (3, .long n), (5, .long B), (11, .long qe)] := hl
    refine lv_aload_n hx hb d_D_digit_92 rfl (lv_at hl 0 rfl) ?_
    refine lv_lload_n hx hb d_D_digit_93 rfl (lv_at hl 1 rfl) ?_
    refine lv_bipush (v := 32) hx hb d_D_digit_94 (by decide) ?_
    refine lv_lshl hx hb d_D_digit_96 rfl ?_
    refine lv_lload_n hx hb d_D_digit_97 rfl (lv_at hl 2 rfl) ?_
    refine lv_lor hx hb d_D_digit_98 ?_
    refine lv_lload hx hb d_D_digit_99 (lv_at hl 4 rfl) ?_
    refine lv_lload hx hb d_D_digit_101 (lv_at hl 3 rfl) ?_
    refine lv_lmul hx hb d_D_digit_103 ?_
    refine lv_lsub hx hb d_D_digit_104 ?_
    refine lv_topl (fun v_105 e_105 => ?_)
    refine dp_f hx hb hown hg hK hP hD hS d_D_digit_105 (fun H locs hP hD hS => ?_)
    refine lv_lload hx hb d_D_digit_108 (lv_at hl 4 rfl) ?_
    have key := de_end hj_92 hBB rfl rfl hn e_105
    rw [← hBB] at key
    exact rtD_l hx hb hr hlk hK hP hD hS d_D_digit_110 ⟨rfl, v_105, rfl, key⟩
  · refine jn1 (α1 := Unit) 67 15 (fun u0 => uN a * 4294967296 + uN n < uN q * (uN v_5 * 4294967296 + uN v_13)) (fun u0 => [(0, .ref h1), (1, .long a), (3, .long n), (5, .long B), (7, .long v_5), (9, .long v_13), (11, .long q), (13, .long r)]) (fun u0 => []) (fun u0 hj_67 ls hl => ?_) (fun K_67 => ?_)
    · have hl : lv_has ls 15 [(0, .ref h1), (1, .long a), (3, .long n), (5, .long B), (7, .long v_5), (9, .long v_13), (11, .long q), (13, .long r)] := hl
      refine lv_lload hx hb d_D_digit_67 (lv_at hl 6 rfl) ?_
      refine lv_lconst (v := 1) hx hb d_D_digit_69 (by decide) ?_
      refine lv_lsub hx hb d_D_digit_70 ?_
      refine lv_topl (fun v_71 e_71 => ?_)
      refine lv_lstore (lv' := [(11, .long v_71), (0, .ref h1), (1, .long a), (3, .long n), (5, .long B), (7, .long v_5), (9, .long v_13), (13, .long r)]) hx hb d_D_digit_71 hl (by decide) rfl (fun ls hl => ?_)
      refine lv_lload hx hb d_D_digit_73 (lv_at hl 7 rfl) ?_
      refine lv_lload hx hb d_D_digit_75 (lv_at hl 5 rfl) ?_
      refine lv_ladd hx hb d_D_digit_77 ?_
      refine lv_topl (fun v_78 e_78 => ?_)
      refine lv_lstore (lv' := [(13, .long v_78), (11, .long v_71), (0, .ref h1), (1, .long a), (3, .long n), (5, .long B), (7, .long v_5), (9, .long v_13)]) hx hb d_D_digit_78 hl (by decide) rfl (fun ls hl => ?_)
      refine lv_lload hx hb d_D_digit_80 (lv_at hl 0 rfl) ?_
      refine lv_ldc2 (v := 4294967295) hx hb hown (hg _ k_219) d_D_digit_82 ?_
      have key := dg_s hi hv3 rfl hw2 hj_67 e_71 e_78
      refine rl_le (tgt := 31) hx hb d_D_digit_85 d_D_digit_86 (by decide) (fun c_85 => ?_) (fun c_85 => ?_)
      · exact ih v_71 v_78 (key.2.1 c_85) key.1 ls (lv_sub hl [2, 3, 4, 5, 6, 7, 1, 0] rfl)
      · refine lv_goto (tgt := 92) hx hb d_D_digit_89 (by decide) ?_
        exact K_92 _ (key.2.2 c_85) ls (lv_sub hl [2, 3, 4, 5, 1] rfl)
    · refine lv_lload hx hb d_D_digit_31 (lv_at hl 6 rfl) ?_
      refine lv_ldc2 (v := 4294967295) hx hb hown (hg _ k_219) d_D_digit_33 ?_
      refine rl_gt (tgt := 67) hx hb d_D_digit_36 d_D_digit_37 (by decide) (fun c_36 => ?_) (fun c_36 => ?_)
      · exact K_67 () (dg_y hi haa hn c_36) ls (lv_sub hl [0, 1, 2, 3, 4, 5, 6, 7] rfl)
      · refine lv_lload hx hb d_D_digit_40 (lv_at hl 7 rfl) ?_
        refine lv_ldc2 (v := 4294967295) hx hb hown (hg _ k_219) d_D_digit_42 ?_
        refine rl_gt (tgt := 92) hx hb d_D_digit_45 d_D_digit_46 (by decide) (fun c_45 => ?_) (fun c_45 => ?_)
        · exact absurd ((sm_gt (dg_q hi).2).1.mp c_45) (by have := hi.2.2.2; omega)
        · refine lv_lload hx hb d_D_digit_49 (lv_at hl 6 rfl) ?_
          refine lv_lload hx hb d_D_digit_51 (lv_at hl 5 rfl) ?_
          refine lv_lmul hx hb d_D_digit_53 ?_
          refine lv_lload hx hb d_D_digit_54 (lv_at hl 7 rfl) ?_
          refine lv_bipush (v := 32) hx hb d_D_digit_56 (by decide) ?_
          refine lv_lshl hx hb d_D_digit_58 rfl ?_
          refine lv_lload_n hx hb d_D_digit_59 rfl (lv_at hl 2 rfl) ?_
          refine lv_lor hx hb d_D_digit_60 ?_
          refine cs_i [.long (q * v_13), .long ((r <<< ((Int32.toInt64 32) &&& 63)) ||| n)] 2 rfl (rest := []) hx hb hml hown hg (c_J_cu l (q * v_13) ((r <<< ((Int32.toInt64 32) &&& 63)) ||| n)) k_227 k_193 k_5 k_194 (by decide +kernel) hl.1 rfl rfl ⟨Nat.le_of_ble_eq_true rfl, Nat.le_of_ble_eq_true rfl⟩ rfl (Nat.le_of_ble_eq_true rfl) ⟨Nat.zero_le _, Nat.zero_le _⟩ d_D_digit_61 (fun r_61 h_61 => ?_)
          have key := dg_x hi rfl hw2 rfl hn c_36 rfl rfl h_61
          refine lv_if_le (tgt := 92) hx hb d_D_digit_64 (by decide) (fun c_64 => ?_) (fun c_64 => ?_)
          · exact K_92 q (key.1 c_64) ls (lv_sub hl [0, 1, 2, 3, 6] rfl)
          · exact K_67 () (key.2 c_64) ls (lv_sub hl [0, 1, 2, 3, 4, 5, 6, 7] rfl)
set_option maxHeartbeats 4000000 in
set_option maxRecDepth 100000 in
theorem c_D_divide (l : Launch) (D : va_G) (h1 sz : Nat) (v1 v2 : Value) (hi : Int64) (lo : Int64) (B : Int64) (hH : uN hi < uN B) : Met l y_D_divide w_D_divide ({ frames := 3, cells := 0, slots := 0, locals := 80 } : Room) (va_Pc [.ref h1, .long hi, .long lo, .long B] (D_B D h1 v1 v2 sz)) (va_Qv (fun f => ∃ q z : Int64, f = (.long q, .long z) ∧ uN q = (uN hi * 18446744073709551616 + uN lo) / uN B ∧ uN z = (uN hi * 18446744073709551616 + uN lo) % uN B) (D_at D h1 (va_A (Dw h1 v1 v2) sz)) (va_A (Dw h1 v1 v2) sz)) 0 0 (va_A (Dw h1 v1 v2) sz) := by
  refine pmD (y := y_D_divide) (cc := b_D_divide) (maxL := 16) (ret := none) (rm := ({ frames := 3, cells := 0, slots := 0, locals := 80 } : Room)) (fun A => va_Qv (fun f => ∃ q z : Int64, f = (.long q, .long z) ∧ uN q = (uN hi * 18446744073709551616 + uN lo) / uN B ∧ uN z = (uN hi * 18446744073709551616 + uN lo) % uN B) (D_at D h1 A) A) D h1 v1 v2 sz [.long hi, .long lo, .long B] (by decide +kernel) (Nat.le_of_ble_eq_true rfl) (fun p e s m below meth c ls A hx hb hr hml hown hg hlk hnm hK hP hD hS hA hl => ?_)
  have hl : lv_has ls 16 [(0, .ref h1), (1, .long hi), (3, .long lo), (5, .long B)] := hl
  have hB0 : 0 < uN B := Nat.lt_of_le_of_lt (Nat.zero_le _) hH
  refine lv_lload hx hb d_D_divide_0 (lv_at hl 3 rfl) ?_
  refine cs_i [.long B] 1 rfl (rest := []) hx hb hml hown hg (c_J_lnz l B) k_214 k_73 k_5 k_74 (by decide +kernel) hl.1 rfl rfl ⟨Nat.le_of_ble_eq_true rfl, Nat.le_of_ble_eq_true rfl⟩ rfl (Nat.le_of_ble_eq_true rfl) ⟨Nat.zero_le _, Nat.zero_le _⟩ d_D_divide_2 (fun r_2 h_2 => ?_)
  obtain ⟨k, hk, hz, hk1, hk2⟩ := dv_k hB0 h_2
  refine lv_istore (lv' := [(7, .int r_2), (0, .ref h1), (1, .long hi), (3, .long lo), (5, .long B)]) hx hb d_D_divide_5 hl (by decide) rfl (fun ls hl => ?_)
  refine lv_lload hx hb d_D_divide_7 (lv_at hl 4 rfl) ?_
  refine lv_iload hx hb d_D_divide_9 (lv_at hl 0 rfl) ?_
  refine lv_lshl hx hb d_D_divide_11 rfl ?_
  refine lv_topl (fun v_12 e_12 => ?_)
  refine lv_lstore (lv' := [(8, .long v_12), (7, .int r_2), (0, .ref h1), (1, .long hi), (3, .long lo), (5, .long B)]) hx hb d_D_divide_12 hl (by decide) rfl (fun ls hl => ?_)
  refine lv_iload hx hb d_D_divide_14 (lv_at hl 1 rfl) ?_
  have hb2 := dv_b hk hz hk1 e_12
  have hH2 : uN hi * 2 ^ k < 18446744073709551616 := Nat.lt_of_le_of_lt (Nat.mul_le_mul_right _ (Nat.le_of_lt hH)) hk1
  obtain ⟨l2, e_l2⟩ : ∃ x : Int64, x = lo <<< ((Int32.toInt64 r_2) &&& 63) := ⟨_, rfl⟩
  have hl2 := dv_l hk hz e_l2
  have hl3 := uN_lt l2
  refine jn1 (α1 := Int64) 35 16 (fun u => uN u * 18446744073709551616 + uN l2 = (uN hi * 18446744073709551616 + uN lo) * 2 ^ k) (fun u => [(0, .ref h1), (3, .long lo), (7, .int r_2), (8, .long v_12)]) (fun u => [.long u]) (fun u hj_35 ls hl => ?_) (fun K_35 => ?_)
  · have hl : lv_has ls 16 [(0, .ref h1), (3, .long lo), (7, .int r_2), (8, .long v_12)] := hl
    refine lv_lstore (lv' := [(10, .long u), (0, .ref h1), (3, .long lo), (7, .int r_2), (8, .long v_12)]) hx hb d_D_divide_35 hl (by decide) rfl (fun ls hl => ?_)
    refine lv_lload_n hx hb d_D_divide_37 rfl (lv_at hl 2 rfl) ?_
    refine lv_iload hx hb d_D_divide_38 (lv_at hl 3 rfl) ?_
    refine lv_lshl hx hb d_D_divide_40 rfl ?_
    refine lv_topl (fun v_41 e_41 => ?_)
    refine lv_lstore (lv' := [(12, .long v_41), (10, .long u), (0, .ref h1), (3, .long lo), (7, .int r_2), (8, .long v_12)]) hx hb d_D_divide_41 hl (by decide) rfl (fun ls hl => ?_)
    rw [← e_l2] at e_41
    subst e_41
    have hu : uN u < uN v_12 := by rw [hb2]; exact dv_hb (Nat.two_pow_pos k) hj_35 (uN_lt lo) hH
    refine lv_aload_n hx hb d_D_divide_43 rfl (lv_at hl 2 rfl) ?_
    refine lv_lload hx hb d_D_divide_44 (lv_at hl 1 rfl) ?_
    refine lv_lload hx hb d_D_divide_46 (lv_at hl 0 rfl) ?_
    refine lv_bipush (v := 32) hx hb d_D_divide_48 (by decide) ?_
    refine lv_lushr hx hb d_D_divide_50 rfl ?_
    refine lv_lload hx hb d_D_divide_51 (lv_at hl 5 rfl) ?_
    have hs : uN (Int64.toUInt64 v_41 >>> ((Int32.toInt64 32).toUInt64 &&& Int64.toUInt64 63)).toInt64 = uN v_41 / 4294967296 := uN_s32 v_41
    have hs2 : uN (Int64.toUInt64 v_41 >>> ((Int32.toInt64 32).toUInt64 &&& Int64.toUInt64 63)).toInt64 < 4294967296 := by rw [hs]; exact d32 hl3
    refine cd_l [.long u, .long ((Int64.toUInt64 v_41) >>> ((Int32.toInt64 32).toUInt64 &&& Int64.toUInt64 63)).toInt64, .long v_12] 3 rfl (rest := []) hx hb hml hown hg hK hP hD hS hA (c_D_digit l D h1 _ v1 v2 u (Int64.toUInt64 v_41 >>> ((Int32.toInt64 32).toUInt64 &&& Int64.toUInt64 63)).toInt64 v_12 (by rw [hb2]; exact hk2) hu hs2) k_215 k_217 k_m4 k_218 (by decide +kernel) hl.1 rfl rfl ⟨Nat.le_of_ble_eq_true rfl, Nat.le_of_ble_eq_true rfl⟩ rfl (Nat.le_of_ble_eq_true rfl) ⟨Nat.zero_le _, Nat.zero_le _⟩ d_D_divide_53 (fun r_53 w1 w2 H locs hw1 hP hD hS => ?_)
    obtain ⟨hw2, z1, hw3, hw4, hw5⟩ := hw1
    dsimp only at hw2 hw3
    subst hw2
    subst hw3
    rw [hs] at hw4 hw5
    refine lv_lstore (lv' := [(14, .long r_53), (12, .long v_41), (10, .long u), (0, .ref h1), (3, .long lo), (7, .int r_2), (8, .long v_12)]) hx hb d_D_divide_56 hl (by decide) rfl (fun ls hl => ?_)
    refine lv_aload_n hx hb d_D_divide_58 rfl (lv_at hl 3 rfl) ?_
    refine lv_lload hx hb d_D_divide_59 (lv_at hl 0 rfl) ?_
    refine lv_bipush (v := 32) hx hb d_D_divide_61 (by decide) ?_
    refine lv_lshl hx hb d_D_divide_63 rfl ?_
    refine lv_aload_n hx hb d_D_divide_64 rfl (lv_at hl 3 rfl) ?_
    refine lv_aload_n hx hb d_D_divide_65 rfl (lv_at hl 3 rfl) ?_
    refine dg_getf hx hb hown hg hK hP d_D_divide_66 ?_
    refine lv_lload hx hb d_D_divide_69 (lv_at hl 1 rfl) ?_
    refine lv_ldc2 (v := 4294967295) hx hb hown (hg _ k_219) d_D_divide_71 ?_
    refine lv_land hx hb d_D_divide_74 ?_
    refine lv_lload hx hb d_D_divide_75 (lv_at hl 6 rfl) ?_
    have ht : uN (v_41 &&& 4294967295) = uN v_41 % 4294967296 := uN_lo v_41
    have ht2 : uN (v_41 &&& 4294967295) < 4294967296 := by rw [ht]; exact Nat.mod_lt _ (by decide)
    have hz1 : uN z1 < uN v_12 := by rw [hw5]; exact Nat.mod_lt _ (by rw [hb2]; omega)
    refine cd_l [.long z1, .long (v_41 &&& 4294967295), .long v_12] 3 rfl (rest := [.long (r_53 <<< ((Int32.toInt64 32) &&& 63)), .ref h1]) hx hb hml hown hg hK hP hD hS hA (c_D_digit l D h1 _ w1 (.long z1) z1 (v_41 &&& 4294967295) v_12 (by rw [hb2]; exact hk2) hz1 ht2) k_215 k_217 k_m4 k_218 (by decide +kernel) hl.1 rfl rfl ⟨Nat.le_of_ble_eq_true rfl, Nat.le_of_ble_eq_true rfl⟩ rfl (Nat.le_of_ble_eq_true rfl) ⟨Nat.zero_le _, Nat.zero_le _⟩ d_D_divide_77 (fun r_77 w1 w2 H locs hx1 hP hD hS => ?_)
    obtain ⟨hx2, z2, hx3, hx4, hx5⟩ := hx1
    dsimp only at hx2 hx3
    subst hx2
    subst hx3
    rw [ht] at hx4 hx5
    refine lv_lor hx hb d_D_divide_80 ?_
    refine lv_topl (fun v_81 e_81 => ?_)
    refine dp_q hx hb hown hg hK hP hD hS d_D_divide_81 (fun H locs hP hD hS => ?_)
    refine lv_aload_n hx hb d_D_divide_84 rfl (lv_at hl 3 rfl) ?_
    refine lv_aload_n hx hb d_D_divide_85 rfl (lv_at hl 3 rfl) ?_
    refine dg_getf hx hb hown hg hK hP d_D_divide_86 ?_
    refine lv_iload hx hb d_D_divide_89 (lv_at hl 5 rfl) ?_
    refine lv_lushr hx hb d_D_divide_91 rfl ?_
    refine lv_topl (fun v_92 e_92 => ?_)
    refine dp_f hx hb hown hg hK hP hD hS d_D_divide_92 (fun H locs hP hD hS => ?_)
    rw [hb2] at hw4 hw5 hx4 hx5
    exact rtD_v hx hb hr hlk hK hP hD hS d_D_divide_95 ⟨v_81, v_92, rfl, dv_end hk hz hB0 hj_35 hl3 hH hw4 hw5 hx4 hx5 e_81 e_92⟩
  · refine lv_if_ne (tgt := 23) hx hb d_D_divide_16 (by decide) (fun c_16 => ?_) (fun c_16 => ?_)
    · refine lv_lload_n hx hb d_D_divide_23 rfl (lv_at hl 3 rfl) ?_
      refine lv_iload hx hb d_D_divide_24 (lv_at hl 1 rfl) ?_
      refine lv_lshl hx hb d_D_divide_26 rfl ?_
      refine lv_lload_n hx hb d_D_divide_27 rfl (lv_at hl 4 rfl) ?_
      refine lv_bipush (v := 64) hx hb d_D_divide_28 (by decide) ?_
      refine lv_iload hx hb d_D_divide_30 (lv_at hl 1 rfl) ?_
      refine lv_isub hx hb d_D_divide_32 ?_
      refine lv_lushr hx hb d_D_divide_33 rfl ?_
      refine lv_lor hx hb d_D_divide_34 ?_
      exact K_35 _ (dv_h1 hk hz c_16 hH2 hl2 rfl) ls (lv_sub hl [2, 4, 1, 0] rfl)
    · refine lv_lload_n hx hb d_D_divide_19 rfl (lv_at hl 3 rfl) ?_
      refine lv_goto (tgt := 35) hx hb d_D_divide_20 (by decide) ?_
      exact K_35 _ (dv_h0 hk hz c_16 hl2) ls (lv_sub hl [2, 4, 1, 0] rfl)
end
section
/-! what a method says that may throw: its answer, or the exception that it made -/
def TQ (nm : String) (E : State → Prop) (A : Nat → Prop) (post : Option Value → Prop) (tp : Prop) : Array Value → State → Outcome → State → Prop := fun _ st o t =>
  ((∃ v, o = .returned v ∧ post v) ∨ (∃ (x : Nat) (ce : Cell), o = .threw x ∧ tp ∧ st.heap.size ≤ x ∧ t.heap[x]? = some ce ∧ ce.vm = .none ∧ st.vm.findClass nm = some ce.cls)) ∧ E t ∧ va_F A st t
theorem sbn_F {s U : State} {locs : List Loc} {k n : Nat} {A : Nat → Prop} (h : s.sameButNew ({ U with vm := s.vm } : State) locs k n) (hA : ∀ q ∈ locs, A q.base) : va_F A s U := by
  refine ⟨h.2.1, fun q hq hn => ?_⟩
  have hc : s.heap[q]? = some s.heap[q] := Array.getElem?_eq_getElem hq
  obtain ⟨c', e1, e2, e3, e4⟩ := h.2.2.2.2.2 q _ hc
  have e5 : c'.slots = s.heap[q].slots := Array.ext_getElem? fun i => e4 i (fun z => hn (hA _ z))
  rw [hc, show U.heap[q]? = some c' from e1, e2, e5]
theorem sbn_D {D : va_G} {h1 : Nat} {v1 v2 : Value} {s U : State} {locs : List Loc} {k n : Nat} (h : s.sameButNew ({ U with vm := s.vm } : State) locs k n) (hP : va_P D classes (Dw h1 v1 v2) s.heap) : ∃ w1 w2, va_P D classes (Dw h1 w1 w2) U.heap := by
  obtain ⟨r, hr, cell, g1, g2, g3, g4⟩ := hP 0 _ rfl
  cases (show some ("FixedNumbers$Division", F_D, 2) = some r from hr)
  obtain ⟨c', e1, e2, e3, e4⟩ := h.2.2.2.2.2 h1 _ g1
  have a0 : ∃ w, c'.slots[D.2 1 0]? = some w := by
    have q := (Array.getElem?_eq_some_iff.mp (g4 0 (by decide))).1
    exact ⟨_, Array.getElem?_eq_getElem (by rw [e3]; exact q)⟩
  have a1 : ∃ w, c'.slots[D.2 1 1]? = some w := by
    have q := (Array.getElem?_eq_some_iff.mp (g4 1 (by decide))).1
    exact ⟨_, Array.getElem?_eq_getElem (by rw [e3]; exact q)⟩
  obtain ⟨w1, b1⟩ := a0
  obtain ⟨w2, b2⟩ := a1
  refine ⟨w1, w2, fun j q hq => ?_⟩
  have hj : j < 1 := (List.getElem?_eq_some_iff.mp hq).1
  rw [show j = 0 by omega] at hq
  cases hq
  refine ⟨_, rfl, c', e1, by rw [e2]; exact g2, by rw [e2]; exact g3, fun i hi => ?_⟩
  have hi : i < 2 := hi
  rcases (show i = 0 ∨ i = 1 by omega) with rfl | rfl
  · exact b1
  · exact b2
theorem S_F {A A1 : Nat → Prop} {H0 H : Heap} {locs L : List Loc} {st t : State} (hS : va_S A H0 H locs) (h0 : st.heap = H) (hF : va_F A1 st t) (hA : ∀ q, q < H.size → A1 q → A q) (hL : ∀ q ∈ L, A q.base) : va_S A H0 t.heap (locs ++ L) := by
  subst h0
  refine ⟨Nat.le_trans hS.1 hF.1, fun q h1 h2 => ?_, fun q hq => ?_⟩
  · have h3 := Nat.lt_of_lt_of_le h1 hS.1
    rw [hF.2 q h3 (fun z => h2 (hA q h3 z))]
    exact hS.2.1 q h1 h2
  · rcases List.mem_append.mp hq with h | h
    · exact hS.2.2 q h
    · exact hL q h
theorem exw_S {A : Nat → Prop} {s U : State} {H : Heap} {locs : List Loc} (hS : va_S A s.heap H locs) (hAs : ∀ (q : Nat) (cell : Cell), s.heap[q]? = some cell → cell.vm.isStatics = true → ¬ A q) (hU : U.heap = H) (hvm : s.vm.Alike U.vm) (h : exw s) : exw U := by
  refine exw_moved hvm (fun q cell h1 h2 => ?_) h
  have h3 := (Array.getElem?_eq_some_iff.mp h1).1
  rw [hU, hS.2.1 q h3 (hAs q cell h1 h2)]
  exact h1
theorem exw_call {U : State} {g : JFrame} {mk : MethodId} {a : Array Value} (h : exw U) : exw (U.calling g mk a) := exw_moved (s := U) (U := U.calling g mk a) (Vm.Alike.refl U.vm) (fun _ _ h _ => h) h
section TB
variable {p : Program} {l : Launch} {e : Env} {R : Room} {s : State} {m : MethodId} {args : Array Value} {below : List Frame} {meth : Method} {c : Code} {H : Heap} {locs : List Loc} {cells slots : Nat} {Q : State → Prop}
variable {cc : ByteArray} {pc : Nat} {ls : Array Slot} {rest st0 : List Value} {nm : String} {E : State → Prop} {A : Nat → Prop} {post : Option Value → Prop} {tp : Prop} {mc ms : Nat}
theorem rtT_i {v : Int32} (hx : p.tables.exec = Jvm.exec) (hb : c.code = cc) (hr : meth.sig.returnType = some .int) (hlk : meth.locks = false) (hc : cells ≤ mc ∧ slots ≤ ms) (hS : va_S A s.heap H locs) (hE : ∀ t : State, t.heap = H → s.WarmedH t.vm → E t) (hd : decode cc pc = .ok (.ireturn, 1)) (hp : post (some (.int v))) : W p l e R s m args below meth c H locs cells slots (MQT below (TQ nm E A post tp) args s mc ms A) (F0 m pc ls [.int v]) :=
  W.widen hc.1 hc.2 (wret (W.iret (free := A) (Qc := TQ nm E A post tp) hx hb hr (fun x ht hW => ⟨Or.inl ⟨_, rfl, hp⟩, hE x ht hW, hS.F ht⟩) hS.2.2 hd hlk))
theorem rtT_l {v : Int64} (hx : p.tables.exec = Jvm.exec) (hb : c.code = cc) (hr : meth.sig.returnType = some .long) (hlk : meth.locks = false) (hc : cells ≤ mc ∧ slots ≤ ms) (hS : va_S A s.heap H locs) (hE : ∀ t : State, t.heap = H → s.WarmedH t.vm → E t) (hd : decode cc pc = .ok (.lreturn, 1)) (hp : post (some (.long v))) : W p l e R s m args below meth c H locs cells slots (MQT below (TQ nm E A post tp) args s mc ms A) (F0 m pc ls [.long v]) :=
  W.widen hc.1 hc.2 (wret (W.lret (free := A) (Qc := TQ nm E A post tp) hx hb hr (fun x ht hW => ⟨Or.inl ⟨_, rfl, hp⟩, hE x ht hW, hS.F ht⟩) hS.2.2 hd hlk))
theorem rtT_v (hx : p.tables.exec = Jvm.exec) (hb : c.code = cc) (hr : meth.sig.returnType = none) (hlk : meth.locks = false) (hc : cells ≤ mc ∧ slots ≤ ms) (hS : va_S A s.heap H locs) (hE : ∀ t : State, t.heap = H → s.WarmedH t.vm → E t) (hd : decode cc pc = .ok (.return_, 1)) (hp : post none) : W p l e R s m args below meth c H locs cells slots (MQT below (TQ nm E A post tp) args s mc ms A) (F0 m pc ls []) :=
  W.widen hc.1 hc.2 (wret (W.vret (free := A) (Qc := TQ nm E A post tp) hx hb hr (fun x ht hW => ⟨Or.inl ⟨_, rfl, hp⟩, hE x ht hW, hS.F ht⟩) hS.2.2 hd hlk))
theorem thT {ix ic nL : Nat} (hfl : l.flags = flags0) (hx : p.tables.exec = Jvm.exec) (hb : c.code = cc) (hml : c.maxLocals = nL) (hown : s.vm.findClass "FixedNumbers" = some m.cls) (hg : ∀ w ∈ lw_gd, w.before args s = true) (hlk : meth.locks = false) (htab : c.exceptionTable.toList = []) (hex : exw s) (hAs : ∀ (q : Nat) (cell : Cell), s.heap[q]? = some cell → cell.vm.isStatics = true → ¬ A q) (hS : va_S A s.heap H locs)
    (hat : ∀ a ∈ Bundle.ownAtoms0 "FixedNumbers" ic nm [nRE, nEX], a ∈ lw_gd ∨ a ∈ exL) (hfit : Bundle.fit nm = true) (h1 : Cond.classLink "FixedNumbers" ix nm ∈ lw_gd) (h2 : Cond.instantiable nm 6 ∈ lw_gd) (h3 : Cond.initialized nm ∈ lw_gd)
    (hsz : ls.size = nL) (hR : 5 < R.frames ∧ 81 ≤ R.locals) (hf : 1 ≤ R.cells ∧ 6 ≤ R.slots) (d0 : decode cc pc = .ok (.new ix, 3)) (d1 : decode cc (pc + 3) = .ok (.dup, 1)) (d2 : decode cc (pc + 4) = .ok (.invokespecial ic, 3)) (d3 : decode cc (pc + 7) = .ok (.athrow, 1))
    (hE : ∀ U : State, s.WarmedH U.vm → s.sameButNew ({ U with vm := s.vm } : State) locs 1 6 → E U) (htp : tp) : W p l e R s m args below meth c H locs 0 0 (MQT below (TQ nm E A post tp) args s 1 6 A) (F0 m pc ls []) :=
  thr (cells := 0) (slots := 0) hfl hx hb hml hown hg hlk htab hex hat hfit h1 h2 h3 hsz hR hf hS.1 (fun x hx cell hc => by
      cases hz : cell.vm.isStatics with
      | false => rfl
      | true => exact absurd (hS.2.2 x hx) (hAs _ cell hc hz)) hS.2.2 d0 d1 d2 d3
    (fun U x ce hW hs hx hce hv hcl => ⟨Or.inr ⟨x, ce, rfl, htp, hx, hce, hv, hcl⟩, hE U hW hs, sbn_F hs hS.2.2⟩)
/-- the method passes on what a method that it called threw -/
theorem onQ {E1 : State → Prop} {A1 : Nat → Prop} {post1 : Option Value → Prop} {tp1 : Prop} {a1 : Array Value} {st t : State} {x : Addr} {L : List Loc} (hlk : meth.locks = false) (htab : c.exceptionTable.toList = []) (hc : cells ≤ mc ∧ slots ≤ ms) (hS : va_S A s.heap H locs) (h0 : st.heap = H) (hW0 : s.WarmedH st.vm) (hq : TQ nm E1 A1 post1 tp1 a1 st (.threw x) t) (hA : ∀ q, q < H.size → A1 q → A q) (hL : ∀ q ∈ L, A q.base)
    (hE : ∀ U : State, U.heap = t.heap → s.WarmedH U.vm → E U) (htp : tp1 → tp) : Wt p l e R s m args below meth c t.heap (locs ++ L) cells slots (MQT below (TQ nm E A post tp) args s mc ms A) (F0 m pc ls rest) x := by
  intro T hT X
  have hS2 := S_F hS h0 hq.2.2 hA hL
  refine onT (pc := pc) (ls := ls) (rest := rest) (Qc := TQ nm E A post tp) (free := A) hlk htab hS2.2.2 (fun U hU hW hs => ?_) T hT (stand_widen X hc.1 hc.2)
  obtain ⟨h1, -, hF⟩ := hq
  rcases h1 with ⟨v, hv, -⟩ | ⟨y, ce, hy, g1, g2, g3, g4, g5⟩
  · cases hv
  · cases hy
    refine ⟨Or.inr ⟨x, ce, rfl, htp g1, ?_, by rw [hU]; exact g3, g4, by rw [← hW0.alike.findClass]; exact g5⟩, hE U hU hW, hS2.F hU⟩
    rw [h0] at g2
    exact Nat.le_trans hS.1 g2
end TB
end
section
/-! the class's own ratio: the answers and the throws -/
def OUT (a b c : Int64) : Prop := c = 0 ∨ ∀ q : Int, FD (a.toInt * b.toInt) c.toInt q → q < -9223372036854775808 ∨ 9223372036854775808 ≤ q
theorem out_of {a b c : Int64} {q0 : Int} (h : FD (a.toInt * b.toInt) c.toInt q0) (hq : q0 < -9223372036854775808 ∨ 9223372036854775808 ≤ q0) : OUT a b c := Or.inr fun q h2 => by rw [FD_uniq h2 h]; exact hq
theorem rr_hi {a b c x y z H : Int64} (hx : uN x = a.toInt.natAbs) (hy : uN y = b.toInt.natAbs) (hz : uN z = c.toInt.natAbs) (hc : ¬ c = 0) (hH : uN H = uN x * uN y / 18446744073709551616) (h : ¬ uN H < uN z) : OUT a b c := by
  obtain ⟨k1, -, k3, k4⟩ := ex_key hx hy hz hc rfl rfl
  have hz0 : 0 < uN z := by
    rcases Nat.eq_zero_or_pos (uN z) with q | q
    · have z0 : (0 : Int64).toInt = 0 := rfl
      rw [l_eq, z0] at hc
      omega
    · exact q
  have hQ : 18446744073709551616 ≤ uN x * uN y / uN z := by
    rw [Nat.le_div_iff_mul_le hz0]
    have h1 := Nat.div_mul_le_self (uN x * uN y) 18446744073709551616
    rw [← hH] at h1
    generalize uN x * uN y = P at *
    omega
  generalize uN x * uN y / uN z = Q at *
  by_cases s : SG a b c
  · exact out_of (k1 s) (by omega)
  · by_cases f : uN x * uN y % uN z = 0
    · exact out_of (k3 s f) (by omega)
    · exact out_of (k4 s f) (by omega)
theorem rr_pos {a b c x y z q : Int64} (hx : uN x = a.toInt.natAbs) (hy : uN y = b.toInt.natAbs) (hz : uN z = c.toInt.natAbs) (hc : ¬ c = 0) (hq : uN q = uN x * uN y / uN z) (s : SG a b c) : (0 ≤ q → FD (a.toInt * b.toInt) c.toInt q.toInt) ∧ (¬ 0 ≤ q → OUT a b c) := by
  obtain ⟨k1, -, -, -⟩ := ex_key hx hy hz hc hq rfl
  have h1 := uN_ge0 q
  have h2 := uN_int q
  refine ⟨fun g => ?_, fun g => out_of (k1 s) (Or.inr ?_)⟩
  · rw [h2, if_pos (by have := h1.mp g; omega)]; exact k1 s
  · have : ¬ uN q < 9223372036854775808 := fun t => g (h1.mpr t)
    omega
theorem rr_mn : uN (-9223372036854775808) = 9223372036854775808 := by decide +kernel
theorem rr_neg {a b c x y z q f : Int64} {w : Int32} (hx : uN x = a.toInt.natAbs) (hy : uN y = b.toInt.natAbs) (hz : uN z = c.toInt.natAbs) (hc : ¬ c = 0) (hq : uN q = uN x * uN y / uN z) (hf : uN f = uN x * uN y % uN z) (s : ¬ SG a b c) (hw : w = if uN q < uN (-9223372036854775808) then -1 else if uN q = uN (-9223372036854775808) then 0 else 1) :
    (0 < w → OUT a b c) ∧ (¬ 0 < w → f = 0 → FD (a.toInt * b.toInt) c.toInt (-q).toInt) ∧ (¬ f = 0 → q = -9223372036854775808 → OUT a b c) ∧ (¬ 0 < w → ¬ f = 0 → ¬ q = -9223372036854775808 → FD (a.toInt * b.toInt) c.toInt (-q - 1).toInt) := by
  obtain ⟨-, -, k3, k4⟩ := ex_key hx hy hz hc hq hf
  have hw2 : 0 < w ↔ 9223372036854775808 < uN q := by
    have := cu_le hw
    rw [rr_mn] at this
    rw [show 0 < w ↔ ¬ w ≤ 0 from ⟨fun t u => Int32.not_lt.mpr u t, fun t => Int32.not_le.mp t⟩, this]
    omega
  have f0 : f = 0 ↔ uN f = 0 := by rw [uN_eq]; exact Iff.rfl
  have qm : q = -9223372036854775808 ↔ uN q = 9223372036854775808 := by rw [uN_eq, rr_mn]
  have l := uN_lt q
  have l2 := uN_lt (-q)
  have ng := uN_ng q
  have i2 := uN_int (-q)
  have i1 := uN_int q
  refine ⟨fun g => ?_, fun g e => ?_, fun g e => ?_, fun g e e2 => ?_⟩
  · have g2 := hw2.mp g
    by_cases t : uN f = 0
    · exact out_of (k3 s t) (by omega)
    · exact out_of (k4 s t) (by omega)
  · have g2 : ¬ 9223372036854775808 < uN q := fun t => g (hw2.mpr t)
    have k := k3 s (f0.mp e)
    have : (-q).toInt = -(uN q : Int) := by
      rw [i2, ng]
      split <;> omega
    rw [this]; exact k
  · have k := k4 s (fun t => g (f0.mpr t))
    have := qm.mp e
    exact out_of k (by omega)
  · have g2 : ¬ 9223372036854775808 < uN q := fun t => g (hw2.mpr t)
    have g3 : ¬ uN q = 9223372036854775808 := fun t => e2 (qm.mpr t)
    have k := k4 s (fun t => e (f0.mpr t))
    have h1 : (-q).toInt = -(uN q : Int) := by
      rw [i2, ng]
      split <;> omega
    have z1 : (1 : Int64).toInt = 1 := rfl
    rw [l_sub, h1, z1]
    · exact k
    · rw [h1, z1]; omega
    · rw [h1, z1]; omega
theorem low64 {x y H L : Int64} (hH : uN H = uN x * uN y / 18446744073709551616) (e : L = x * y) : uN H * 18446744073709551616 + uN L = uN x * uN y := by
  rw [e, uN_mul, hH]
  exact Nat.div_add_mod' _ _
theorem sg_x {a b c : Int64} {sx s3 : Int32} (h1 : sx = if (0 ≤ a ↔ 0 ≤ b) then 0 else 1) (h3 : s3 = if 0 ≤ c then 0 else 1) : (sx = s3 → SG a b c) ∧ (¬ sx = s3 → ¬ SG a b c) := ⟨fun q => (sg_of h1 h3).mp q, fun q t => q ((sg_of h1 h3).mpr t)⟩
theorem b10 {r : Int32} {P : Prop} (h : (r = 0 ∧ P) ∨ (r = 1 ∧ ¬ P)) : (r = 0 → P) ∧ (¬ r = 0 → ¬ P) := by
  rcases h with ⟨h1, h2⟩ | ⟨h1, h2⟩
  · exact ⟨fun _ => h2, fun q => absurd h1 q⟩
  · exact ⟨fun q => by rw [h1] at q; exact absurd q (by decide), fun _ => h2⟩
theorem fx_x {c v : Int32} (h : FXC c) (hv : v = if c ≤ 127 then 0 else 1) : FXP c (c * 257 + v) := by
  obtain ⟨h1, h2⟩ := h
  have z : (0 : Int32).toInt = 0 := rfl
  have z1 : (1 : Int32).toInt = 1 := rfl
  have z2 : (255 : Int32).toInt = 255 := rfl
  have z3 : (257 : Int32).toInt = 257 := rfl
  have z4 : (127 : Int32).toInt = 127 := rfl
  rw [i_le, z] at h1
  rw [i_le, z2] at h2
  have m : (c * 257).toInt = c.toInt * 257 := by rw [i_mul, z3] <;> rw [z3] <;> omega
  have c1 : c ≤ 127 ↔ c.toInt ≤ 127 := by rw [i_le, z4]
  unfold FXP
  by_cases q : c ≤ 127
  · rw [if_pos q] at hv
    rw [hv, i_add, m, z, if_neg (by have := c1.mp q; omega)] <;> rw [m, z] <;> omega
  · rw [if_neg q] at hv
    have : ¬ c.toInt ≤ 127 := fun t => q (c1.mpr t)
    rw [hv, i_add, m, z1, if_pos (by omega)] <;> rw [m, z1] <;> omega
theorem sh_x {x y v : Int32} (h : SHC x y) (hv : v = x * y + 128) : SHP x y ((v + (v >>> ((8 : Int32) &&& 31))) >>> ((8 : Int32) &&& 31)) := by
  obtain ⟨h1, h2, h3, h4⟩ := h
  have z : (0 : Int32).toInt = 0 := rfl
  have z2 : (255 : Int32).toInt = 255 := rfl
  have z3 : (128 : Int32).toInt = 128 := rfl
  rw [i_le, z] at h1 h3
  rw [i_le, z2] at h2 h4
  have b := mul_bd (a := x.toInt) (b := y.toInt) (A := 0) (A2 := 255) (B := 255) (by omega) h2 h3 h4 (by decide) (by decide)
  have m : (x * y).toInt = x.toInt * y.toInt := i_mul (by omega) (by omega)
  have s : v.toInt = x.toInt * y.toInt + 128 := by rw [hv, i_add, m, z3] <;> rw [m, z3] <;> omega
  have t : (v >>> ((8 : Int32) &&& 31)).toInt = v.toInt / 256 := by rw [pk_shr _ _ 8 (by decide), Int.shiftRight_eq_div_pow]; rfl
  have u : (v + (v >>> ((8 : Int32) &&& 31))).toInt = v.toInt + v.toInt / 256 := by rw [i_add, t] <;> rw [t, s] <;> omega
  unfold SHP
  rw [pk_shr _ _ 8 (by decide), Int.shiftRight_eq_div_pow, u, s]
  rfl
theorem bt_no {a b : Int32} {n d : Int64} (h : BC n d) : ¬ OUT (Int32.toInt64 b - Int32.toInt64 a) n d := by
  intro q
  rcases q with q | q
  · exact bc_d h q
  · obtain ⟨h1, -, -⟩ := id h
    have z : (0 : Int64).toInt = 0 := rfl
    rw [l_lt, z] at h1
    have k := (FD_pos (X := (b.toInt - a.toInt) * n.toInt) h1).mpr rfl
    have r := bt_in h k
    rw [bt_x] at q
    have := q _ k
    omega
end
section
abbrev Xo (h0 h1 : Nat) : va_W := [(h0, .inr (0, [.ref h1]))]
abbrev nq : Cond := .fieldLinkNest "FixedNumbers" 76 "FixedNumbers$Division" "quotient" "J" "FixedNumbers"
abbrev nf : Cond := .fieldLinkNest "FixedNumbers" 80 "FixedNumbers$Division" "left" "J" "FixedNumbers"
def XA (h1 sz : Nat) : Nat → Prop := fun q => q = h1 ∨ sz ≤ q
def X_B (D : va_G) (h0 h1 : Nat) (v1 v2 : Value) (sz : Nat) (U : State) : Prop := U.heap.size = sz ∧ va_P D classes (Xo h0 h1) U.heap ∧ va_P D classes (Dw h1 v1 v2) U.heap ∧ ¬ h0 = h1 ∧ va_K D classes [] U ∧ exw U ∧ va_Nw nq U ∧ va_Nw nf U
def X_E (D : va_G) (h1 : Nat) (t : State) : Prop := ∃ w1 w2, va_P D classes (Dw h1 w1 w2) t.heap
theorem w1_D {A : Nat → Prop} {q : Nat} {x : va_E} (h : A q) : va_D A [(q, x)] := by
  refine ⟨fun i j p r hi hj _ => ?_, fun k r hk => ?_⟩
  · have h1 : i < 1 := (List.getElem?_eq_some_iff.mp hi).1
    have h2 : j < 1 := (List.getElem?_eq_some_iff.mp hj).1
    omega
  · have h1 : k < 1 := (List.getElem?_eq_some_iff.mp hk).1
    rw [show k = 0 by omega] at hk
    cases hk
    exact h
theorem Xo_keep {D : va_G} {h0 h1 : Nat} {H0 H : Heap} {locs : List Loc} (hPo : va_P D classes (Xo h0 h1) H0) (hne : ¬ h0 = h1) (hS : va_S (XA h1 H0.size) H0 H locs) : va_P D classes (Xo h0 h1) H := by
  refine hPo.kept (fun k q hk => ?_)
  have hl : q.1 < H0.size := (hPo k q hk).lt
  have h1 : k < 1 := (List.getElem?_eq_some_iff.mp hk).1
  rw [show k = 0 by omega] at hk
  cases hk
  exact hS.2.1 h0 hl (fun z => z.elim hne (fun z => absurd hl (Nat.not_lt.mpr z)))
theorem XA_s {D : va_G} {h1 : Nat} {v1 v2 : Value} {s : State} (hP : va_P D classes (Dw h1 v1 v2) s.heap) (q : Nat) (cell : Cell) (hc : s.heap[q]? = some cell) (hz : cell.vm.isStatics = true) : ¬ XA h1 s.heap.size q := by
  intro z
  rcases z with z | z
  · subst z
    obtain ⟨r, hr, ce, g1, g2, g3, g4⟩ := hP 0 _ rfl
    cases hc.symm.trans g1
    rw [g3] at hz
    cases hz
  · exact absurd (Array.getElem?_eq_some_iff.mp hc).1 (Nat.not_lt.mpr z)
theorem P_F {D : va_G} {cl : List vw_C} {ws : va_W} {H : Heap} {st t : State} (hP : va_P D cl ws H) (hst : st.heap = H) (hF : va_F (fun _ => False) st t) : va_P D cl ws t.heap := hP.kept (fun k q hk => by rw [← hst]; exact hF.2 q.1 (by rw [hst]; exact (hP k q hk).lt) (fun h => h))
theorem X_Bcall {D : va_G} {h0 h1 : Nat} {v1 v2 : Value} {sz : Nat} {U : State} {g : JFrame} {mk : MethodId} {a : Array Value} (h : X_B D h0 h1 v1 v2 sz U) : X_B D h0 h1 v1 v2 sz (U.calling g mk a) := by
  obtain ⟨q1, q2, q3, q4, q5, q6, q7, q8⟩ := h
  exact ⟨q1, q2, q3, q4, va_K.moved (u := U) (U := U.calling g mk a) (Vm.Alike.refl U.vm) q5, exw_call q6, va_Nw.same rfl (u := U) rfl q7, va_Nw.same rfl (u := U) rfl q8⟩
set_option maxHeartbeats 4000000 in
set_option maxRecDepth 100000 in
theorem c_X_right (l : Launch) (hfl : l.flags = flags0)  (b0 : Int32) : MetT l y_X_right w_X_right ({ frames := 6, cells := 1, slots := 6, locals := 81 } : Room) (va_Pc [.int b0] (exw)) (TQ nIA (fun _ => True) (fun _ => False) (fun v => v = none ∧ ¬ b0 = 0) (b0 = 0)) 1 6 (fun _ => False) := by
  refine pmT (y := y_X_right) (cc := b_X_right) (maxL := 1) (ret := none) (rm := ({ frames := 6, cells := 1, slots := 6, locals := 81 } : Room)) [.int b0] (by decide +kernel) (Nat.le_of_ble_eq_true rfl) (fun p e s m below meth c ls hx hb hr hml hown hg hlk htab hB hl => ?_)
  have hl : lv_has ls 1 [(0, .int b0)] := hl
  have hex : exw s := hB
  have hS : va_S (fun _ => False) s.heap s.heap [] := va_S.rf
  have hAs : ∀ (q : Nat) (cell : Cell), s.heap[q]? = some cell → cell.vm.isStatics = true → ¬ (fun _ : Nat => False) q := fun _ _ _ _ h => h
  refine lv_iload_n hx hb d_X_right_0 rfl (lv_at hl 0 rfl) ?_
  refine lv_if_ne (tgt := 12) hx hb d_X_right_1 (by decide) (fun c_1 => ?_) (fun c_1 => ?_)
  · exact rtT_v hx hb hr hlk ⟨Nat.le_of_ble_eq_true rfl, Nat.le_of_ble_eq_true rfl⟩ hS (fun _ _ _ => trivial) d_X_right_12 ⟨rfl, c_1⟩
  · exact thT (nm := nIA) (ix := 16) (ic := 18) hfl hx hb hml hown hg hlk htab hex hAs hS a_IA (by decide +kernel) k_240 k_241 k_12 hl.1 ⟨Nat.le_of_ble_eq_true rfl, Nat.le_of_ble_eq_true rfl⟩ ⟨Nat.le_of_ble_eq_true rfl, Nat.le_of_ble_eq_true rfl⟩ d_X_right_4 d_X_right_7 d_X_right_8 d_X_right_11 (fun _ _ _ => trivial) c_1
set_option maxHeartbeats 4000000 in
set_option maxRecDepth 100000 in
theorem c_X_fixed (l : Launch) (hfl : l.flags = flags0)  (h0 : Nat) (c0 : Int32) : MetT l y_X_fixed w_X_fixed ({ frames := 7, cells := 1, slots := 6, locals := 101 } : Room) (va_Pc [.ref h0, .int c0] (exw)) (TQ nIA (fun _ => True) (fun _ => False) (fun v => ∃ r, v = some (.int r) ∧ FXC c0 ∧ FXP c0 r) (¬ FXC c0)) 1 6 (fun _ => False) := by
  refine pmT (y := y_X_fixed) (cc := b_X_fixed) (maxL := 2) (ret := (some .int)) (rm := ({ frames := 7, cells := 1, slots := 6, locals := 101 } : Room)) [.ref h0, .int c0] (by decide +kernel) (Nat.le_of_ble_eq_true rfl) (fun p e s m below meth c ls hx hb hr hml hown hg hlk htab hB hl => ?_)
  have hl : lv_has ls 2 [(0, .ref h0), (1, .int c0)] := hl
  have hex : exw s := hB
  have hS : va_S (fun _ => False) s.heap s.heap [] := va_S.rf
  have hAs : ∀ (q : Nat) (cell : Cell), s.heap[q]? = some cell → cell.vm.isStatics = true → ¬ (fun _ : Nat => False) q := fun _ _ _ _ h => h
  refine lv_iload_n hx hb d_X_fixed_0 rfl (lv_at hl 1 rfl) ?_
  refine jn1 (α1 := Int32) 16 2 (fun v => (FXC c0 ∧ v = 1) ∨ (¬ FXC c0 ∧ v = 0)) (fun v => [(0, .ref h0), (1, .int c0)]) (fun v => [.int v]) (fun v hj_16 ls hl => ?_) (fun K_16 => ?_)
  · have hl : lv_has ls 2 [(0, .ref h0), (1, .int c0)] := hl
    refine goT (runTS [.int v] 1 rfl (rest := []) hx hb hml hown hg (c_X_right l hfl v) k_237 k_238 k_1 k_239 (by decide +kernel) hl.1 rfl rfl ⟨Nat.le_of_ble_eq_true rfl, Nat.le_of_ble_eq_true rfl⟩ rfl (Nat.le_of_ble_eq_true rfl) ⟨Nat.le_of_ble_eq_true rfl, Nat.le_of_ble_eq_true rfl⟩ d_X_fixed_16 (fun U hU hW => ⟨rfl, exw_S hS hAs hU hW.alike hex⟩) (fun a U g mk q => ⟨q.1, exw_call q.2⟩)) (fun vv st t L hst hW0 hW hL hq => ?_) (fun x st t L hst hW0 hW hL hq => ?_)
    · obtain ⟨hq1, -, hF⟩ := hq
      rcases hq1 with ⟨w, hw, hq2, hq3⟩ | ⟨x, ce, hw, -⟩
      · cases hw
        subst hq2
        have hS := S_F hS hst hF (fun _ _ h => h.elim) (fun q h => (hL q h).elim)
        generalize t.heap = H at hS ⊢
        refine W.eq (g2 := F0 m 19 ls []) rfl ?_
        have hC : FXC c0 := Classical.byContradiction (fun z => hq3 (hj_16.elim (fun g => absurd g.1 z) (fun g => g.2)))
        refine lv_iload_n hx hb d_X_fixed_19 rfl (lv_at hl 1 rfl) ?_
        refine lv_sipush (v := 257) hx hb d_X_fixed_20 (by decide) ?_
        refine lv_imul hx hb d_X_fixed_23 ?_
        refine lv_iload_n hx hb d_X_fixed_24 rfl (lv_at hl 1 rfl) ?_
        refine lv_bipush (v := 127) hx hb d_X_fixed_25 (by decide) ?_
        refine jn1 (α1 := Int32) 35 2 (fun w => w = if c0 ≤ 127 then 0 else 1) (fun w => [(0, .ref h0), (1, .int c0)]) (fun w => [.int w, .int (c0 * 257)]) (fun w hj_35 ls hl => ?_) (fun K_35 => ?_)
        · have hl : lv_has ls 2 [(0, .ref h0), (1, .int c0)] := hl
          refine lv_iadd hx hb d_X_fixed_35 ?_
          exact rtT_i hx hb hr hlk ⟨Nat.le_of_ble_eq_true rfl, Nat.le_of_ble_eq_true rfl⟩ hS (fun _ _ _ => trivial) d_X_fixed_36 ⟨_, rfl, hC, fx_x hC hj_35⟩
        · refine lv_icmp_le (tgt := 34) hx hb d_X_fixed_27 (by decide) (fun c_27 => ?_) (fun c_27 => ?_)
          · refine lv_iconst (v := 0) hx hb d_X_fixed_34 (by decide) ?_
            exact K_35 _ (by rw [if_pos c_27]) ls (lv_sub hl [0, 1] rfl)
          · refine lv_iconst (v := 1) hx hb d_X_fixed_30 (by decide) ?_
            refine lv_goto (tgt := 35) hx hb d_X_fixed_31 (by decide) ?_
            exact K_35 _ (by rw [if_neg c_27]) ls (lv_sub hl [0, 1] rfl)
      · cases hw
    · exact onQ hlk htab ⟨Nat.le_of_ble_eq_true rfl, Nat.le_of_ble_eq_true rfl⟩ hS hst hW0 hq (fun _ _ h => h.elim) (fun q h => (hL q h).elim) (fun _ _ _ => trivial) (fun g => hj_16.elim (fun q => absurd g (by rw [q.2]; decide)) (fun q => q.1))
  · refine lv_if_lt (tgt := 15) hx hb d_X_fixed_1 (by decide) (fun c_1 => ?_) (fun c_1 => ?_)
    · refine lv_iconst (v := 0) hx hb d_X_fixed_15 (by decide) ?_
      exact K_16 _ (Or.inr ⟨fun q => Int32.not_lt.mpr q.1 c_1, rfl⟩) ls (lv_sub hl [0, 1] rfl)
    · refine lv_iload_n hx hb d_X_fixed_4 rfl (lv_at hl 1 rfl) ?_
      refine lv_sipush (v := 255) hx hb d_X_fixed_5 (by decide) ?_
      refine lv_icmp_gt (tgt := 15) hx hb d_X_fixed_8 (by decide) (fun c_8 => ?_) (fun c_8 => ?_)
      · refine lv_iconst (v := 0) hx hb d_X_fixed_15 (by decide) ?_
        exact K_16 _ (Or.inr ⟨fun q => Int32.not_lt.mpr q.2 c_8, rfl⟩) ls (lv_sub hl [0, 1] rfl)
      · refine lv_iconst (v := 1) hx hb d_X_fixed_11 (by decide) ?_
        refine lv_goto (tgt := 16) hx hb d_X_fixed_12 (by decide) ?_
        exact K_16 _ (Or.inl ⟨⟨Int32.not_lt.mp c_1, Int32.not_lt.mp c_8⟩, rfl⟩) ls (lv_sub hl [0, 1] rfl)
set_option maxHeartbeats 4000000 in
set_option maxRecDepth 100000 in
theorem c_X_shade (l : Launch) (hfl : l.flags = flags0)  (h0 : Nat) (x0 : Int32) (y0 : Int32) : MetT l y_X_shade w_X_shade ({ frames := 7, cells := 1, slots := 6, locals := 101 } : Room) (va_Pc [.ref h0, .int x0, .int y0] (exw)) (TQ nIA (fun _ => True) (fun _ => False) (fun v => ∃ r, v = some (.int r) ∧ SHC x0 y0 ∧ SHP x0 y0 r) (¬ SHC x0 y0)) 1 6 (fun _ => False) := by
  refine pmT (y := y_X_shade) (cc := b_X_shade) (maxL := 4) (ret := (some .int)) (rm := ({ frames := 7, cells := 1, slots := 6, locals := 101 } : Room)) [.ref h0, .int x0, .int y0] (by decide +kernel) (Nat.le_of_ble_eq_true rfl) (fun p e s m below meth c ls hx hb hr hml hown hg hlk htab hB hl => ?_)
  have hl : lv_has ls 4 [(0, .ref h0), (1, .int x0), (2, .int y0)] := hl
  have hex : exw s := hB
  have hS : va_S (fun _ => False) s.heap s.heap [] := va_S.rf
  have hAs : ∀ (q : Nat) (cell : Cell), s.heap[q]? = some cell → cell.vm.isStatics = true → ¬ (fun _ : Nat => False) q := fun _ _ _ _ h => h
  refine lv_iload_n hx hb d_X_shade_0 rfl (lv_at hl 1 rfl) ?_
  refine jn1 (α1 := Int32) 27 4 (fun v => (SHC x0 y0 ∧ v = 1) ∨ (¬ SHC x0 y0 ∧ v = 0)) (fun v => [(0, .ref h0), (1, .int x0), (2, .int y0)]) (fun v => [.int v]) (fun v hj_27 ls hl => ?_) (fun K_27 => ?_)
  · have hl : lv_has ls 4 [(0, .ref h0), (1, .int x0), (2, .int y0)] := hl
    refine goT (runTS [.int v] 1 rfl (rest := []) hx hb hml hown hg (c_X_right l hfl v) k_237 k_238 k_1 k_239 (by decide +kernel) hl.1 rfl rfl ⟨Nat.le_of_ble_eq_true rfl, Nat.le_of_ble_eq_true rfl⟩ rfl (Nat.le_of_ble_eq_true rfl) ⟨Nat.le_of_ble_eq_true rfl, Nat.le_of_ble_eq_true rfl⟩ d_X_shade_27 (fun U hU hW => ⟨rfl, exw_S hS hAs hU hW.alike hex⟩) (fun a U g mk q => ⟨q.1, exw_call q.2⟩)) (fun vv st t L hst hW0 hW hL hq => ?_) (fun x st t L hst hW0 hW hL hq => ?_)
    · obtain ⟨hq1, -, hF⟩ := hq
      rcases hq1 with ⟨w, hw, hq2, hq3⟩ | ⟨x, ce, hw, -⟩
      · cases hw
        subst hq2
        have hS := S_F hS hst hF (fun _ _ h => h.elim) (fun q h => (hL q h).elim)
        generalize t.heap = H at hS ⊢
        refine W.eq (g2 := F0 m 30 ls []) rfl ?_
        have hC : SHC x0 y0 := Classical.byContradiction (fun z => hq3 (hj_27.elim (fun g => absurd g.1 z) (fun g => g.2)))
        refine lv_iload_n hx hb d_X_shade_30 rfl (lv_at hl 1 rfl) ?_
        refine lv_iload_n hx hb d_X_shade_31 rfl (lv_at hl 2 rfl) ?_
        refine lv_imul hx hb d_X_shade_32 ?_
        refine lv_sipush (v := 128) hx hb d_X_shade_33 (by decide) ?_
        refine lv_iadd hx hb d_X_shade_36 ?_
        refine lv_topi (fun v_37 e_37 => ?_)
        refine lv_istore_n (lv' := [(3, .int v_37), (0, .ref h0), (1, .int x0), (2, .int y0)]) hx hb d_X_shade_37 rfl hl (by decide) rfl (fun ls hl => ?_)
        refine lv_iload_n hx hb d_X_shade_38 rfl (lv_at hl 0 rfl) ?_
        refine lv_iload_n hx hb d_X_shade_39 rfl (lv_at hl 0 rfl) ?_
        refine lv_bipush (v := 8) hx hb d_X_shade_40 (by decide) ?_
        refine lv_ishr hx hb d_X_shade_42 ?_
        refine lv_iadd hx hb d_X_shade_43 ?_
        refine lv_bipush (v := 8) hx hb d_X_shade_44 (by decide) ?_
        refine lv_ishr hx hb d_X_shade_46 ?_
        exact rtT_i hx hb hr hlk ⟨Nat.le_of_ble_eq_true rfl, Nat.le_of_ble_eq_true rfl⟩ hS (fun _ _ _ => trivial) d_X_shade_47 ⟨_, rfl, hC, sh_x hC e_37⟩
      · cases hw
    · exact onQ hlk htab ⟨Nat.le_of_ble_eq_true rfl, Nat.le_of_ble_eq_true rfl⟩ hS hst hW0 hq (fun _ _ h => h.elim) (fun q h => (hL q h).elim) (fun _ _ _ => trivial) (fun g => hj_27.elim (fun q => absurd g (by rw [q.2]; decide)) (fun q => q.1))
  · refine lv_if_lt (tgt := 26) hx hb d_X_shade_1 (by decide) (fun c_1 => ?_) (fun c_1 => ?_)
    · refine lv_iconst (v := 0) hx hb d_X_shade_26 (by decide) ?_
      exact K_27 _ (Or.inr ⟨fun q => Int32.not_lt.mpr q.1 c_1, rfl⟩) ls (lv_sub hl [0, 1, 2] rfl)
    · refine lv_iload_n hx hb d_X_shade_4 rfl (lv_at hl 1 rfl) ?_
      refine lv_sipush (v := 255) hx hb d_X_shade_5 (by decide) ?_
      refine lv_icmp_gt (tgt := 26) hx hb d_X_shade_8 (by decide) (fun c_8 => ?_) (fun c_8 => ?_)
      · refine lv_iconst (v := 0) hx hb d_X_shade_26 (by decide) ?_
        exact K_27 _ (Or.inr ⟨fun q => Int32.not_lt.mpr q.2.1 c_8, rfl⟩) ls (lv_sub hl [0, 1, 2] rfl)
      · refine lv_iload_n hx hb d_X_shade_11 rfl (lv_at hl 2 rfl) ?_
        refine lv_if_lt (tgt := 26) hx hb d_X_shade_12 (by decide) (fun c_12 => ?_) (fun c_12 => ?_)
        · refine lv_iconst (v := 0) hx hb d_X_shade_26 (by decide) ?_
          exact K_27 _ (Or.inr ⟨fun q => Int32.not_lt.mpr q.2.2.1 c_12, rfl⟩) ls (lv_sub hl [0, 1, 2] rfl)
        · refine lv_iload_n hx hb d_X_shade_15 rfl (lv_at hl 2 rfl) ?_
          refine lv_sipush (v := 255) hx hb d_X_shade_16 (by decide) ?_
          refine lv_icmp_gt (tgt := 26) hx hb d_X_shade_19 (by decide) (fun c_19 => ?_) (fun c_19 => ?_)
          · refine lv_iconst (v := 0) hx hb d_X_shade_26 (by decide) ?_
            exact K_27 _ (Or.inr ⟨fun q => Int32.not_lt.mpr q.2.2.2 c_19, rfl⟩) ls (lv_sub hl [0, 1, 2] rfl)
          · refine lv_iconst (v := 1) hx hb d_X_shade_22 (by decide) ?_
            refine lv_goto (tgt := 27) hx hb d_X_shade_23 (by decide) ?_
            exact K_27 _ (Or.inl ⟨⟨Int32.not_lt.mp c_1, Int32.not_lt.mp c_8, Int32.not_lt.mp c_12, Int32.not_lt.mp c_19⟩, rfl⟩) ls (lv_sub hl [0, 1, 2] rfl)
set_option maxHeartbeats 4000000 in
set_option maxRecDepth 100000 in
theorem c_X_ratio (l : Launch) (hfl : l.flags = flags0) (D : va_G) (h1 sz : Nat) (v1 v2 : Value) (h0 : Nat) (a : Int64) (b : Int64) (c0 : Int64) : MetT l y_X_ratio w_X_ratio ({ frames := 6, cells := 1, slots := 6, locals := 115 } : Room) (va_Pc [.ref h0, .long a, .long b, .long c0] (X_B D h0 h1 v1 v2 sz)) (TQ nAE (X_E D h1) (XA h1 sz) (fun v => ∃ r : Int64, v = some (.long r) ∧ ¬ c0 = 0 ∧ FD (a.toInt * b.toInt) c0.toInt r.toInt) (OUT a b c0)) 1 6 (XA h1 sz) := by
  refine pmT (y := y_X_ratio) (cc := b_X_ratio) (maxL := 17) (ret := (some .long)) (rm := ({ frames := 6, cells := 1, slots := 6, locals := 115 } : Room)) [.ref h0, .long a, .long b, .long c0] (by decide +kernel) (Nat.le_of_ble_eq_true rfl) (fun p e s m below meth c ls hx hb hr hml hown hg hlk htab hB hl => ?_)
  have hl : lv_has ls 17 [(0, .ref h0), (1, .long a), (3, .long b), (5, .long c0)] := hl
  obtain ⟨hsz, hPo, hP, hne, hK, hex, hnq, hnf⟩ := hB
  subst hsz
  have hP0 := hP
  have hS : va_S (XA h1 s.heap.size) s.heap s.heap [] := va_S.rf
  have hD : va_D (XA h1 s.heap.size) (Dw h1 v1 v2) := w1_D (Or.inl rfl)
  have hA : ∀ q, s.heap.size ≤ q → XA h1 s.heap.size q := fun q h => Or.inr h
  have hAs := XA_s hP0
  refine lv_lload_n hx hb d_X_ratio_0 rfl (lv_at hl 1 rfl) ?_
  refine lv_lconst (v := 0) hx hb d_X_ratio_1 (by decide) ?_
  refine jn1 (α1 := Int32) 11 17 (fun s1 => s1 = if 0 ≤ a then 0 else 1) (fun s1 => [(0, .ref h0), (1, .long a), (3, .long b), (5, .long c0)]) (fun s1 => [.int s1]) (fun s1 hj_11 ls hl => ?_) (fun K_11 => ?_)
  · have hl : lv_has ls 17 [(0, .ref h0), (1, .long a), (3, .long b), (5, .long c0)] := hl
    refine lv_lload_n hx hb d_X_ratio_11 rfl (lv_at hl 2 rfl) ?_
    refine lv_lconst (v := 0) hx hb d_X_ratio_12 (by decide) ?_
    refine jn1 (α1 := Int32) 22 17 (fun s2 => s2 = if 0 ≤ b then 0 else 1) (fun s2 => [(0, .ref h0), (1, .long a), (3, .long b), (5, .long c0)]) (fun s2 => [.int s2, .int s1]) (fun s2 hj_22 ls hl => ?_) (fun K_22 => ?_)
    · have hl : lv_has ls 17 [(0, .ref h0), (1, .long a), (3, .long b), (5, .long c0)] := hl
      refine jn1 (α1 := Int32) 30 17 (fun sx => sx = if (0 ≤ a ↔ 0 ≤ b) then 0 else 1) (fun sx => [(0, .ref h0), (1, .long a), (3, .long b), (5, .long c0)]) (fun sx => [.int sx]) (fun sx hj_30 ls hl => ?_) (fun K_30 => ?_)
      · have hl : lv_has ls 17 [(0, .ref h0), (1, .long a), (3, .long b), (5, .long c0)] := hl
        refine lv_lload hx hb d_X_ratio_30 (lv_at hl 3 rfl) ?_
        refine lv_lconst (v := 0) hx hb d_X_ratio_32 (by decide) ?_
        refine jn1 (α1 := Int32) 42 17 (fun s3 => s3 = if 0 ≤ c0 then 0 else 1) (fun s3 => [(0, .ref h0), (1, .long a), (3, .long b), (5, .long c0)]) (fun s3 => [.int s3, .int sx]) (fun s3 hj_42 ls hl => ?_) (fun K_42 => ?_)
        · have hl : lv_has ls 17 [(0, .ref h0), (1, .long a), (3, .long b), (5, .long c0)] := hl
          refine jn1 (α1 := Int32) 50 17 (fun mn => (mn = 0 ∧ SG a b c0) ∨ (mn = 1 ∧ ¬ SG a b c0)) (fun mn => [(0, .ref h0), (1, .long a), (3, .long b), (5, .long c0)]) (fun mn => [.int mn]) (fun mn hj_50 ls hl => ?_) (fun K_50 => ?_)
          · have hl : lv_has ls 17 [(0, .ref h0), (1, .long a), (3, .long b), (5, .long c0)] := hl
            refine lv_istore (lv' := [(7, .int mn), (0, .ref h0), (1, .long a), (3, .long b), (5, .long c0)]) hx hb d_X_ratio_50 hl (by decide) rfl (fun ls hl => ?_)
            refine lv_lload_n hx hb d_X_ratio_52 rfl (lv_at hl 2 rfl) ?_
            refine cs_l [.long a] 1 rfl (rest := []) hx hb hml hown hg (c_X_size l a) k_104 k_105 k_1 k_106 (by decide +kernel) hl.1 rfl rfl ⟨Nat.le_of_ble_eq_true rfl, Nat.le_of_ble_eq_true rfl⟩ rfl (Nat.le_of_ble_eq_true rfl) ⟨Nat.zero_le _, Nat.zero_le _⟩ d_X_ratio_53 (fun r_53 h_53 => ?_)
            refine lv_lstore (lv' := [(8, .long r_53), (7, .int mn), (0, .ref h0), (1, .long a), (3, .long b), (5, .long c0)]) hx hb d_X_ratio_56 hl (by decide) rfl (fun ls hl => ?_)
            refine lv_lload_n hx hb d_X_ratio_58 rfl (lv_at hl 4 rfl) ?_
            refine cs_l [.long b] 1 rfl (rest := []) hx hb hml hown hg (c_X_size l b) k_104 k_105 k_1 k_106 (by decide +kernel) hl.1 rfl rfl ⟨Nat.le_of_ble_eq_true rfl, Nat.le_of_ble_eq_true rfl⟩ rfl (Nat.le_of_ble_eq_true rfl) ⟨Nat.zero_le _, Nat.zero_le _⟩ d_X_ratio_59 (fun r_59 h_59 => ?_)
            refine lv_lstore (lv' := [(10, .long r_59), (8, .long r_53), (7, .int mn), (0, .ref h0), (1, .long a), (3, .long b), (5, .long c0)]) hx hb d_X_ratio_62 hl (by decide) rfl (fun ls hl => ?_)
            refine lv_lload hx hb d_X_ratio_64 (lv_at hl 6 rfl) ?_
            refine cs_l [.long c0] 1 rfl (rest := []) hx hb hml hown hg (c_X_size l c0) k_104 k_105 k_1 k_106 (by decide +kernel) hl.1 rfl rfl ⟨Nat.le_of_ble_eq_true rfl, Nat.le_of_ble_eq_true rfl⟩ rfl (Nat.le_of_ble_eq_true rfl) ⟨Nat.zero_le _, Nat.zero_le _⟩ d_X_ratio_66 (fun r_66 h_66 => ?_)
            refine lv_lstore (lv' := [(12, .long r_66), (10, .long r_59), (8, .long r_53), (7, .int mn), (0, .ref h0), (1, .long a), (3, .long b), (5, .long c0)]) hx hb d_X_ratio_69 hl (by decide) rfl (fun ls hl => ?_)
            refine lv_lload hx hb d_X_ratio_71 (lv_at hl 7 rfl) ?_
            refine lv_lconst (v := 0) hx hb d_X_ratio_73 (by decide) ?_
            refine rl_eq (tgt := 93) hx hb d_X_ratio_74 d_X_ratio_75 (by decide) (fun c_74 => ?_) (fun c_74 => ?_)
            · exact thT (nm := nAE) (ix := 69) (ic := 71) hfl hx hb hml hown hg hlk htab hex hAs hS a_AE (by decide +kernel) k_199 k_112 k_10 hl.1 ⟨Nat.le_of_ble_eq_true rfl, Nat.le_of_ble_eq_true rfl⟩ ⟨Nat.le_of_ble_eq_true rfl, Nat.le_of_ble_eq_true rfl⟩ d_X_ratio_93 d_X_ratio_96 d_X_ratio_97 d_X_ratio_100 (fun U _ hs => sbn_D hs hP0) (Or.inl c_74)
            · refine lv_lload hx hb d_X_ratio_78 (lv_at hl 2 rfl) ?_
              refine lv_lload hx hb d_X_ratio_80 (lv_at hl 1 rfl) ?_
              refine cs_l [.long r_53, .long r_59] 2 rfl (rest := []) hx hb hml hown hg (c_X_upper l r_53 r_59) k_185 k_186 k_1 k_187 (by decide +kernel) hl.1 rfl rfl ⟨Nat.le_of_ble_eq_true rfl, Nat.le_of_ble_eq_true rfl⟩ rfl (Nat.le_of_ble_eq_true rfl) ⟨Nat.zero_le _, Nat.zero_le _⟩ d_X_ratio_82 (fun r_82 h_82 => ?_)
              refine lv_lload hx hb d_X_ratio_85 (lv_at hl 0 rfl) ?_
              refine cs_i [.long r_82, .long r_66] 2 rfl (rest := []) hx hb hml hown hg (c_J_cu l r_82 r_66) k_192 k_193 k_5 k_194 (by decide +kernel) hl.1 rfl rfl ⟨Nat.le_of_ble_eq_true rfl, Nat.le_of_ble_eq_true rfl⟩ rfl (Nat.le_of_ble_eq_true rfl) ⟨Nat.zero_le _, Nat.zero_le _⟩ d_X_ratio_87 (fun r_87 h_87 => ?_)
              refine lv_if_lt (tgt := 101) hx hb d_X_ratio_90 (by decide) (fun c_90 => ?_) (fun c_90 => ?_)
              · have hH := (cu_lt h_87).mp c_90
                refine lv_aload_n hx hb d_X_ratio_101 rfl (lv_at hl 4 rfl) ?_
                refine va_get (D := D) (ci := 0) (C := "FixedNumbers") (T := F_X) (N := 1) hx hb hg i_X hown hK (Xo_keep hPo hne hS) 0 rfl rfl 0 (by decide) (hg _ k_36) (fun _ h => h) rfl d_X_ratio_102 ?_
                refine lv_lload hx hb d_X_ratio_105 (lv_at hl 2 rfl) ?_
                refine lv_lload hx hb d_X_ratio_107 (lv_at hl 1 rfl) ?_
                refine cs_l [.long r_53, .long r_59] 2 rfl (rest := [.ref h1]) hx hb hml hown hg (c_X_upper l r_53 r_59) k_185 k_186 k_1 k_187 (by decide +kernel) hl.1 rfl rfl ⟨Nat.le_of_ble_eq_true rfl, Nat.le_of_ble_eq_true rfl⟩ rfl (Nat.le_of_ble_eq_true rfl) ⟨Nat.zero_le _, Nat.zero_le _⟩ d_X_ratio_109 (fun r_109 h_109 => ?_)
                refine lv_lload hx hb d_X_ratio_112 (lv_at hl 2 rfl) ?_
                refine lv_lload hx hb d_X_ratio_114 (lv_at hl 1 rfl) ?_
                refine lv_lmul hx hb d_X_ratio_116 ?_
                refine lv_lload hx hb d_X_ratio_117 (lv_at hl 0 rfl) ?_
                have hH2 : uN r_109 < uN r_66 := by rw [h_109, ← h_82]; exact hH
                refine cd_v [.long r_109, .long (r_53 * r_59), .long r_66] 3 rfl (rest := []) hx hb hml hown hg hK hP hD hS hA (c_D_divide l D h1 _ v1 v2 r_109 (r_53 * r_59) r_66 hH2) k_210 k_211 k_212 k_213 (by decide +kernel) hl.1 rfl rfl ⟨Nat.le_of_ble_eq_true rfl, Nat.le_of_ble_eq_true rfl⟩ rfl (Nat.le_of_ble_eq_true rfl) ⟨Nat.zero_le _, Nat.zero_le _⟩ d_X_ratio_119 (fun w1 w2 H locs hw1 hP hD hS => ?_)
                obtain ⟨q, f, hw2, hw3, hw4⟩ := hw1
                cases hw2
                rw [low64 h_109 rfl] at hw3 hw4
                refine lv_aload_n hx hb d_X_ratio_122 rfl (lv_at hl 4 rfl) ?_
                refine va_get (D := D) (ci := 0) (C := "FixedNumbers") (T := F_X) (N := 1) hx hb hg i_X hown hK (Xo_keep hPo hne hS) 0 rfl rfl 0 (by decide) (hg _ k_36) (fun _ h => h) rfl d_X_ratio_123 ?_
                refine va_getN (D := D) (ci := 1) (C := "FixedNumbers$Division") (T := F_D) (N := 2) (host := "FixedNumbers") hx hb hg i_D hown hK hP 0 rfl rfl 0 (by decide) (va_Nw.use rfl hnq) (fun _ h => h) rfl d_X_ratio_126 ?_
                refine lv_lstore (lv' := [(14, .long q), (12, .long r_66), (10, .long r_59), (8, .long r_53), (7, .int mn), (0, .ref h0), (1, .long a), (3, .long b), (5, .long c0)]) hx hb d_X_ratio_129 hl (by decide) rfl (fun ls hl => ?_)
                refine lv_iload hx hb d_X_ratio_131 (lv_at hl 4 rfl) ?_
                refine lv_if_ne (tgt := 154) hx hb d_X_ratio_133 (by decide) (fun c_133 => ?_) (fun c_133 => ?_)
                · have hs : ¬ SG a b c0 := (b10 hj_50).2 c_133
                  refine lv_aload_n hx hb d_X_ratio_154 rfl (lv_at hl 5 rfl) ?_
                  refine va_get (D := D) (ci := 0) (C := "FixedNumbers") (T := F_X) (N := 1) hx hb hg i_X hown hK (Xo_keep hPo hne hS) 0 rfl rfl 0 (by decide) (hg _ k_36) (fun _ h => h) rfl d_X_ratio_155 ?_
                  refine va_getN (D := D) (ci := 1) (C := "FixedNumbers$Division") (T := F_D) (N := 2) (host := "FixedNumbers") hx hb hg i_D hown hK hP 0 rfl rfl 1 (by decide) (va_Nw.use rfl hnf) (fun _ h => h) rfl d_X_ratio_158 ?_
                  refine lv_lconst (v := 0) hx hb d_X_ratio_161 (by decide) ?_
                  refine jn1 (α1 := Int32) 171 17 (fun up => (up = 0 ∧ f = 0) ∨ (up = 1 ∧ ¬ f = 0)) (fun up => [(7, .int mn), (14, .long q)]) (fun up => [.int up]) (fun up hj_171 ls hl => ?_) (fun K_171 => ?_)
                  · have hl : lv_has ls 17 [(7, .int mn), (14, .long q)] := hl
                    refine lv_istore (lv' := [(16, .int up), (7, .int mn), (14, .long q)]) hx hb d_X_ratio_171 hl (by decide) rfl (fun ls hl => ?_)
                    refine lv_lload hx hb d_X_ratio_173 (lv_at hl 2 rfl) ?_
                    refine lv_ldc2 (v := -9223372036854775808) hx hb hown (hg _ k_228) d_X_ratio_175 ?_
                    refine cs_i [.long q, .long (-9223372036854775808)] 2 rfl (rest := []) hx hb hml hown hg (c_J_cu l q (-9223372036854775808)) k_192 k_193 k_5 k_194 (by decide +kernel) hl.1 rfl rfl ⟨Nat.le_of_ble_eq_true rfl, Nat.le_of_ble_eq_true rfl⟩ rfl (Nat.le_of_ble_eq_true rfl) ⟨Nat.zero_le _, Nat.zero_le _⟩ d_X_ratio_178 (fun r_178 h_178 => ?_)
                    have key := rr_neg h_53 h_59 h_66 c_74 hw3 hw4 hs h_178
                    refine lv_if_gt (tgt := 198) hx hb d_X_ratio_181 (by decide) (fun c_181 => ?_) (fun c_181 => ?_)
                    · exact thT (nm := nAE) (ix := 69) (ic := 71) hfl hx hb hml hown hg hlk htab hex hAs hS a_AE (by decide +kernel) k_199 k_112 k_10 hl.1 ⟨Nat.le_of_ble_eq_true rfl, Nat.le_of_ble_eq_true rfl⟩ ⟨Nat.le_of_ble_eq_true rfl, Nat.le_of_ble_eq_true rfl⟩ d_X_ratio_198 d_X_ratio_201 d_X_ratio_202 d_X_ratio_205 (fun U _ hs => sbn_D hs hP0) (key.1 c_181)
                    · refine lv_iload hx hb d_X_ratio_184 (lv_at hl 0 rfl) ?_
                      refine lv_if_eq (tgt := 206) hx hb d_X_ratio_186 (by decide) (fun c_186 => ?_) (fun c_186 => ?_)
                      · refine lv_iload hx hb d_X_ratio_206 (lv_at hl 0 rfl) ?_
                        refine lv_if_eq (tgt := 219) hx hb d_X_ratio_208 (by decide) (fun c_208 => ?_) (fun c_208 => ?_)
                        · refine lv_lload hx hb d_X_ratio_219 (lv_at hl 2 rfl) ?_
                          refine lv_lneg hx hb d_X_ratio_221 ?_
                          exact rtT_l hx hb hr hlk ⟨Nat.le_of_ble_eq_true rfl, Nat.le_of_ble_eq_true rfl⟩ hS (fun t ht _ => ⟨_, _, by rw [ht]; exact hP⟩) d_X_ratio_222 ⟨_, rfl, c_74, key.2.1 c_181 ((b10 hj_171).1 c_186)⟩
                        · exact absurd c_186 c_208
                      · have hf0 := (b10 hj_171).2 c_186
                        refine lv_lload hx hb d_X_ratio_189 (lv_at hl 2 rfl) ?_
                        refine lv_ldc2 (v := -9223372036854775808) hx hb hown (hg _ k_228) d_X_ratio_191 ?_
                        refine rl_ne (tgt := 206) hx hb d_X_ratio_194 d_X_ratio_195 (by decide) (fun c_194 => ?_) (fun c_194 => ?_)
                        · refine lv_iload hx hb d_X_ratio_206 (lv_at hl 0 rfl) ?_
                          refine lv_if_eq (tgt := 219) hx hb d_X_ratio_208 (by decide) (fun c_208 => ?_) (fun c_208 => ?_)
                          · exact absurd c_208 c_186
                          · refine lv_lload hx hb d_X_ratio_211 (lv_at hl 2 rfl) ?_
                            refine lv_lneg hx hb d_X_ratio_213 ?_
                            refine lv_lconst (v := 1) hx hb d_X_ratio_214 (by decide) ?_
                            refine lv_lsub hx hb d_X_ratio_215 ?_
                            refine lv_goto (tgt := 222) hx hb d_X_ratio_216 (by decide) ?_
                            exact rtT_l hx hb hr hlk ⟨Nat.le_of_ble_eq_true rfl, Nat.le_of_ble_eq_true rfl⟩ hS (fun t ht _ => ⟨_, _, by rw [ht]; exact hP⟩) d_X_ratio_222 ⟨_, rfl, c_74, key.2.2.2 c_181 hf0 c_194⟩
                        · exact thT (nm := nAE) (ix := 69) (ic := 71) hfl hx hb hml hown hg hlk htab hex hAs hS a_AE (by decide +kernel) k_199 k_112 k_10 hl.1 ⟨Nat.le_of_ble_eq_true rfl, Nat.le_of_ble_eq_true rfl⟩ ⟨Nat.le_of_ble_eq_true rfl, Nat.le_of_ble_eq_true rfl⟩ d_X_ratio_198 d_X_ratio_201 d_X_ratio_202 d_X_ratio_205 (fun U _ hs => sbn_D hs hP0) (key.2.2.1 hf0 c_194)
                  · refine rl_eq (tgt := 170) hx hb d_X_ratio_162 d_X_ratio_163 (by decide) (fun c_162 => ?_) (fun c_162 => ?_)
                    · refine lv_iconst (v := 0) hx hb d_X_ratio_170 (by decide) ?_
                      exact K_171 _ (Or.inl ⟨rfl, c_162⟩) ls (lv_sub hl [4, 0] rfl)
                    · refine lv_iconst (v := 1) hx hb d_X_ratio_166 (by decide) ?_
                      refine lv_goto (tgt := 171) hx hb d_X_ratio_167 (by decide) ?_
                      exact K_171 _ (Or.inr ⟨rfl, c_162⟩) ls (lv_sub hl [4, 0] rfl)
                · have key := rr_pos h_53 h_59 h_66 c_74 hw3 ((b10 hj_50).1 c_133)
                  refine lv_lload hx hb d_X_ratio_136 (lv_at hl 0 rfl) ?_
                  refine lv_lconst (v := 0) hx hb d_X_ratio_138 (by decide) ?_
                  refine rl_ge (tgt := 151) hx hb d_X_ratio_139 d_X_ratio_140 (by decide) (fun c_139 => ?_) (fun c_139 => ?_)
                  · refine lv_lload hx hb d_X_ratio_151 (lv_at hl 0 rfl) ?_
                    exact rtT_l hx hb hr hlk ⟨Nat.le_of_ble_eq_true rfl, Nat.le_of_ble_eq_true rfl⟩ hS (fun t ht _ => ⟨_, _, by rw [ht]; exact hP⟩) d_X_ratio_153 ⟨_, rfl, c_74, key.1 c_139⟩
                  · exact thT (nm := nAE) (ix := 69) (ic := 71) hfl hx hb hml hown hg hlk htab hex hAs hS a_AE (by decide +kernel) k_199 k_112 k_10 hl.1 ⟨Nat.le_of_ble_eq_true rfl, Nat.le_of_ble_eq_true rfl⟩ ⟨Nat.le_of_ble_eq_true rfl, Nat.le_of_ble_eq_true rfl⟩ d_X_ratio_143 d_X_ratio_146 d_X_ratio_147 d_X_ratio_150 (fun U _ hs => sbn_D hs hP0) (key.2 c_139)
              · exact thT (nm := nAE) (ix := 69) (ic := 71) hfl hx hb hml hown hg hlk htab hex hAs hS a_AE (by decide +kernel) k_199 k_112 k_10 hl.1 ⟨Nat.le_of_ble_eq_true rfl, Nat.le_of_ble_eq_true rfl⟩ ⟨Nat.le_of_ble_eq_true rfl, Nat.le_of_ble_eq_true rfl⟩ d_X_ratio_93 d_X_ratio_96 d_X_ratio_97 d_X_ratio_100 (fun U _ hs => sbn_D hs hP0) (rr_hi h_53 h_59 h_66 c_74 h_82 (fun z => c_90 ((cu_lt h_87).mpr z)))
          · refine lv_icmp_eq (tgt := 49) hx hb d_X_ratio_42 (by decide) (fun c_42 => ?_) (fun c_42 => ?_)
            · refine lv_iconst (v := 0) hx hb d_X_ratio_49 (by decide) ?_
              exact K_50 _ (Or.inl ⟨rfl, (sg_x hj_30 hj_42).1 c_42⟩) ls (lv_sub hl [0, 1, 2, 3] rfl)
            · refine lv_iconst (v := 1) hx hb d_X_ratio_45 (by decide) ?_
              refine lv_goto (tgt := 50) hx hb d_X_ratio_46 (by decide) ?_
              exact K_50 _ (Or.inr ⟨rfl, (sg_x hj_30 hj_42).2 c_42⟩) ls (lv_sub hl [0, 1, 2, 3] rfl)
        · refine rl_ge (tgt := 41) hx hb d_X_ratio_33 d_X_ratio_34 (by decide) (fun c_33 => ?_) (fun c_33 => ?_)
          · refine lv_iconst (v := 0) hx hb d_X_ratio_41 (by decide) ?_
            exact K_42 _ (by rw [if_pos c_33]) ls (lv_sub hl [0, 1, 2, 3] rfl)
          · refine lv_iconst (v := 1) hx hb d_X_ratio_37 (by decide) ?_
            refine lv_goto (tgt := 42) hx hb d_X_ratio_38 (by decide) ?_
            exact K_42 _ (by rw [if_neg c_33]) ls (lv_sub hl [0, 1, 2, 3] rfl)
      · refine lv_icmp_eq (tgt := 29) hx hb d_X_ratio_22 (by decide) (fun c_22 => ?_) (fun c_22 => ?_)
        · refine lv_iconst (v := 0) hx hb d_X_ratio_29 (by decide) ?_
          exact K_30 _ (by rw [if_pos (s01 hj_11 hj_22 c_22)]) ls (lv_sub hl [0, 1, 2, 3] rfl)
        · refine lv_iconst (v := 1) hx hb d_X_ratio_25 (by decide) ?_
          refine lv_goto (tgt := 30) hx hb d_X_ratio_26 (by decide) ?_
          exact K_30 _ (by rw [if_neg (s01n hj_11 hj_22 c_22)]) ls (lv_sub hl [0, 1, 2, 3] rfl)
    · refine rl_ge (tgt := 21) hx hb d_X_ratio_13 d_X_ratio_14 (by decide) (fun c_13 => ?_) (fun c_13 => ?_)
      · refine lv_iconst (v := 0) hx hb d_X_ratio_21 (by decide) ?_
        exact K_22 _ (by rw [if_pos c_13]) ls (lv_sub hl [0, 1, 2, 3] rfl)
      · refine lv_iconst (v := 1) hx hb d_X_ratio_17 (by decide) ?_
        refine lv_goto (tgt := 22) hx hb d_X_ratio_18 (by decide) ?_
        exact K_22 _ (by rw [if_neg c_13]) ls (lv_sub hl [0, 1, 2, 3] rfl)
  · refine rl_ge (tgt := 10) hx hb d_X_ratio_2 d_X_ratio_3 (by decide) (fun c_2 => ?_) (fun c_2 => ?_)
    · refine lv_iconst (v := 0) hx hb d_X_ratio_10 (by decide) ?_
      exact K_11 _ (by rw [if_pos c_2]) ls (lv_sub hl [0, 1, 2, 3] rfl)
    · refine lv_iconst (v := 1) hx hb d_X_ratio_6 (by decide) ?_
      refine lv_goto (tgt := 11) hx hb d_X_ratio_7 (by decide) ?_
      exact K_11 _ (by rw [if_neg c_2]) ls (lv_sub hl [0, 1, 2, 3] rfl)
set_option maxHeartbeats 4000000 in
set_option maxRecDepth 100000 in
theorem c_X_between (l : Launch) (hfl : l.flags = flags0) (D : va_G) (h1 sz : Nat) (v1 v2 : Value) (h0 : Nat) (a : Int32) (b : Int32) (n : Int64) (d0 : Int64) : MetT l y_X_between w_X_between ({ frames := 7, cells := 2, slots := 12, locals := 151 } : Room) (va_Pc [.ref h0, .int a, .int b, .long n, .long d0] (X_B D h0 h1 v1 v2 sz)) (TQ nIA (X_E D h1) (XA h1 sz) (fun v => ∃ r : Int32, v = some (.int r) ∧ BC n d0 ∧ ∃ w : Int64, FD ((b.toInt - a.toInt) * n.toInt) d0.toInt w.toInt ∧ r = Int64.toInt32 (Int32.toInt64 a + w)) (¬ BC n d0)) 2 12 (XA h1 sz) := by
  refine pmT (y := y_X_between) (cc := b_X_between) (maxL := 7) (ret := (some .int)) (rm := ({ frames := 7, cells := 2, slots := 12, locals := 151 } : Room)) [.ref h0, .int a, .int b, .long n, .long d0] (by decide +kernel) (Nat.le_of_ble_eq_true rfl) (fun p e s m below meth c ls hx hb hr hml hown hg hlk htab hB hl => ?_)
  have hl : lv_has ls 7 [(0, .ref h0), (1, .int a), (2, .int b), (3, .long n), (5, .long d0)] := hl
  obtain ⟨hsz, hPo, hP, hne, hK, hex, hnq, hnf⟩ := hB
  subst hsz
  have hP0 := hP
  have hS : va_S (XA h1 s.heap.size) s.heap s.heap [] := va_S.rf
  have hD : va_D (XA h1 s.heap.size) (Dw h1 v1 v2) := w1_D (Or.inl rfl)
  have hA : ∀ q, s.heap.size ≤ q → XA h1 s.heap.size q := fun q h => Or.inr h
  have hAs := XA_s hP0
  refine lv_lload hx hb d_X_between_0 (lv_at hl 4 rfl) ?_
  refine lv_lconst (v := 0) hx hb d_X_between_2 (by decide) ?_
  refine jn1 (α1 := Int32) 25 7 (fun v => (BC n d0 ∧ v = 1) ∨ (¬ BC n d0 ∧ v = 0)) (fun v => [(0, .ref h0), (1, .int a), (2, .int b), (3, .long n), (5, .long d0)]) (fun v => [.int v]) (fun v hj_25 ls hl => ?_) (fun K_25 => ?_)
  · have hl : lv_has ls 7 [(0, .ref h0), (1, .int a), (2, .int b), (3, .long n), (5, .long d0)] := hl
    refine goT (runTS [.int v] 1 rfl (rest := []) hx hb hml hown hg (c_X_right l hfl v) k_237 k_238 k_1 k_239 (by decide +kernel) hl.1 rfl rfl ⟨Nat.le_of_ble_eq_true rfl, Nat.le_of_ble_eq_true rfl⟩ rfl (Nat.le_of_ble_eq_true rfl) ⟨Nat.le_of_ble_eq_true rfl, Nat.le_of_ble_eq_true rfl⟩ d_X_between_25 (fun U hU hW => ⟨rfl, exw_S hS hAs hU hW.alike hex⟩) (fun a U g mk q => ⟨q.1, exw_call q.2⟩)) (fun vv st t L hst hW0 hW hL hq => ?_) (fun x st t L hst hW0 hW hL hq => ?_)
    · obtain ⟨hq1, -, hF⟩ := hq
      rcases hq1 with ⟨w, hw, hq2, hq3⟩ | ⟨x, ce, hw, -⟩
      · cases hw
        subst hq2
        have hP := P_F hP hst hF
        have hS := S_F hS hst hF (fun _ _ h => h.elim) (fun q h => (hL q h).elim)
        generalize t.heap = H at hP hS ⊢
        refine W.eq (g2 := F0 m 28 ls []) rfl ?_
        have hC : BC n d0 := Classical.byContradiction (fun z => hq3 (hj_25.elim (fun g => absurd g.1 z) (fun g => g.2)))
        refine lv_iload_n hx hb d_X_between_28 rfl (lv_at hl 1 rfl) ?_
        refine lv_i2l hx hb d_X_between_29 rfl ?_
        refine lv_aload_n hx hb d_X_between_30 rfl (lv_at hl 0 rfl) ?_
        refine lv_iload_n hx hb d_X_between_31 rfl (lv_at hl 2 rfl) ?_
        refine lv_i2l hx hb d_X_between_32 rfl ?_
        refine lv_iload_n hx hb d_X_between_33 rfl (lv_at hl 1 rfl) ?_
        refine lv_i2l hx hb d_X_between_34 rfl ?_
        refine lv_lsub hx hb d_X_between_35 ?_
        refine lv_lload_n hx hb d_X_between_36 rfl (lv_at hl 3 rfl) ?_
        refine lv_lload hx hb d_X_between_37 (lv_at hl 4 rfl) ?_
        have hPo1 := Xo_keep hPo hne hS
        refine goT (runTV [.long (Int32.toInt64 b - Int32.toInt64 a), .long n, .long d0] 3 rfl (b := h0) (C := "FixedNumbers") (rest := [.long (Int32.toInt64 a)]) hx hb hml hown hg (c_X_ratio l hfl D h1 H.size v1 v2 h0 (Int32.toInt64 b - Int32.toInt64 a) n d0) (va_recv hK hPo1 (ci := 0) (q0 := 0) rfl rfl) k_255 k_182 k_183 k_1 k_184 (by decide +kernel) hl.1 rfl rfl ⟨Nat.le_of_ble_eq_true rfl, Nat.le_of_ble_eq_true rfl⟩ rfl (Nat.le_of_ble_eq_true rfl) ⟨Nat.le_of_ble_eq_true rfl, Nat.le_of_ble_eq_true rfl⟩ d_X_between_39 (fun U hU hW => ⟨rfl, by rw [hU], by rw [hU]; exact hPo1, by rw [hU]; exact hP, hne, va_K.moved hW.alike hK, exw_S hS hAs hU hW.alike hex, va_Nw.warmF hW hnq, va_Nw.warmF hW hnf⟩) (fun a U g mk q => ⟨q.1, X_Bcall q.2⟩)) (fun vv st2 t2 L2 hst2 hW2 hW3 hL2 hq9 => ?_) (fun x st2 t2 L2 hst2 hW2 hW3 hL2 hq9 => ?_)
        · obtain ⟨hq1, hEE, hF2⟩ := hq9
          rcases hq1 with ⟨w, hw, r, hq2, -, hq4⟩ | ⟨x, ce, hw, -⟩
          · cases hw
            subst hq2
            rw [bt_x] at hq4
            have hS := S_F hS hst2 hF2 (fun q _ h => h.elim Or.inl (fun h => Or.inr (Nat.le_trans hS.1 h))) (fun q h => (hL2 q h).elim Or.inl (fun h => Or.inr (Nat.le_trans hS.1 h)))
            refine W.eq (g2 := F0 m 42 ls [.long r, .long (Int32.toInt64 a)]) rfl ?_
            refine lv_ladd hx hb d_X_between_42 ?_
            refine lv_l2i hx hb d_X_between_43 rfl ?_
            exact rtT_i hx hb hr hlk ⟨Nat.le_of_ble_eq_true rfl, Nat.le_of_ble_eq_true rfl⟩ hS (fun z hz _ => by obtain ⟨w1, w2, h⟩ := hEE; exact ⟨w1, w2, by rw [hz]; exact h⟩) d_X_between_44 ⟨_, rfl, hC, r, hq4, rfl⟩
          · cases hw
        · obtain ⟨hq1, -, -⟩ := hq9
          rcases hq1 with ⟨w, hw, -⟩ | ⟨x2, ce, -, hw, -⟩
          · cases hw
          · exact absurd hw (bt_no hC)
      · cases hw
    · exact onQ hlk htab ⟨Nat.le_of_ble_eq_true rfl, Nat.le_of_ble_eq_true rfl⟩ hS hst hW0 hq (fun _ _ h => h.elim) (fun q h => (hL q h).elim) (fun z hz _ => ⟨v1, v2, by rw [hz]; exact P_F hP hst hq.2.2⟩) (fun g => hj_25.elim (fun q => absurd g (by rw [q.2]; decide)) (fun q => q.1))
  · refine rl_le (tgt := 24) hx hb d_X_between_3 d_X_between_4 (by decide) (fun c_3 => ?_) (fun c_3 => ?_)
    · refine lv_iconst (v := 0) hx hb d_X_between_24 (by decide) ?_
      exact K_25 _ (Or.inr ⟨fun q => Int64.not_le.mpr q.1 c_3, rfl⟩) ls (lv_sub hl [0, 1, 2, 3, 4] rfl)
    · refine lv_lload_n hx hb d_X_between_7 rfl (lv_at hl 3 rfl) ?_
      refine lv_lconst (v := 0) hx hb d_X_between_8 (by decide) ?_
      refine rl_lt (tgt := 24) hx hb d_X_between_9 d_X_between_10 (by decide) (fun c_9 => ?_) (fun c_9 => ?_)
      · refine lv_iconst (v := 0) hx hb d_X_between_24 (by decide) ?_
        exact K_25 _ (Or.inr ⟨fun q => Int64.not_lt.mpr q.2.1 c_9, rfl⟩) ls (lv_sub hl [0, 1, 2, 3, 4] rfl)
      · refine lv_lload_n hx hb d_X_between_13 rfl (lv_at hl 3 rfl) ?_
        refine lv_lload hx hb d_X_between_14 (lv_at hl 4 rfl) ?_
        refine rl_gt (tgt := 24) hx hb d_X_between_16 d_X_between_17 (by decide) (fun c_16 => ?_) (fun c_16 => ?_)
        · refine lv_iconst (v := 0) hx hb d_X_between_24 (by decide) ?_
          exact K_25 _ (Or.inr ⟨fun q => Int64.not_lt.mpr q.2.2 c_16, rfl⟩) ls (lv_sub hl [0, 1, 2, 3, 4] rfl)
        · refine lv_iconst (v := 1) hx hb d_X_between_20 (by decide) ?_
          refine lv_goto (tgt := 25) hx hb d_X_between_21 (by decide) ?_
          exact K_25 _ (Or.inl ⟨⟨Int64.not_le.mp c_3, Int64.not_lt.mp c_9, Int64.not_lt.mp c_16⟩, rfl⟩) ls (lv_sub hl [0, 1, 2, 3, 4] rfl)
end
section
abbrev nD : Cond := .methodLinkNest "FixedNumbers" 9 y_D_init "FixedNumbers"
def X0_B (D : va_G) (h0 : Nat) (v0 : Value) (sz : Nat) (U : State) : Prop := U.heap.size = sz ∧ va_P D classes [(h0, .inr (0, [v0]))] U.heap ∧ va_K D classes [] U ∧ va_D (fun _ => True) [(h0, .inr (0, [v0]))] ∧ va_Nw nD U
abbrev Xw (h0 h1 : Nat) (v1 v2 : Value) : va_W := [(h0, .inr (0, [.ref h1])), (h1, .inr (1, [v1, v2]))]
set_option maxHeartbeats 4000000 in
set_option maxRecDepth 100000 in
theorem c_X_init (l : Launch) (D : va_G) (h0 sz : Nat) (v0 : Value) : Met l y_X_init w_X_init ({ frames := 2, cells := 1, slots := 2, locals := 32 } : Room) (va_Pc [.ref h0] (X0_B D h0 v0 sz)) (va_Qv (fun _ : Unit => True) (fun _ t => ∃ h1, va_P D classes (Xw h0 h1 (.long 0) (.long 0)) t.heap ∧ va_D (va_A [(h0, .inr (0, [v0]))] sz) (Xw h0 h1 (.long 0) (.long 0))) (va_A [(h0, .inr (0, [v0]))] sz)) 1 2 (va_A [(h0, .inr (0, [v0]))] sz) := by
  refine Met.ofW (cc := b_X_init) (maxL := 1) (ret := none) (by decide) rfl ?_
  intro p e s m args below meth c s₁ B hml hv
  obtain ⟨rfl, hsz, hP, hK, hD0, hn⟩ := hv
  have hx := B.exec
  have hb := B.bytes
  have hr := B.returns
  have hg : ∀ w ∈ lw_gd, w.before [Value.ref h0].toArray s = true := fun w h => atoms_spec (ws := w_X_init) B.pre w (List.mem_cons_of_mem _ h)
  have hown : s.vm.findClass "FixedNumbers" = some m.cls := findClass_of_methodNamed B.named
  have hlocks := B.notSynchronized
  have hin : meth.name = "<init>" := (name_of_methodNamed B.named B.method).1
  subst hsz
  have hD := hD0.self (sz := s.heap.size)
  generalize hAe : va_A [(h0, .inr (0, [v0]))] s.heap.size = A at hD ⊢
  have hA : ∀ q : Nat, s.heap.size ≤ q → A q := fun q h => by rw [← hAe]; exact Or.inr h
  have hS : va_S A s.heap s.heap [] := va_S.rf
  have hl := lv_entry ([.ref h0]) (n := 1) (Nat.le_of_ble_eq_true rfl)
  rw [lg_entry_eq]
  generalize (lg_sl ([.ref h0]) ++ List.replicate (1 - (lg_sl ([.ref h0])).length) Slot.unset).toArray = ls at hl ⊢
  have hl : lv_has ls 1 [(0, .ref h0)] := hl
  refine lv_aload_n hx hb d_X_init_0 rfl (lv_at hl 0 rfl) ?_
  refine W.objInit hx hb hown (hg _ k_18) (hg _ k_19) (hg _ k_20) rfl (by rw [hml]; exact hl.1) rfl d_X_init_1 (Nat.le_of_ble_eq_true rfl) (Nat.le_of_ble_eq_true rfl) ?_
  refine W.eq (g2 := F0 m 4 ls []) rfl ?_
  refine lv_aload_n hx hb d_X_init_4 rfl (lv_at hl 0 rfl) ?_
  refine va_new (ci := 1) (fs := [.long 0, .long 0]) (C := "FixedNumbers$Division") (T := F_D) (N := 2) hx hb hg i_D t_D t_D_ok hown (hg _ k_21) (hg _ k_22) (hg _ k_2) hK hP hD hS hA rfl (fun j hj => by rcases (show j = 0 ∨ j = 1 by omega) with rfl | rfl <;> rfl) (Nat.le_of_ble_eq_true rfl) (Nat.le_of_ble_eq_true rfl) d_X_init_5 (fun h1 H hP hD hS => ?_)
  have hP : va_P D classes [(h0, .inr (0, [v0])), (h1, .inr (1, [.long 0, .long 0]))] H := hP
  have hD : va_D A [(h0, .inr (0, [v0])), (h1, .inr (1, [.long 0, .long 0]))] := hD
  refine lv_dup hx hb d_X_init_8 rfl ?_
  have hPc := hP.sub (ws' := Dw h1 (.long 0) (.long 0)) [1] rfl
  have hDc := hD.sub (ws' := Dw h1 (.long 0) (.long 0)) [1] (by decide) rfl
  have hFc := va_free (wc := Dw h1 (.long 0) (.long 0)) hD hS hA [1] rfl
  refine va_callv (va_runIN (As := []) (rest := [.ref h1, .ref h0]) ⟨hx, hb, hml, hown, hg⟩ (c_D_init l D h1 H.size (.long 0) (.long 0)) ⟨va_cnB 0 hg (gi_w k_25) rfl rfl rfl hn (hg _ k_2) (by decide +kernel) ⟨Nat.le_of_ble_eq_true rfl, Nat.le_of_ble_eq_true rfl⟩, rfl, hg _ k_24⟩ ⟨fun a U g mk q => by obtain ⟨q0, q1, qP, qK, qD⟩ := q; exact ⟨q0, q1, qP, va_K.moved (u := U) (U := U.calling g mk a) (Vm.Alike.refl U.vm) qK, qD⟩, fun U hU hW => ⟨rfl, by rw [hU], by rw [hU]; exact hPc, va_K.moved hW.alike hK, hDc.weaken (fun _ _ _ _ => trivial)⟩⟩ rfl rfl hl.1 rfl (lv_room (Nat.le_of_ble_eq_true rfl)) d_X_init_9 ⟨Nat.le_of_ble_eq_true rfl, Nat.le_of_ble_eq_true rfl⟩) hS (fun q _ h => hFc q h) hFc (fun u t H1 locs ht hvm hw hB hz1 hk1 hS => ?_)
  obtain ⟨hP1, hK1, hD1⟩ := hB
  subst hw
  rw [ht] at hP1
  obtain ⟨hP, hD⟩ := va_join (wr := [(h0, .inr (0, [v0]))]) (w1 := Dw h1 (.long 0) (.long 0)) hP hD [1] [0] rfl rfl (by decide) (by decide) hk1 hFc hP1 hD1
  have hP : va_P D classes [(h0, .inr (0, [v0])), (h1, .inr (1, [.long 0, .long 0]))] H1 := hP
  have hD : va_D A [(h0, .inr (0, [v0])), (h1, .inr (1, [.long 0, .long 0]))] := hD
  refine va_putF (D := D) (ci := 0) (v := .ref h1) (ty := .object "FixedNumbers$Division") (C := "FixedNumbers") (T := F_X) (N := 1) hx hb hg i_X t_X t_X_ok n_X hown hK hP hD hS 0 rfl rfl 0 (by decide) (hg _ k_36) (fun _ h9 => h9) rfl hin rfl (by decide +kernel) rfl rfl (Nat.le_of_ble_eq_true rfl) d_X_init_12 (fun H locs hP hD hS => ?_)
  have hP : va_P D classes (Xw h0 h1 (.long 0) (.long 0)) H := hP
  have hD : va_D A (Xw h0 h1 (.long 0) (.long 0)) := hD
  refine W.widen (k := 1) (n := 2) (Nat.le_of_ble_eq_true rfl) (Nat.le_of_ble_eq_true rfl) ?_
  exact W.vret hx hb hr (fun t ht hW => ⟨⟨(), rfl, trivial, h1, by rw [ht]; exact hP, hD⟩, hS.F ht⟩) hS.2.2 d_X_init_15
end
section
theorem in01 : vp_in 0 1 := (by decide : ¬ ((0 : Int32) < 0 ∨ 1 ≤ (0 : Int32).toNatClampNeg))
theorem pmW {l : Launch} {y : MethodName} {cc : ByteArray} {maxL : Nat} {ret : Option FieldType} {hh : List (Nat × Nat × Nat × Nat)} {rm : Room} {B : State → Prop} {Qc : Array Value → State → Outcome → State → Prop} {mc ms : Nat} {free : Addr → Prop} (av : List Value) (hy : plainFor y = true) (hn : (lg_sl av).length ≤ maxL)
    (body : ∀ (p : Program) (e : Env) (s : State) (m : MethodId) (below : List Frame) (meth : Method) (c : Code) (ls : Array Slot), p.tables.exec = Jvm.exec → c.code = cc → meth.sig.returnType = ret → c.maxLocals = maxL → s.vm.findClass y.cls = some m.cls → (∀ w ∈ lw_gd, w.before av.toArray s = true) → meth.locks = false → c.exceptionTable.toList.map (fun h => (h.startPc, h.endPc, h.handlerPc, h.catchType)) = hh → B s → lv_has ls maxL (lv_args 0 av) →
      W p l e rm s m av.toArray below meth c s.heap [] 0 0 (MQ below Qc av.toArray s mc ms free) (F0 m 0 ls [])) : Met l y (Cond.codeWith y cc maxL ret hh :: lw_gd) rm (va_Pc av B) Qc mc ms free := by
  refine MetFree.of_bodySF (code := cc) (maxLocals := maxL) (ret := ret) hy ?_ ?_
  · intro args s m h hn
    obtain ⟨m9, meth, c, hn9, h1, h2, h3, h4, -, h5, h6, -⟩ := Cond.codeWith_spec (atoms_spec (ws := Cond.codeWith y cc maxL ret hh :: lw_gd) h _ List.mem_cons_self)
    cases hn.symm.trans hn9
    exact ⟨meth, c, h1, h2, h3, h4, h5, h6⟩
  · intro p e s m args below meth c s₁ B0 hml hv _
    obtain ⟨rfl, hB⟩ := hv
    have hts := atoms_spec (ws := Cond.codeWith y cc maxL ret hh :: lw_gd) B0.pre
    have hh0 : s₁.heap = s.heap := by rw [B0.state]; rfl
    have X₀ := Stand.of_body B0
    obtain ⟨m9, meth9, c9, hn9, g1, g2, -, -, g3, -⟩ := Cond.codeWith_spec (hts _ List.mem_cons_self)
    cases B0.named.symm.trans hn9
    cases B0.method.symm.trans g1
    cases X₀.code.symm.trans g2
    have hl := lv_entry av (n := maxL) hn
    have K := body p e s m below meth c _ B0.exec B0.bytes B0.returns hml (findClass_of_methodNamed B0.named) (fun w h => hts w (List.mem_cons_of_mem _ h)) B0.notSynchronized g3 hB hl
    rw [← lg_entry_eq (m := m)] at K
    obtain ⟨t, a1, o, b1, b2, b3⟩ := K s₁ hh0 X₀
    exact ⟨t, o, a1, b1, b2, b3⟩
theorem tab1 {c : Code} {a b d i : Nat} (h : c.exceptionTable.toList.map (fun h => (h.startPc, h.endPc, h.handlerPc, h.catchType)) = [(a, b, d, i)]) : ∃ en, c.exceptionTable.toList = [en] ∧ en.startPc = a ∧ en.endPc = b ∧ en.handlerPc = d ∧ en.catchType = i := by
  cases hc : c.exceptionTable.toList with
  | nil => rw [hc] at h; cases h
  | cons en t =>
    cases t with
    | nil =>
      rw [hc] at h
      simp only [List.map_cons, List.map_nil, List.cons.injEq, and_true, Prod.mk.injEq] at h
      exact ⟨en, rfl, h.1, h.2.1, h.2.2.1, h.2.2.2⟩
    | cons e2 t2 => rw [hc] at h; simp at h
theorem cov1 {en : ExceptionTableEntry} {a b pc : Nat} (h1 : en.startPc = a) (h2 : en.endPc = b) (h3 : a ≤ pc ∧ pc < b) : covers en pc = true := by
  simp [covers, h1, h2, h3]
abbrev Lw (h1 q3 : Nat) (cJ : ClassId) (v1 v2 : Value) (f : Nat → Int64) : va_W := [(h1, .inr (1, [v1, v2])), (q3, .inl (cJ, 1, .inr (.inl f)))]
abbrev Lf : Type := Value × Value × (Nat → Int64)
def L_B (D : va_G) (h0 h1 q3 : Nat) (cJ : ClassId) (v1 v2 : Value) (f : Nat → Int64) (sz : Nat) (U : State) : Prop := U.heap.size = sz ∧ va_P D classes (Xo h0 h1) U.heap ∧ va_P D classes (Lw h1 q3 cJ v1 v2 f) U.heap ∧ ¬ h0 = h1 ∧ ¬ h1 = q3 ∧ va_K D classes [(cJ, .long)] U ∧ exw U ∧ va_Nw nq U ∧ va_Nw nf U
def LA (h1 q3 sz : Nat) : Nat → Prop := fun q => q = h1 ∨ q = q3 ∨ sz ≤ q
def L_at (D : va_G) (h1 q3 : Nat) (cJ : ClassId) (u : Lf) (t : State) : Prop := va_P D classes (Lw h1 q3 cJ u.1 u.2.1 u.2.2) t.heap
theorem w2_D {A : Nat → Prop} {q r : Nat} {x y : va_E} (h1 : A q) (h2 : A r) (hne : ¬ q = r) : va_D A [(q, x), (r, y)] := by
  refine va_D.app (w1 := [(q, x)]) (w2 := [(r, y)]) (w1_D h1) (w1_D h2) (fun i j p u hi hj => ?_)
  have a1 : i < 1 := (List.getElem?_eq_some_iff.mp hi).1
  have a2 : j < 1 := (List.getElem?_eq_some_iff.mp hj).1
  rw [show i = 0 by omega] at hi
  rw [show j = 0 by omega] at hj
  cases hi
  cases hj
  exact hne
theorem one_F {D : va_G} {cl : List vw_C} {q : Nat} {x : va_E} {H : Heap} {st t : State} {A1 : Nat → Prop} (hP : va_P D cl [(q, x)] H) (hst : st.heap = H) (hF : va_F A1 st t) (hn : ¬ A1 q) : va_P D cl [(q, x)] t.heap := by
  refine hP.kept (fun k r hk => ?_)
  have hlt := (hP k r hk).lt
  have h1 : k < 1 := (List.getElem?_eq_some_iff.mp hk).1
  rw [show k = 0 by omega] at hk
  cases hk
  rw [← hst]
  exact hF.2 q (by rw [hst]; exact hlt) hn
theorem L_Bcall {D : va_G} {h0 h1 q3 : Nat} {cJ : ClassId} {v1 v2 : Value} {f : Nat → Int64} {sz : Nat} {U : State} {g : JFrame} {mk : MethodId} {a : Array Value} (h : L_B D h0 h1 q3 cJ v1 v2 f sz U) : L_B D h0 h1 q3 cJ v1 v2 f sz (U.calling g mk a) := by
  obtain ⟨q1, q2, q3, q4, q9, q5, q6, q7, q8⟩ := h
  exact ⟨q1, q2, q3, q4, q9, va_K.moved (u := U) (U := U.calling g mk a) (Vm.Alike.refl U.vm) q5, exw_call q6, va_Nw.same rfl (u := U) rfl q7, va_Nw.same rfl (u := U) rfl q8⟩
theorem LA_s {D : va_G} {h1 q3 : Nat} {cJ : ClassId} {v1 v2 : Value} {f : Nat → Int64} {s : State} (hP : va_P D classes (Lw h1 q3 cJ v1 v2 f) s.heap) (q : Nat) (cell : Cell) (hc : s.heap[q]? = some cell) (hz : cell.vm.isStatics = true) : ¬ LA h1 q3 s.heap.size q := by
  intro z
  rcases z with z | z | z
  · subst z
    obtain ⟨r, hr, ce, g1, g2, g3, g4⟩ := hP 0 _ rfl
    cases hc.symm.trans g1
    rw [g3] at hz
    cases hz
  · subst z
    have g1 : s.heap[q]? = some (vp_cell cJ (1, .inr (.inl f))) := hP 1 _ rfl
    cases hc.symm.trans g1
    cases hz
  · exact absurd (Array.getElem?_eq_some_iff.mp hc).1 (Nat.not_lt.mpr z)
set_option maxHeartbeats 4000000 in
set_option maxRecDepth 100000 in
theorem c_L_ratio (l : Launch) (hfl : l.flags = flags0) (D : va_G) (h0 h1 q3 sz : Nat) (cJ : ClassId) (v1 v2 : Value) (f : Nat → Int64) (a : Int64) (b : Int64) (c0 : Int64) : Met l y_L_ratio w_L_ratio ({ frames := 7, cells := 1, slots := 6, locals := 151 } : Room) (va_Pc [.ref h0, .long a, .long b, .long c0, .ref q3] (L_B D h0 h1 q3 cJ v1 v2 f sz)) (va_Qi (fun (r : Int32) (u : Lf) => (r = 0 ∧ ¬ c0 = 0 ∧ FD (a.toInt * b.toInt) c0.toInt (u.2.2 0).toInt) ∨ (r = 1 ∧ OUT a b c0)) (L_at D h1 q3 cJ) (LA h1 q3 sz)) 1 6 (LA h1 q3 sz) := by
  refine pmW (y := y_L_ratio) (cc := b_L_ratio) (maxL := 9) (ret := (some .int)) (hh := [(0, 12, 15, 13)]) (rm := ({ frames := 7, cells := 1, slots := 6, locals := 151 } : Room)) [.ref h0, .long a, .long b, .long c0, .ref q3] (by decide +kernel) (Nat.le_of_ble_eq_true rfl) (fun p e s m below meth c ls hx hb hr hml hown hg hlk htab hB hl => ?_)
  have hl : lv_has ls 9 [(0, .ref h0), (1, .long a), (3, .long b), (5, .long c0), (7, .ref q3)] := hl
  obtain ⟨hsz, hPo, hP, hne, hne2, hK, hex, hnq, hnf⟩ := hB
  subst hsz
  obtain ⟨en, ht0, ht1, ht2, ht3, ht4⟩ := tab1 htab
  have hK0 : va_K D classes [] s := hK.sub [] rfl
  have hS : va_S (LA h1 q3 s.heap.size) s.heap s.heap [] := va_S.rf
  have hAs := LA_s hP
  have hPD : va_P D classes (Dw h1 v1 v2) s.heap := hP.sub [0] rfl
  have hPa : va_P D classes [(q3, .inl (cJ, 1, .inr (.inl f)))] s.heap := hP.sub [1] rfl
  have hq3 : q3 < s.heap.size := (hP 1 _ rfl).lt
  have hL1 : LA h1 q3 s.heap.size h1 := Or.inl rfl
  have hL2 : LA h1 q3 s.heap.size q3 := Or.inr (Or.inl rfl)
  refine lv_aload hx hb d_L_ratio_0 (lv_at hl 4 rfl) ?_
  refine lv_iconst (v := 0) hx hb d_L_ratio_2 (by decide) ?_
  refine lv_aload_n hx hb d_L_ratio_3 rfl (lv_at hl 0 rfl) ?_
  refine lv_lload_n hx hb d_L_ratio_4 rfl (lv_at hl 1 rfl) ?_
  refine lv_lload_n hx hb d_L_ratio_5 rfl (lv_at hl 2 rfl) ?_
  refine lv_lload hx hb d_L_ratio_6 (lv_at hl 3 rfl) ?_
  refine goT (runTV [.long a, .long b, .long c0] 3 rfl (b := h0) (C := "FixedNumbers") (rest := [.int 0, .ref q3]) hx hb hml hown hg (c_X_ratio l hfl D h1 s.heap.size v1 v2 h0 a b c0) (va_recv hK0 hPo (ci := 0) (q0 := 0) rfl rfl) k_181 k_182 k_183 k_1 k_184 (by decide +kernel) hl.1 rfl rfl ⟨Nat.le_of_ble_eq_true rfl, Nat.le_of_ble_eq_true rfl⟩ rfl (Nat.le_of_ble_eq_true rfl) ⟨Nat.le_of_ble_eq_true rfl, Nat.le_of_ble_eq_true rfl⟩ d_L_ratio_8 (fun U hU hW => ⟨rfl, by rw [hU], by rw [hU]; exact hPo, by rw [hU]; exact hPD, hne, va_K.moved hW.alike hK0, exw_S hS hAs hU hW.alike hex, va_Nw.warmF hW hnq, va_Nw.warmF hW hnf⟩) (fun a U g mk q => ⟨q.1, X_Bcall q.2⟩)) (fun vv st t L hst hW0 hW hL hq => ?_) (fun x st t L hst hW0 hW hL hq => ?_)
  · obtain ⟨hq1, hEE, hF⟩ := hq
    rcases hq1 with ⟨w, hw, r, hq2, hq4⟩ | ⟨x, ce, hw, -⟩
    · cases hw
      subst hq2
      have hS2 := S_F hS hst hF (fun q _ h => h.elim Or.inl (fun h => Or.inr (Or.inr h))) (fun q h => (hL q h).elim Or.inl (fun h => Or.inr (Or.inr h)))
      have hPa2 := one_F hPa hst hF (fun h => h.elim (fun h => hne2 h.symm) (fun h => absurd hq3 (Nat.not_lt.mpr h)))
      obtain ⟨w1, w2, hPD2⟩ := hEE
      have hP2 : va_P D classes (Lw h1 q3 cJ w1 w2 f) t.heap := hPD2.app hPa2
      have hD2 : va_D (LA h1 q3 s.heap.size) (Lw h1 q3 cJ w1 w2 f) := w2_D hL1 hL2 hne2
      refine W.eq (g2 := F0 m 11 ls [.long r, .int 0, .ref q3]) rfl ?_
      refine va_last hx hb hK hP2 hD2 hS2 1 0 rfl rfl in01 d_L_ratio_11 (fun H locs hP3 hD3 hS3 => ?_)
      refine lv_goto (tgt := 19) hx hb d_L_ratio_12 (by decide) ?_
      refine lv_iconst (v := 0) hx hb d_L_ratio_19 (by decide) ?_
      exact W.iret (free := LA h1 q3 s.heap.size) (Qc := va_Qi (fun (r : Int32) (u : Lf) => (r = 0 ∧ ¬ c0 = 0 ∧ FD (a.toInt * b.toInt) c0.toInt (u.2.2 0).toInt) ∨ (r = 1 ∧ OUT a b c0)) (L_at D h1 q3 cJ) (LA h1 q3 s.heap.size)) hx hb hr (fun x ht hW => ⟨⟨0, (w1, w2, vp_updL f (0 : Int32).toNatClampNeg r), rfl, Or.inl ⟨rfl, hq4⟩, by unfold L_at; rw [ht]; exact hP3⟩, hS3.F ht⟩) hS3.2.2 d_L_ratio_20 hlk
    · cases hw
  · obtain ⟨hq1, hEE, hF⟩ := hq
    rcases hq1 with ⟨w, hw, -⟩ | ⟨x2, ce, hw, htp, hxl, hce, hcv, hcc⟩
    · cases hw
    · cases hw
      have hS2 := S_F hS hst hF (fun q _ h => h.elim Or.inl (fun h => Or.inr (Or.inr h))) (fun q h => (hL q h).elim Or.inl (fun h => Or.inr (Or.inr h)))
      have hPa2 := one_F hPa hst hF (fun h => h.elim (fun h => hne2 h.symm) (fun h => absurd hq3 (Nat.not_lt.mpr h)))
      obtain ⟨w1, w2, hPD2⟩ := hEE
      have hP2 : va_P D classes (Lw h1 q3 cJ w1 w2 f) t.heap := hPD2.app hPa2
      have hD2 : va_D (LA h1 q3 s.heap.size) (Lw h1 q3 cJ w1 w2 f) := w2_D hL1 hL2 hne2
      refine cat (own := "FixedNumbersLaw") (cls := nAE) (ix := 13) (hp := 15) ht0 (cov1 ht1 ht2 (by decide)) ht4 (by decide) ht3 hown (hg _ k_111) hce hcv (by rw [← hW0.alike.findClass]; exact hcc) (exw_args hex _ _ (by decide +kernel)) (hg _ k_112) ?_
      refine lv_astore (lv' := [(8, .ref x), (0, .ref h0), (1, .long a), (3, .long b), (5, .long c0), (7, .ref q3)]) hx hb d_L_ratio_15 hl (by decide) rfl (fun ls hl => ?_)
      refine lv_iconst (v := 1) hx hb d_L_ratio_17 (by decide) ?_
      exact W.iret (free := LA h1 q3 s.heap.size) (Qc := va_Qi (fun (r : Int32) (u : Lf) => (r = 0 ∧ ¬ c0 = 0 ∧ FD (a.toInt * b.toInt) c0.toInt (u.2.2 0).toInt) ∨ (r = 1 ∧ OUT a b c0)) (L_at D h1 q3 cJ) (LA h1 q3 s.heap.size)) hx hb hr (fun x ht hW => ⟨⟨1, (w1, w2, f), rfl, Or.inr ⟨rfl, htp⟩, by unfold L_at; rw [ht]; exact hP2⟩, hS2.F ht⟩) hS2.2.2 d_L_ratio_18 hlk
set_option maxHeartbeats 4000000 in
set_option maxRecDepth 100000 in
theorem c_L_between (l : Launch) (hfl : l.flags = flags0) (D : va_G) (h0 h1 q3 sz : Nat) (cJ : ClassId) (v1 v2 : Value) (f : Nat → Int64) (a : Int32) (b : Int32) (n : Int64) (d0 : Int64) : Met l y_L_between w_L_between ({ frames := 8, cells := 2, slots := 12, locals := 177 } : Room) (va_Pc [.ref h0, .int a, .int b, .long n, .long d0, .ref q3] (L_B D h0 h1 q3 cJ v1 v2 f sz)) (va_Qi (fun (r : Int32) (u : Lf) => (r = 0 ∧ BC n d0 ∧ ∃ r : Int32, u.2.2 0 = Int32.toInt64 r ∧ ∃ w : Int64, FD ((b.toInt - a.toInt) * n.toInt) d0.toInt w.toInt ∧ r = Int64.toInt32 (Int32.toInt64 a + w)) ∨ (r = 1 ∧ ¬ BC n d0)) (L_at D h1 q3 cJ) (LA h1 q3 sz)) 2 12 (LA h1 q3 sz) := by
  refine pmW (y := y_L_between) (cc := b_L_between) (maxL := 9) (ret := (some .int)) (hh := [(0, 14, 17, 19)]) (rm := ({ frames := 8, cells := 2, slots := 12, locals := 177 } : Room)) [.ref h0, .int a, .int b, .long n, .long d0, .ref q3] (by decide +kernel) (Nat.le_of_ble_eq_true rfl) (fun p e s m below meth c ls hx hb hr hml hown hg hlk htab hB hl => ?_)
  have hl : lv_has ls 9 [(0, .ref h0), (1, .int a), (2, .int b), (3, .long n), (5, .long d0), (7, .ref q3)] := hl
  obtain ⟨hsz, hPo, hP, hne, hne2, hK, hex, hnq, hnf⟩ := hB
  subst hsz
  obtain ⟨en, ht0, ht1, ht2, ht3, ht4⟩ := tab1 htab
  have hK0 : va_K D classes [] s := hK.sub [] rfl
  have hS : va_S (LA h1 q3 s.heap.size) s.heap s.heap [] := va_S.rf
  have hAs := LA_s hP
  have hPD : va_P D classes (Dw h1 v1 v2) s.heap := hP.sub [0] rfl
  have hPa : va_P D classes [(q3, .inl (cJ, 1, .inr (.inl f)))] s.heap := hP.sub [1] rfl
  have hq3 : q3 < s.heap.size := (hP 1 _ rfl).lt
  have hL1 : LA h1 q3 s.heap.size h1 := Or.inl rfl
  have hL2 : LA h1 q3 s.heap.size q3 := Or.inr (Or.inl rfl)
  refine lv_aload hx hb d_L_between_0 (lv_at hl 5 rfl) ?_
  refine lv_iconst (v := 0) hx hb d_L_between_2 (by decide) ?_
  refine lv_aload_n hx hb d_L_between_3 rfl (lv_at hl 0 rfl) ?_
  refine lv_iload_n hx hb d_L_between_4 rfl (lv_at hl 1 rfl) ?_
  refine lv_iload_n hx hb d_L_between_5 rfl (lv_at hl 2 rfl) ?_
  refine lv_lload_n hx hb d_L_between_6 rfl (lv_at hl 3 rfl) ?_
  refine lv_lload hx hb d_L_between_7 (lv_at hl 4 rfl) ?_
  refine goT (runTV [.int a, .int b, .long n, .long d0] 4 rfl (b := h0) (C := "FixedNumbers") (rest := [.int 0, .ref q3]) hx hb hml hown hg (c_X_between l hfl D h1 s.heap.size v1 v2 h0 a b n d0) (va_recv hK0 hPo (ci := 0) (q0 := 0) rfl rfl) k_233 k_234 k_235 k_1 k_236 (by decide +kernel) hl.1 rfl rfl ⟨Nat.le_of_ble_eq_true rfl, Nat.le_of_ble_eq_true rfl⟩ rfl (Nat.le_of_ble_eq_true rfl) ⟨Nat.le_of_ble_eq_true rfl, Nat.le_of_ble_eq_true rfl⟩ d_L_between_9 (fun U hU hW => ⟨rfl, by rw [hU], by rw [hU]; exact hPo, by rw [hU]; exact hPD, hne, va_K.moved hW.alike hK0, exw_S hS hAs hU hW.alike hex, va_Nw.warmF hW hnq, va_Nw.warmF hW hnf⟩) (fun a U g mk q => ⟨q.1, X_Bcall q.2⟩)) (fun vv st t L hst hW0 hW hL hq => ?_) (fun x st t L hst hW0 hW hL hq => ?_)
  · obtain ⟨hq1, hEE, hF⟩ := hq
    rcases hq1 with ⟨w, hw, r, hq2, hq4⟩ | ⟨x, ce, hw, -⟩
    · cases hw
      subst hq2
      have hS2 := S_F hS hst hF (fun q _ h => h.elim Or.inl (fun h => Or.inr (Or.inr h))) (fun q h => (hL q h).elim Or.inl (fun h => Or.inr (Or.inr h)))
      have hPa2 := one_F hPa hst hF (fun h => h.elim (fun h => hne2 h.symm) (fun h => absurd hq3 (Nat.not_lt.mpr h)))
      obtain ⟨w1, w2, hPD2⟩ := hEE
      have hP2 : va_P D classes (Lw h1 q3 cJ w1 w2 f) t.heap := hPD2.app hPa2
      have hD2 : va_D (LA h1 q3 s.heap.size) (Lw h1 q3 cJ w1 w2 f) := w2_D hL1 hL2 hne2
      refine W.eq (g2 := F0 m 12 ls [.int r, .int 0, .ref q3]) rfl ?_
      refine lv_i2l hx hb d_L_between_12 rfl ?_
      refine va_last hx hb hK hP2 hD2 hS2 1 0 rfl rfl in01 d_L_between_13 (fun H locs hP3 hD3 hS3 => ?_)
      refine lv_goto (tgt := 21) hx hb d_L_between_14 (by decide) ?_
      refine lv_iconst (v := 0) hx hb d_L_between_21 (by decide) ?_
      exact W.iret (free := LA h1 q3 s.heap.size) (Qc := va_Qi (fun (r : Int32) (u : Lf) => (r = 0 ∧ BC n d0 ∧ ∃ r : Int32, u.2.2 0 = Int32.toInt64 r ∧ ∃ w : Int64, FD ((b.toInt - a.toInt) * n.toInt) d0.toInt w.toInt ∧ r = Int64.toInt32 (Int32.toInt64 a + w)) ∨ (r = 1 ∧ ¬ BC n d0)) (L_at D h1 q3 cJ) (LA h1 q3 s.heap.size)) hx hb hr (fun x ht hW => ⟨⟨0, (w1, w2, vp_updL f (0 : Int32).toNatClampNeg (Int32.toInt64 r)), rfl, Or.inl ⟨rfl, hq4.1, r, rfl, hq4.2⟩, by unfold L_at; rw [ht]; exact hP3⟩, hS3.F ht⟩) hS3.2.2 d_L_between_22 hlk
    · cases hw
  · obtain ⟨hq1, hEE, hF⟩ := hq
    rcases hq1 with ⟨w, hw, -⟩ | ⟨x2, ce, hw, htp, hxl, hce, hcv, hcc⟩
    · cases hw
    · cases hw
      have hS2 := S_F hS hst hF (fun q _ h => h.elim Or.inl (fun h => Or.inr (Or.inr h))) (fun q h => (hL q h).elim Or.inl (fun h => Or.inr (Or.inr h)))
      have hPa2 := one_F hPa hst hF (fun h => h.elim (fun h => hne2 h.symm) (fun h => absurd hq3 (Nat.not_lt.mpr h)))
      obtain ⟨w1, w2, hPD2⟩ := hEE
      have hP2 : va_P D classes (Lw h1 q3 cJ w1 w2 f) t.heap := hPD2.app hPa2
      have hD2 : va_D (LA h1 q3 s.heap.size) (Lw h1 q3 cJ w1 w2 f) := w2_D hL1 hL2 hne2
      refine cat (own := "FixedNumbersLaw") (cls := nIA) (ix := 19) (hp := 17) ht0 (cov1 ht1 ht2 (by decide)) ht4 (by decide) ht3 hown (hg _ k_232) hce hcv (by rw [← hW0.alike.findClass]; exact hcc) (exw_args hex _ _ (by decide +kernel)) (hg _ k_241) ?_
      refine lv_astore (lv' := [(8, .ref x), (0, .ref h0), (1, .int a), (2, .int b), (3, .long n), (5, .long d0), (7, .ref q3)]) hx hb d_L_between_17 hl (by decide) rfl (fun ls hl => ?_)
      refine lv_iconst (v := 1) hx hb d_L_between_19 (by decide) ?_
      exact W.iret (free := LA h1 q3 s.heap.size) (Qc := va_Qi (fun (r : Int32) (u : Lf) => (r = 0 ∧ BC n d0 ∧ ∃ r : Int32, u.2.2 0 = Int32.toInt64 r ∧ ∃ w : Int64, FD ((b.toInt - a.toInt) * n.toInt) d0.toInt w.toInt ∧ r = Int64.toInt32 (Int32.toInt64 a + w)) ∨ (r = 1 ∧ ¬ BC n d0)) (L_at D h1 q3 cJ) (LA h1 q3 s.heap.size)) hx hb hr (fun x ht hW => ⟨⟨1, (w1, w2, f), rfl, Or.inr ⟨rfl, htp⟩, by unfold L_at; rw [ht]; exact hP2⟩, hS2.F ht⟩) hS2.2.2 d_L_between_20 hlk
set_option maxHeartbeats 4000000 in
set_option maxRecDepth 100000 in
theorem c_L_fixed (l : Launch) (hfl : l.flags = flags0) (D : va_G) (h0 h1 q3 sz : Nat) (cJ : ClassId) (v1 v2 : Value) (f : Nat → Int64) (c0 : Int32) : Met l y_L_fixed w_L_fixed ({ frames := 8, cells := 1, slots := 6, locals := 122 } : Room) (va_Pc [.ref h0, .int c0, .ref q3] (L_B D h0 h1 q3 cJ v1 v2 f sz)) (va_Qi (fun (r : Int32) (u : Lf) => (r = 0 ∧ FXC c0 ∧ ∃ r : Int32, u.2.2 0 = Int32.toInt64 r ∧ FXP c0 r) ∨ (r = 1 ∧ ¬ FXC c0)) (L_at D h1 q3 cJ) (LA h1 q3 sz)) 1 6 (LA h1 q3 sz) := by
  refine pmW (y := y_L_fixed) (cc := b_L_fixed) (maxL := 4) (ret := (some .int)) (hh := [(0, 9, 12, 19)]) (rm := ({ frames := 8, cells := 1, slots := 6, locals := 122 } : Room)) [.ref h0, .int c0, .ref q3] (by decide +kernel) (Nat.le_of_ble_eq_true rfl) (fun p e s m below meth c ls hx hb hr hml hown hg hlk htab hB hl => ?_)
  have hl : lv_has ls 4 [(0, .ref h0), (1, .int c0), (2, .ref q3)] := hl
  obtain ⟨hsz, hPo, hP, hne, hne2, hK, hex, hnq, hnf⟩ := hB
  subst hsz
  obtain ⟨en, ht0, ht1, ht2, ht3, ht4⟩ := tab1 htab
  have hK0 : va_K D classes [] s := hK.sub [] rfl
  have hS : va_S (LA h1 q3 s.heap.size) s.heap s.heap [] := va_S.rf
  have hAs := LA_s hP
  have hPD : va_P D classes (Dw h1 v1 v2) s.heap := hP.sub [0] rfl
  have hPa : va_P D classes [(q3, .inl (cJ, 1, .inr (.inl f)))] s.heap := hP.sub [1] rfl
  have hq3 : q3 < s.heap.size := (hP 1 _ rfl).lt
  have hL1 : LA h1 q3 s.heap.size h1 := Or.inl rfl
  have hL2 : LA h1 q3 s.heap.size q3 := Or.inr (Or.inl rfl)
  refine lv_aload_n hx hb d_L_fixed_0 rfl (lv_at hl 2 rfl) ?_
  refine lv_iconst (v := 0) hx hb d_L_fixed_1 (by decide) ?_
  refine lv_aload_n hx hb d_L_fixed_2 rfl (lv_at hl 0 rfl) ?_
  refine lv_iload_n hx hb d_L_fixed_3 rfl (lv_at hl 1 rfl) ?_
  refine goT (runTV [.int c0] 1 rfl (b := h0) (C := "FixedNumbers") (rest := [.int 0, .ref q3]) hx hb hml hown hg (c_X_fixed l hfl h0 c0) (va_recv hK0 hPo (ci := 0) (q0 := 0) rfl rfl) k_259 k_260 k_261 k_1 k_262 (by decide +kernel) hl.1 rfl rfl ⟨Nat.le_of_ble_eq_true rfl, Nat.le_of_ble_eq_true rfl⟩ rfl (Nat.le_of_ble_eq_true rfl) ⟨Nat.le_of_ble_eq_true rfl, Nat.le_of_ble_eq_true rfl⟩ d_L_fixed_4 (fun U hU hW => ⟨rfl, exw_S hS hAs hU hW.alike hex⟩) (fun a U g mk q => ⟨q.1, exw_call q.2⟩)) (fun vv st t L hst hW0 hW hL hq => ?_) (fun x st t L hst hW0 hW hL hq => ?_)
  · obtain ⟨hq1, hEE, hF⟩ := hq
    rcases hq1 with ⟨w, hw, r, hq2, hq4⟩ | ⟨x, ce, hw, -⟩
    · cases hw
      subst hq2
      have hS2 := S_F hS hst hF (fun q _ h => h.elim) (fun q h => (hL q h).elim)
      have hPa2 := one_F hPa hst hF (fun h => h)
      obtain ⟨w1, w2, hPD2⟩ : ∃ w1 w2, va_P D classes (Dw h1 w1 w2) t.heap := ⟨v1, v2, P_F hPD hst hF⟩
      have hP2 : va_P D classes (Lw h1 q3 cJ w1 w2 f) t.heap := hPD2.app hPa2
      have hD2 : va_D (LA h1 q3 s.heap.size) (Lw h1 q3 cJ w1 w2 f) := w2_D hL1 hL2 hne2
      refine W.eq (g2 := F0 m 7 ls [.int r, .int 0, .ref q3]) rfl ?_
      refine lv_i2l hx hb d_L_fixed_7 rfl ?_
      refine va_last hx hb hK hP2 hD2 hS2 1 0 rfl rfl in01 d_L_fixed_8 (fun H locs hP3 hD3 hS3 => ?_)
      refine lv_goto (tgt := 15) hx hb d_L_fixed_9 (by decide) ?_
      refine lv_iconst (v := 0) hx hb d_L_fixed_15 (by decide) ?_
      exact W.iret (free := LA h1 q3 s.heap.size) (Qc := va_Qi (fun (r : Int32) (u : Lf) => (r = 0 ∧ FXC c0 ∧ ∃ r : Int32, u.2.2 0 = Int32.toInt64 r ∧ FXP c0 r) ∨ (r = 1 ∧ ¬ FXC c0)) (L_at D h1 q3 cJ) (LA h1 q3 s.heap.size)) hx hb hr (fun x ht hW => ⟨⟨0, (w1, w2, vp_updL f (0 : Int32).toNatClampNeg (Int32.toInt64 r)), rfl, Or.inl ⟨rfl, hq4.1, r, rfl, hq4.2⟩, by unfold L_at; rw [ht]; exact hP3⟩, hS3.F ht⟩) hS3.2.2 d_L_fixed_16 hlk
    · cases hw
  · obtain ⟨hq1, hEE, hF⟩ := hq
    rcases hq1 with ⟨w, hw, -⟩ | ⟨x2, ce, hw, htp, hxl, hce, hcv, hcc⟩
    · cases hw
    · cases hw
      have hS2 := S_F hS hst hF (fun q _ h => h.elim) (fun q h => (hL q h).elim)
      have hPa2 := one_F hPa hst hF (fun h => h)
      obtain ⟨w1, w2, hPD2⟩ : ∃ w1 w2, va_P D classes (Dw h1 w1 w2) t.heap := ⟨v1, v2, P_F hPD hst hF⟩
      have hP2 : va_P D classes (Lw h1 q3 cJ w1 w2 f) t.heap := hPD2.app hPa2
      have hD2 : va_D (LA h1 q3 s.heap.size) (Lw h1 q3 cJ w1 w2 f) := w2_D hL1 hL2 hne2
      refine cat (own := "FixedNumbersLaw") (cls := nIA) (ix := 19) (hp := 12) ht0 (cov1 ht1 ht2 (by decide)) ht4 (by decide) ht3 hown (hg _ k_232) hce hcv (by rw [← hW0.alike.findClass]; exact hcc) (exw_args hex _ _ (by decide +kernel)) (hg _ k_241) ?_
      refine lv_astore_n (lv' := [(3, .ref x), (0, .ref h0), (1, .int c0), (2, .ref q3)]) hx hb d_L_fixed_12 rfl hl (by decide) rfl (fun ls hl => ?_)
      refine lv_iconst (v := 1) hx hb d_L_fixed_13 (by decide) ?_
      exact W.iret (free := LA h1 q3 s.heap.size) (Qc := va_Qi (fun (r : Int32) (u : Lf) => (r = 0 ∧ FXC c0 ∧ ∃ r : Int32, u.2.2 0 = Int32.toInt64 r ∧ FXP c0 r) ∨ (r = 1 ∧ ¬ FXC c0)) (L_at D h1 q3 cJ) (LA h1 q3 s.heap.size)) hx hb hr (fun x ht hW => ⟨⟨1, (w1, w2, f), rfl, Or.inr ⟨rfl, htp⟩, by unfold L_at; rw [ht]; exact hP2⟩, hS2.F ht⟩) hS2.2.2 d_L_fixed_14 hlk
set_option maxHeartbeats 4000000 in
set_option maxRecDepth 100000 in
theorem c_L_shade (l : Launch) (hfl : l.flags = flags0) (D : va_G) (h0 h1 q3 sz : Nat) (cJ : ClassId) (v1 v2 : Value) (f : Nat → Int64) (x0 : Int32) (y0 : Int32) : Met l y_L_shade w_L_shade ({ frames := 8, cells := 1, slots := 6, locals := 124 } : Room) (va_Pc [.ref h0, .int x0, .int y0, .ref q3] (L_B D h0 h1 q3 cJ v1 v2 f sz)) (va_Qi (fun (r : Int32) (u : Lf) => (r = 0 ∧ SHC x0 y0 ∧ ∃ r : Int32, u.2.2 0 = Int32.toInt64 r ∧ SHP x0 y0 r) ∨ (r = 1 ∧ ¬ SHC x0 y0)) (L_at D h1 q3 cJ) (LA h1 q3 sz)) 1 6 (LA h1 q3 sz) := by
  refine pmW (y := y_L_shade) (cc := b_L_shade) (maxL := 5) (ret := (some .int)) (hh := [(0, 10, 13, 19)]) (rm := ({ frames := 8, cells := 1, slots := 6, locals := 124 } : Room)) [.ref h0, .int x0, .int y0, .ref q3] (by decide +kernel) (Nat.le_of_ble_eq_true rfl) (fun p e s m below meth c ls hx hb hr hml hown hg hlk htab hB hl => ?_)
  have hl : lv_has ls 5 [(0, .ref h0), (1, .int x0), (2, .int y0), (3, .ref q3)] := hl
  obtain ⟨hsz, hPo, hP, hne, hne2, hK, hex, hnq, hnf⟩ := hB
  subst hsz
  obtain ⟨en, ht0, ht1, ht2, ht3, ht4⟩ := tab1 htab
  have hK0 : va_K D classes [] s := hK.sub [] rfl
  have hS : va_S (LA h1 q3 s.heap.size) s.heap s.heap [] := va_S.rf
  have hAs := LA_s hP
  have hPD : va_P D classes (Dw h1 v1 v2) s.heap := hP.sub [0] rfl
  have hPa : va_P D classes [(q3, .inl (cJ, 1, .inr (.inl f)))] s.heap := hP.sub [1] rfl
  have hq3 : q3 < s.heap.size := (hP 1 _ rfl).lt
  have hL1 : LA h1 q3 s.heap.size h1 := Or.inl rfl
  have hL2 : LA h1 q3 s.heap.size q3 := Or.inr (Or.inl rfl)
  refine lv_aload_n hx hb d_L_shade_0 rfl (lv_at hl 3 rfl) ?_
  refine lv_iconst (v := 0) hx hb d_L_shade_1 (by decide) ?_
  refine lv_aload_n hx hb d_L_shade_2 rfl (lv_at hl 0 rfl) ?_
  refine lv_iload_n hx hb d_L_shade_3 rfl (lv_at hl 1 rfl) ?_
  refine lv_iload_n hx hb d_L_shade_4 rfl (lv_at hl 2 rfl) ?_
  refine goT (runTV [.int x0, .int y0] 2 rfl (b := h0) (C := "FixedNumbers") (rest := [.int 0, .ref q3]) hx hb hml hown hg (c_X_shade l hfl h0 x0 y0) (va_recv hK0 hPo (ci := 0) (q0 := 0) rfl rfl) k_266 k_267 k_268 k_1 k_269 (by decide +kernel) hl.1 rfl rfl ⟨Nat.le_of_ble_eq_true rfl, Nat.le_of_ble_eq_true rfl⟩ rfl (Nat.le_of_ble_eq_true rfl) ⟨Nat.le_of_ble_eq_true rfl, Nat.le_of_ble_eq_true rfl⟩ d_L_shade_5 (fun U hU hW => ⟨rfl, exw_S hS hAs hU hW.alike hex⟩) (fun a U g mk q => ⟨q.1, exw_call q.2⟩)) (fun vv st t L hst hW0 hW hL hq => ?_) (fun x st t L hst hW0 hW hL hq => ?_)
  · obtain ⟨hq1, hEE, hF⟩ := hq
    rcases hq1 with ⟨w, hw, r, hq2, hq4⟩ | ⟨x, ce, hw, -⟩
    · cases hw
      subst hq2
      have hS2 := S_F hS hst hF (fun q _ h => h.elim) (fun q h => (hL q h).elim)
      have hPa2 := one_F hPa hst hF (fun h => h)
      obtain ⟨w1, w2, hPD2⟩ : ∃ w1 w2, va_P D classes (Dw h1 w1 w2) t.heap := ⟨v1, v2, P_F hPD hst hF⟩
      have hP2 : va_P D classes (Lw h1 q3 cJ w1 w2 f) t.heap := hPD2.app hPa2
      have hD2 : va_D (LA h1 q3 s.heap.size) (Lw h1 q3 cJ w1 w2 f) := w2_D hL1 hL2 hne2
      refine W.eq (g2 := F0 m 8 ls [.int r, .int 0, .ref q3]) rfl ?_
      refine lv_i2l hx hb d_L_shade_8 rfl ?_
      refine va_last hx hb hK hP2 hD2 hS2 1 0 rfl rfl in01 d_L_shade_9 (fun H locs hP3 hD3 hS3 => ?_)
      refine lv_goto (tgt := 17) hx hb d_L_shade_10 (by decide) ?_
      refine lv_iconst (v := 0) hx hb d_L_shade_17 (by decide) ?_
      exact W.iret (free := LA h1 q3 s.heap.size) (Qc := va_Qi (fun (r : Int32) (u : Lf) => (r = 0 ∧ SHC x0 y0 ∧ ∃ r : Int32, u.2.2 0 = Int32.toInt64 r ∧ SHP x0 y0 r) ∨ (r = 1 ∧ ¬ SHC x0 y0)) (L_at D h1 q3 cJ) (LA h1 q3 s.heap.size)) hx hb hr (fun x ht hW => ⟨⟨0, (w1, w2, vp_updL f (0 : Int32).toNatClampNeg (Int32.toInt64 r)), rfl, Or.inl ⟨rfl, hq4.1, r, rfl, hq4.2⟩, by unfold L_at; rw [ht]; exact hP3⟩, hS3.F ht⟩) hS3.2.2 d_L_shade_18 hlk
    · cases hw
  · obtain ⟨hq1, hEE, hF⟩ := hq
    rcases hq1 with ⟨w, hw, -⟩ | ⟨x2, ce, hw, htp, hxl, hce, hcv, hcc⟩
    · cases hw
    · cases hw
      have hS2 := S_F hS hst hF (fun q _ h => h.elim) (fun q h => (hL q h).elim)
      have hPa2 := one_F hPa hst hF (fun h => h)
      obtain ⟨w1, w2, hPD2⟩ : ∃ w1 w2, va_P D classes (Dw h1 w1 w2) t.heap := ⟨v1, v2, P_F hPD hst hF⟩
      have hP2 : va_P D classes (Lw h1 q3 cJ w1 w2 f) t.heap := hPD2.app hPa2
      have hD2 : va_D (LA h1 q3 s.heap.size) (Lw h1 q3 cJ w1 w2 f) := w2_D hL1 hL2 hne2
      refine cat (own := "FixedNumbersLaw") (cls := nIA) (ix := 19) (hp := 13) ht0 (cov1 ht1 ht2 (by decide)) ht4 (by decide) ht3 hown (hg _ k_232) hce hcv (by rw [← hW0.alike.findClass]; exact hcc) (exw_args hex _ _ (by decide +kernel)) (hg _ k_241) ?_
      refine lv_astore (lv' := [(4, .ref x), (0, .ref h0), (1, .int x0), (2, .int y0), (3, .ref q3)]) hx hb d_L_shade_13 hl (by decide) rfl (fun ls hl => ?_)
      refine lv_iconst (v := 1) hx hb d_L_shade_15 (by decide) ?_
      exact W.iret (free := LA h1 q3 s.heap.size) (Qc := va_Qi (fun (r : Int32) (u : Lf) => (r = 0 ∧ SHC x0 y0 ∧ ∃ r : Int32, u.2.2 0 = Int32.toInt64 r ∧ SHP x0 y0 r) ∨ (r = 1 ∧ ¬ SHC x0 y0)) (L_at D h1 q3 cJ) (LA h1 q3 s.heap.size)) hx hb hr (fun x ht hW => ⟨⟨1, (w1, w2, f), rfl, Or.inr ⟨rfl, htp⟩, by unfold L_at; rw [ht]; exact hP2⟩, hS2.F ht⟩) hS2.2.2 d_L_shade_16 hlk
end
section
/-! the law's own rows -/
theorem met_T {l : Launch} {y : MethodName} {ws : List Cond} {rm : Room} {Pc : Array Value → State → Prop} {Qc : Array Value → State → Outcome → State → Prop} {mc ms : Nat} {free : Addr → Prop} (h : Met l y ws rm Pc Qc mc ms free) : MetT l y ws rm Pc (fun a st o t => Qc a st o t ∧ ∃ v, o = .returned v) mc ms free := by
  intro p e ha hc hk s m args below hf happ hP hT
  obtain ⟨n, o, a1, a2, a3, hQ, L, ⟨hv, hW, hs⟩, hL⟩ := h p e ha hc hk s m args below hf happ hP hT
  exact ⟨n, o, a1, a2, a3, ⟨hQ, hv⟩, hW, L, hs, hL⟩
abbrev LW (q0 q1 q2 q3 : Nat) (cJ : ClassId) (v1 v2 : Value) (t : Int32) (u lo lf : Int64) (f : Nat → Int64) : va_W := [(q0, .inr (0, [.ref q1])), (q1, .inr (1, [v1, v2])), (q2, .inr (2, [.int t, .long u, .long lo, .long lf])), (q3, .inl (cJ, 1, .inr (.inl f)))]
section LR
variable {p : Program} {l : Launch} {e : Env} {R : Room} {s : State} {m : MethodId} {args : Array Value} {below : List Frame} {meth : Method} {c : Code} {H : Heap} {locs : List Loc} {cells slots : Nat} {Q : State → Prop}
variable {cc : ByteArray} {pc : Nat} {ls : Array Slot} {rest st0 : List Value} {D : va_G} {A : Nat → Prop} {q0 q1 q2 q3 : Nat} {cJ : ClassId} {v1 v2 : Value} {t : Int32} {u lo lf : Int64} {f : Nat → Int64}
theorem sld {b L : Nat} {xs : Nat → Int32} {H0 : Heap} {i x : Int32} (hx : p.tables.exec = Jvm.exec) (hb : c.code = cc) (hX : va_X b L xs s H0) (hbl : b < H0.size) (hbA : ¬ A b) (hS : va_S A H0 H locs) (hin : vp_in i L) (hv : xs i.toNatClampNeg = x) (hd : decode cc pc = .ok (.iaload, 1))
    (kk : W p l e R s m args below meth c H locs cells slots Q (F0 m (pc + 1) ls (.int x :: rest))) : W p l e R s m args below meth c H locs cells slots Q (F0 m pc ls (.int i :: .ref b :: rest)) := by
  subst hv
  exact va_sld hx hb hX hbl hbA hS hin hd kk
theorem runW {y : MethodName} {bytes : ByteArray} {maxL nL index : Nat} {ret : Option FieldType} {hh : List (Nat × Nat × Nat × Nat)} {rm : Room} {own : String} {Pc : Array Value → State → Prop} {Qc : Array Value → State → Outcome → State → Prop} {mc ms : Nat} {free : Addr → Prop} (As : List Value) (n : Nat) (hn : As.length = n) (hx : p.tables.exec = Jvm.exec) (hb : c.code = cc) (hml : c.maxLocals = nL) (hown : s.vm.findClass own = some m.cls) (hg : ∀ w ∈ lw_gd, w.before args s = true) (hM : Met l y (Cond.codeWith y bytes maxL ret hh :: lw_gd) rm Pc Qc mc ms free)
    (h1 : Cond.methodLink own index y ∈ lw_gd) (h2 : Cond.static y ∈ lw_gd) (h3 : Cond.initialized y.cls ∈ lw_gd) (h4 : Cond.codeWith y bytes maxL ret hh ∈ lw_gd) (hd : y.cls ≠ "java/lang/invoke/MethodHandle" ∧ y.cls ≠ "java/lang/invoke/VarHandle" ∧ (parseMethodDescriptor y.desc).map (fun d => d.parameters.length) = some n)
    (hsz : ls.size = nL) (hc : rm.cells = mc) (hs : rm.slots = ms) (hR : rm.frames + 1 ≤ R.frames ∧ 8 + (maxL + 11) + rm.locals ≤ R.locals) (hst : st0 = As.reverse ++ rest) (hW : (rest.map fun v => v.category).sum ≤ 8) (hf : cells + mc ≤ R.cells ∧ slots + ms ≤ R.slots) (hdg : decode cc pc = .ok (.invokestatic index, 3))
    (hP : ∀ U : State, U.heap = H → s.WarmedH U.vm → Pc As.toArray U) (hbl : FrameBlind Pc) : va_Run p l e R s m args below meth c H locs cells slots mc ms (F0 m pc ls st0) rest (Qc As.toArray) free := by
  intro T hT X
  have hcode := hg _ h4
  obtain ⟨mk, methM, cM, hnamed, hmethM, hcM, -, hlM, -, -, -, hsigM⟩ := Cond.codeWith_spec hcode
  have hstatic : methM.isStatic = true := Cond.static_spec hnamed hmethM (hg _ h2)
  obtain ⟨kP, hkP, -⟩ := className_of_methodNamed hnamed
  have hinitP : kP.init = .initialized := Cond.initialized_spec (findClass_of_methodNamed hnamed) hkP (hg _ h3)
  have hlen : As.length = methM.sig.parameters.length := by
    have q := hd.2.2
    rw [hsigM] at q
    rw [hn]; exact (Option.some.inj q).symm
  obtain ⟨vm₁, X₁, hstep₁⟩ := X.invokestatic hx hown (hg _ h1) hnamed hmethM hstatic hkP hinitP ⟨hd.1, hd.2.1⟩ (g := F0 m pc ls st0) rfl (argsL := As) (rest := rest) hlen hst (by rw [hb]; exact hdg)
  have hw2 : ∀ w ∈ Cond.codeWith y bytes maxL ret hh :: lw_gd, w.before As.toArray (T.setVm vm₁) = true := fun w hw => by
    have k : w ∈ lw_gd := by
      rcases List.mem_cons.mp hw with rfl | h
      · exact h4
      · exact h
    exact word_at (U := T.setVm vm₁) X₁.warmed (gd_good k) (hg w k)
  obtain ⟨o, t, T', L, X', hL, e1, e2, hq, st⟩ := callT (g := F0 m pc ls rest) (met_T hM) X₁ rfl (hsz.trans hml.symm) (by rw [hb]; exact hdg) (lv_room hW) (X₁.named hnamed) (by rw [X₁.warmed.alike.method?]; exact hmethM) hcM hlM (word_at (U := T.setVm vm₁) X₁.warmed (gd_good h3) (hg _ h3)) hw2 hR.1 hR.2 (by rw [hc]; exact hf.1) (by rw [hs]; exact hf.2) (hbl _ _ _ _ (hP (T.setVm vm₁) hT X₁.warmed))
  obtain ⟨hq, v, rfl⟩ := hq
  exact ⟨v, (T.setVm vm₁).calling (F0 m pc ls rest) mk As.toArray, t, T', L, hT, X', hL, e1, e2, hq, fun target h => hstep₁ _ fun acts => by rw [doInvoke_state]; exact st.trans h⟩
theorem LW_keep {w1 w2 : Value} {f2 : Nat → Int64} {H1 : Heap} (hP : va_P D classes (LW q0 q1 q2 q3 cJ v1 v2 t u lo lf f) H) (hD : va_D A (LW q0 q1 q2 q3 cJ v1 v2 t u lo lf f)) (hk : ∀ q : Nat, q < H.size → ¬ LA q1 q3 H.size q → H1[q]? = H[q]?) (h1 : va_P D classes (Lw q1 q3 cJ w1 w2 f2) H1) :
    va_P D classes (LW q0 q1 q2 q3 cJ w1 w2 t u lo lf f2) H1 ∧ va_D A (LW q0 q1 q2 q3 cJ w1 w2 t u lo lf f2) := by
  have ap : ∀ (i j : Nat) (x y : Nat × va_E), (LW q0 q1 q2 q3 cJ v1 v2 t u lo lf f)[i]? = some x → (LW q0 q1 q2 q3 cJ v1 v2 t u lo lf f)[j]? = some y → ¬ i = j → ¬ x.1 = y.1 := fun i j x y hx hy hn hxy => hn (hD.1 i j x y hx hy hxy)
  have l0 : q0 < H.size := (hP 0 _ rfl).lt
  have l2 : q2 < H.size := (hP 2 _ rfl).lt
  have k0 : H1[q0]? = H[q0]? := hk q0 l0 (fun z => by
    rcases z with z | z | z
    · exact ap 0 1 _ _ rfl rfl (by decide) z
    · exact ap 0 3 _ _ rfl rfl (by decide) z
    · exact absurd l0 (Nat.not_lt.mpr z))
  have k2 : H1[q2]? = H[q2]? := hk q2 l2 (fun z => by
    rcases z with z | z | z
    · exact ap 2 1 _ _ rfl rfl (by decide) z
    · exact ap 2 3 _ _ rfl rfl (by decide) z
    · exact absurd l2 (Nat.not_lt.mpr z))
  refine ⟨fun k q hq => ?_, ?_⟩
  · have hlt : k < 4 := (List.getElem?_eq_some_iff.mp hq).1
    rcases (show k = 0 ∨ k = 1 ∨ k = 2 ∨ k = 3 by omega) with rfl | rfl | rfl | rfl
    · cases hq; exact (hP 0 _ rfl).kept k0
    · cases hq; exact h1 0 _ rfl
    · cases hq; exact (hP 2 _ rfl).kept k2
    · cases hq; exact h1 1 _ rfl
  · exact (hD.set (p := 1) (e := .inr (1, [w1, w2])) rfl).set (p := 3) (e := .inl (cJ, 1, .inr (.inl f2))) rfl
/-- a call of one of the law's helpers -/
theorem cW {y : MethodName} {bytes : ByteArray} {maxL nL index : Nat} {ret : Option FieldType} {hh : List (Nat × Nat × Nat × Nat)} {rm : Room} {post : Int32 → Lf → Prop} {mc ms : Nat} (As : List Value) (n : Nat) (hn : As.length = n) (hx : p.tables.exec = Jvm.exec) (hb : c.code = cc) (hml : c.maxLocals = nL) (hown : s.vm.findClass "FixedNumbersLaw" = some m.cls) (hg : ∀ w ∈ lw_gd, w.before args s = true)
    (hK : va_K D classes [(cJ, .long)] s) (hP : va_P D classes (LW q0 q1 q2 q3 cJ v1 v2 t u lo lf f) H) (hD : va_D A (LW q0 q1 q2 q3 cJ v1 v2 t u lo lf f)) (hS : va_S A s.heap H locs) (hA : ∀ q, s.heap.size ≤ q → A q) (hAs : ∀ (q : Nat) (cell : Cell), s.heap[q]? = some cell → cell.vm.isStatics = true → ¬ A q) (hex : exw s) (hnq : va_Nw nq s) (hnf : va_Nw nf s)
    (hM : Met l y (Cond.codeWith y bytes maxL ret hh :: lw_gd) rm (va_Pc As (L_B D q0 q1 q3 cJ v1 v2 f H.size)) (va_Qi post (L_at D q1 q3 cJ) (LA q1 q3 H.size)) mc ms (LA q1 q3 H.size))
    (h1 : Cond.methodLink "FixedNumbersLaw" index y ∈ lw_gd) (h2 : Cond.static y ∈ lw_gd) (h3 : Cond.initialized y.cls ∈ lw_gd) (h4 : Cond.codeWith y bytes maxL ret hh ∈ lw_gd) (hd : y.cls ≠ "java/lang/invoke/MethodHandle" ∧ y.cls ≠ "java/lang/invoke/VarHandle" ∧ (parseMethodDescriptor y.desc).map (fun d => d.parameters.length) = some n)
    (hsz : ls.size = nL) (hc : rm.cells = mc) (hs : rm.slots = ms) (hR : rm.frames + 1 ≤ R.frames ∧ 8 + (maxL + 11) + rm.locals ≤ R.locals) (hst : st0 = As.reverse ++ rest) (hW : (rest.map fun v => v.category).sum ≤ 8) (hf : cells + mc ≤ R.cells ∧ slots + ms ≤ R.slots) (hdg : decode cc pc = .ok (.invokestatic index, 3))
    (kk : ∀ (r : Int32) (w1 w2 : Value) (f2 : Nat → Int64) (H : Heap) (locs : List Loc), post r (w1, w2, f2) → va_P D classes (LW q0 q1 q2 q3 cJ w1 w2 t u lo lf f2) H → va_D A (LW q0 q1 q2 q3 cJ w1 w2 t u lo lf f2) → va_S A s.heap H locs → W p l e R s m args below meth c H locs (cells + mc) (slots + ms) Q (F0 m (pc + 3) ls (.int r :: rest))) : W p l e R s m args below meth c H locs cells slots Q (F0 m pc ls st0) := by
  have hF : ∀ q, LA q1 q3 H.size q → A q := fun q z => by
    rcases z with z | z | z
    · rw [z]; exact hD.2 1 _ rfl
    · rw [z]; exact hD.2 3 _ rfl
    · exact hA q (Nat.le_trans hS.1 z)
  refine va_calli (runW As n hn hx hb hml hown hg hM h1 h2 h3 h4 hd hsz hc hs hR hst hW hf hdg (fun U hU hW => ⟨rfl, by rw [hU], by rw [hU]; exact hP.sub [0] rfl, by rw [hU]; exact hP.sub [1, 3] rfl, fun z => absurd (hD.1 0 1 _ _ rfl rfl z) (by decide), fun z => absurd (hD.1 1 3 _ _ rfl rfl z) (by decide), va_K.moved hW.alike hK, exw_S hS hAs hU hW.alike hex, va_Nw.warmF hW hnq, va_Nw.warmF hW hnf⟩) (fun a U g mk q => ⟨q.1, L_Bcall q.2⟩)) hS (fun q _ h => hF q h) hF (fun r w t H1 locs ht hvm hw hB hz1 hk1 hS => ?_)
  obtain ⟨w1, w2, f2⟩ := w
  unfold L_at at hB
  rw [ht] at hB
  obtain ⟨hP1, hD1⟩ := LW_keep hP hD hk1 hB
  exact kk r w1 w2 f2 H1 locs hw hP1 hD1 hS
/-- a call of a method of the reference -/
theorem cL_i {y : MethodName} {bytes : ByteArray} {maxL nL index : Nat} {ret : Option FieldType} {rm : Room} {post : Int32 → Mf → Prop} (As : List Value) (n : Nat) (hn : As.length = n) (hx : p.tables.exec = Jvm.exec) (hb : c.code = cc) (hml : c.maxLocals = nL) (hown : s.vm.findClass "FixedNumbersLaw" = some m.cls) (hg : ∀ w ∈ lw_gd, w.before args s = true)
    (hK : va_K D classes [(cJ, .long)] s) (hP : va_P D classes (LW q0 q1 q2 q3 cJ v1 v2 t u lo lf f) H) (hD : va_D A (LW q0 q1 q2 q3 cJ v1 v2 t u lo lf f)) (hS : va_S A s.heap H locs) (hA : ∀ q, s.heap.size ≤ q → A q)
    (hM : Met l y (Cond.code y bytes maxL ret :: lw_gd) rm (va_Pc (.ref q2 :: As) (M_B D q2 t u lo lf H.size)) (va_Qi post (M_at D q2 (va_A (Mw q2 t u lo lf) H.size)) (va_A (Mw q2 t u lo lf) H.size)) 0 0 (va_A (Mw q2 t u lo lf) H.size))
    (h1 : Cond.methodLink "FixedNumbersLaw" index y ∈ lw_gd) (h2 : Cond.instanceMethod y ∈ lw_gd) (h3 : Cond.selects "FixedNumbersModel" y y ∈ lw_gd) (h5 : Cond.code y bytes maxL ret ∈ lw_gd) (hd : y.cls = "FixedNumbersModel" ∧ y.cls ≠ "java/lang/invoke/MethodHandle" ∧ y.cls ≠ "java/lang/invoke/VarHandle" ∧ (parseMethodDescriptor y.desc).map (fun d => d.parameters.length) = some n)
    (hsz : ls.size = nL) (hc : rm.cells = 0) (hs : rm.slots = 0) (hR : rm.frames + 1 ≤ R.frames ∧ 8 + (maxL + 11) + rm.locals ≤ R.locals) (hst : st0 = As.reverse ++ .ref q2 :: rest) (hW : (rest.map fun v => v.category).sum ≤ 8) (hf : cells ≤ R.cells ∧ slots ≤ R.slots) (hdg : decode cc pc = .ok (.invokevirtual index, 3))
    (kk : ∀ (r : Int32) (t2 : Int32) (u2 lo2 lf2 : Int64) (H : Heap) (locs : List Loc), post r (t2, u2, lo2, lf2) → va_P D classes (LW q0 q1 q2 q3 cJ v1 v2 t2 u2 lo2 lf2 f) H → va_D A (LW q0 q1 q2 q3 cJ v1 v2 t2 u2 lo2 lf2 f) → va_S A s.heap H locs → W p l e R s m args below meth c H locs cells slots Q (F0 m (pc + 3) ls (.int r :: rest))) : W p l e R s m args below meth c H locs cells slots Q (F0 m pc ls st0) := by
  have hK0 : va_K D classes [] s := hK.sub [] rfl
  have hPc := hP.sub (ws' := Mw q2 t u lo lf) [2] rfl
  have hDc := hD.sub (ws' := Mw q2 t u lo lf) [2] (by decide) rfl
  have hFc := va_free (wc := Mw q2 t u lo lf) hD hS hA [2] rfl
  refine va_calli (va_runV (As := As) (rest := rest) (C := "FixedNumbersModel") ⟨hx, hb, hml, hown, hg⟩ hM (cwV n hg (gi_V h1 h2 h3 k_3 h5) rfl hc hs hd hR) ⟨fun a U g mk q => by obtain ⟨q0, q1, qP, qK, qD⟩ := q; exact ⟨q0, q1, qP, va_K.moved (u := U) (U := U.calling g mk a) (Vm.Alike.refl U.vm) qK, qD⟩, va_recv hK0 hPc (ci := 2) (q0 := 0) rfl rfl, fun U hU hW => ⟨rfl, by rw [hU], by rw [hU]; exact hPc, va_K.moved hW.alike hK0, hDc.weaken (fun _ _ _ _ => trivial)⟩⟩ rfl hn hsz hst (lv_room hW) hdg hf) hS (fun q _ h => hFc q h) hFc (fun r z t H1 locs ht hvm hw hB hz1 hk1 hS => ?_)
  obtain ⟨hP1, hK1, hD1⟩ := hB
  rw [ht] at hP1
  obtain ⟨hP2, hD2⟩ := va_join (wr := [(q0, .inr (0, [.ref q1])), (q1, .inr (1, [v1, v2])), (q3, .inl (cJ, 1, .inr (.inl f)))]) (w1 := Mw q2 z.1 z.2.1 z.2.2.1 z.2.2.2) hP hD [2] [0, 1, 3] rfl rfl (by decide) (by decide) hk1 hFc hP1 hD1
  exact kk r z.1 z.2.1 z.2.2.1 z.2.2.2 H1 locs hw (hP2.sub [0, 1, 3, 2] rfl) (hD2.sub [0, 1, 3, 2] (by decide) rfl) hS
/-- a call of a method of the reference -/
theorem cL_l {y : MethodName} {bytes : ByteArray} {maxL nL index : Nat} {ret : Option FieldType} {rm : Room} {post : Int64 → Mf → Prop} (As : List Value) (n : Nat) (hn : As.length = n) (hx : p.tables.exec = Jvm.exec) (hb : c.code = cc) (hml : c.maxLocals = nL) (hown : s.vm.findClass "FixedNumbersLaw" = some m.cls) (hg : ∀ w ∈ lw_gd, w.before args s = true)
    (hK : va_K D classes [(cJ, .long)] s) (hP : va_P D classes (LW q0 q1 q2 q3 cJ v1 v2 t u lo lf f) H) (hD : va_D A (LW q0 q1 q2 q3 cJ v1 v2 t u lo lf f)) (hS : va_S A s.heap H locs) (hA : ∀ q, s.heap.size ≤ q → A q)
    (hM : Met l y (Cond.code y bytes maxL ret :: lw_gd) rm (va_Pc (.ref q2 :: As) (M_B D q2 t u lo lf H.size)) (va_Ql post (M_at D q2 (va_A (Mw q2 t u lo lf) H.size)) (va_A (Mw q2 t u lo lf) H.size)) 0 0 (va_A (Mw q2 t u lo lf) H.size))
    (h1 : Cond.methodLink "FixedNumbersLaw" index y ∈ lw_gd) (h2 : Cond.instanceMethod y ∈ lw_gd) (h3 : Cond.selects "FixedNumbersModel" y y ∈ lw_gd) (h5 : Cond.code y bytes maxL ret ∈ lw_gd) (hd : y.cls = "FixedNumbersModel" ∧ y.cls ≠ "java/lang/invoke/MethodHandle" ∧ y.cls ≠ "java/lang/invoke/VarHandle" ∧ (parseMethodDescriptor y.desc).map (fun d => d.parameters.length) = some n)
    (hsz : ls.size = nL) (hc : rm.cells = 0) (hs : rm.slots = 0) (hR : rm.frames + 1 ≤ R.frames ∧ 8 + (maxL + 11) + rm.locals ≤ R.locals) (hst : st0 = As.reverse ++ .ref q2 :: rest) (hW : (rest.map fun v => v.category).sum ≤ 8) (hf : cells ≤ R.cells ∧ slots ≤ R.slots) (hdg : decode cc pc = .ok (.invokevirtual index, 3))
    (kk : ∀ (r : Int64) (t2 : Int32) (u2 lo2 lf2 : Int64) (H : Heap) (locs : List Loc), post r (t2, u2, lo2, lf2) → va_P D classes (LW q0 q1 q2 q3 cJ v1 v2 t2 u2 lo2 lf2 f) H → va_D A (LW q0 q1 q2 q3 cJ v1 v2 t2 u2 lo2 lf2 f) → va_S A s.heap H locs → W p l e R s m args below meth c H locs cells slots Q (F0 m (pc + 3) ls (.long r :: rest))) : W p l e R s m args below meth c H locs cells slots Q (F0 m pc ls st0) := by
  have hK0 : va_K D classes [] s := hK.sub [] rfl
  have hPc := hP.sub (ws' := Mw q2 t u lo lf) [2] rfl
  have hDc := hD.sub (ws' := Mw q2 t u lo lf) [2] (by decide) rfl
  have hFc := va_free (wc := Mw q2 t u lo lf) hD hS hA [2] rfl
  refine va_calll (va_runV (As := As) (rest := rest) (C := "FixedNumbersModel") ⟨hx, hb, hml, hown, hg⟩ hM (cwV n hg (gi_V h1 h2 h3 k_3 h5) rfl hc hs hd hR) ⟨fun a U g mk q => by obtain ⟨q0, q1, qP, qK, qD⟩ := q; exact ⟨q0, q1, qP, va_K.moved (u := U) (U := U.calling g mk a) (Vm.Alike.refl U.vm) qK, qD⟩, va_recv hK0 hPc (ci := 2) (q0 := 0) rfl rfl, fun U hU hW => ⟨rfl, by rw [hU], by rw [hU]; exact hPc, va_K.moved hW.alike hK0, hDc.weaken (fun _ _ _ _ => trivial)⟩⟩ rfl hn hsz hst (lv_room hW) hdg hf) hS (fun q _ h => hFc q h) hFc (fun r z t H1 locs ht hvm hw hB hz1 hk1 hS => ?_)
  obtain ⟨hP1, hK1, hD1⟩ := hB
  rw [ht] at hP1
  obtain ⟨hP2, hD2⟩ := va_join (wr := [(q0, .inr (0, [.ref q1])), (q1, .inr (1, [v1, v2])), (q3, .inl (cJ, 1, .inr (.inl f)))]) (w1 := Mw q2 z.1 z.2.1 z.2.2.1 z.2.2.2) hP hD [2] [0, 1, 3] rfl rfl (by decide) (by decide) hk1 hFc hP1 hD1
  exact kk r z.1 z.2.1 z.2.2.1 z.2.2.2 H1 locs hw (hP2.sub [0, 1, 3, 2] rfl) (hD2.sub [0, 1, 3, 2] (by decide) rfl) hS
end LR
theorem and15 (a : Int32) : ∃ j, j < 16 ∧ a &&& 15 = nI j := by
  refine ⟨(a &&& 15).toUInt32.toNat, ?_, ?_⟩
  · have h : (a &&& 15).toUInt32.toNat = a.toUInt32.toNat &&& 15 := UInt32.toNat_and _ _
    rw [h]
    exact Nat.lt_of_le_of_lt Nat.and_le_right (by decide)
  · exact nI_uI _
theorem sc_in {i j : Int32} {k L J : Nat} (hL : L ≤ 3584) (hi : i = nI (7 * k)) (h : 7 * k + 7 ≤ L) (hj : j = nI J) (hJ : J < 7) : vp_in (i + j) L := by
  have e : i + j = nI (7 * k + J) := by rw [hi, hj]; exact (Int32.ofNat_add _ _).symm
  have t : (nI (7 * k + J)).toInt = ((7 * k + J : Nat) : Int) := nI_toInt (by omega)
  rw [e]
  intro z
  rcases z with z | z
  · rw [i_lt, t, show (0 : Int32).toInt = 0 from rfl] at z; omega
  · rw [show (nI (7 * k + J)).toNatClampNeg = (nI (7 * k + J)).toInt.toNat from rfl, t] at z; omega
theorem sc_in0 {i : Int32} {k L : Nat} (hL : L ≤ 3584) (hi : i = nI (7 * k)) (h : 7 * k + 7 ≤ L) : vp_in i L := by
  have q := sc_in (j := 0) (J := 0) hL hi h rfl (by decide)
  rw [Int32.add_zero] at q
  exact q
theorem lp_c {i : Int32} {k L : Nat} (hL : L ≤ 3584) (hi : i = nI (7 * k)) (h : 7 * k ≤ L) : Int32.ofNat L - 7 < i ↔ L < 7 * k + 7 := by
  have t : (nI (7 * k)).toInt = ((7 * k : Nat) : Int) := nI_toInt (by omega)
  have t2 : (Int32.ofNat L).toInt = (L : Int) := nI_toInt (by omega)
  have z : (7 : Int32).toInt = 7 := rfl
  rw [i_lt, hi, t, i_sub, t2, z]
  · omega
  · rw [t2, z]; omega
  · rw [t2, z]; omega
end
section
def R_law : String := "FixedNumbersLaw"
def lw_P (b : Addr) (xs : List Int32) (args : Array Value) (s : State) : Prop := args = #[.ref b] ∧ s.IntsAt b xs ∧ xs.length ≤ 3584 ∧ (Jvm.Cond.and given_1 narrow_1).before args s = true
def lw_Q (_ : Array Value) (s : State) (o : Outcome) (t : State) : Prop := o = .returned (some (.int 1)) ∧ Framed s o t [] 3080 20512
def lw_Z (below : List Frame) (a : Array Value) (s : State) : State → Prop := fun t => ∃ o, t.status = .running ∧ Ended t below o ∧ lw_Q a s o t
/-- the law's own end, with 1 on the stack, nothing written that was there before, its room as the claim has it -/
theorem lw_ret {p : Program} {l : Launch} {e : Env} {s : State} {m : MethodId} {below : List Frame} {meth : Method} {c : Code} {b : Nat} (hx : p.tables.exec = Jvm.exec) (hb : c.code = code) (hr : meth.sig.returnType = ret) (hlocks : meth.locks = false) {pc : Nat} {H : Heap} {ls : Array Slot} (hdg : decode code pc = .ok (.ireturn, 1)) : W p l e room_1 s m #[Value.ref b] below meth c H [] 3080 20512 (lw_Z below #[Value.ref b] s) (F0 m pc ls [.int 1]) := by
  intro T hT X
  obtain ⟨fs, hret, hrun, hended, hW, hframe⟩ := X.leave (v := some (.int 1)) (hlocks := hlocks) (fun h => by rw [hr] at h; cases h)
  have hmeth' : T.vm.method? m = some meth := X.method'
  refine ⟨T.setFrames fs, ?_, .returned (some (.int 1)), hrun, hended, rfl, ⟨_, rfl⟩, hW, hframe⟩
  jvm_step X.here [X.here.top, hx, hb, hdg, hmeth', hr, ret, narrow_b1]
  (try refine ⟨rfl, ?_⟩); (try refine ⟨rfl, ?_⟩)
  first | (intro acts; rw [hret _ acts rfl rfl rfl]) | rw [hret _ _ rfl rfl rfl]
  exact Steps.refl _
/-- what holds at the law's entry: the machine, the code, the tables' words (any of lw_tbl by 'hts w (by decide +kernel)'), the script of L ints xs at the cell b, what the Statement gives of the start (any of its parts by flat_of_before) -/
def lw_At (p : Program) (s : State) (m : MethodId) (meth : Method) (c : Code) (b L : Nat) (xs : Nat → Int32) : Prop :=
  p.tables.exec = Jvm.exec ∧ c.code = code ∧ meth.sig.returnType = ret ∧ c.maxLocals = 8 ∧ s.vm.findClass R_law = some m.cls ∧ (∀ w ∈ lw_tbl, w.before #[Value.ref b] s = true) ∧ va_X b L xs s s.heap ∧ b < s.heap.size ∧ meth.locks = false ∧ (Jvm.Cond.and given_1 narrow_1).before #[Value.ref b] s = true
theorem sw_hi {j : Nat} (h : j < 16) (h2 : 11 ≤ j) : (10 : Int) < (nI j).toInt := by rw [nI_toInt (by omega)]; omega
theorem rat_ok {a b c0 rM f0 : Int64} {r t2 : Int32} (hL : (r = 0 ∧ ¬ c0 = 0 ∧ FD (a.toInt * b.toInt) c0.toInt f0.toInt) ∨ (r = 1 ∧ OUT a b c0)) (hM : (t2 = 0 ∧ ¬ c0 = 0 ∧ FD (a.toInt * b.toInt) c0.toInt rM.toInt) ∨ (t2 = 1 ∧ (c0 = 0 ∨ ∀ q : Int, FD (a.toInt * b.toInt) c0.toInt q → q < -9223372036854775808 ∨ 9223372036854775808 ≤ q))) : t2 = r ∧ (r = 0 → f0 = rM) := by
  have no : ∀ x : Int64, ¬ c0 = 0 → FD (a.toInt * b.toInt) c0.toInt x.toInt → OUT a b c0 → False := fun x h1 h2 h3 => by
    rcases h3 with h3 | h3
    · exact h1 h3
    · have := h3 _ h2
      have := lb x
      omega
  rcases hL with ⟨h1, h2, h3⟩ | ⟨h1, h2⟩ <;> rcases hM with ⟨g1, g2, g3⟩ | ⟨g1, g2⟩
  · exact ⟨g1.trans h1.symm, fun _ => l_eq.mpr (FD_uniq h3 g3)⟩
  · exact (no _ h2 h3 g2).elim
  · exact (no _ g2 g3 h2).elim
  · exact ⟨g1.trans h1.symm, fun q => by rw [h1] at q; exact absurd q (by decide)⟩
theorem btw_ok {a b : Int32} {n d0 f0 : Int64} {r t2 rM : Int32} (hL : (r = 0 ∧ BC n d0 ∧ ∃ x : Int32, f0 = Int32.toInt64 x ∧ ∃ w : Int64, FD ((b.toInt - a.toInt) * n.toInt) d0.toInt w.toInt ∧ x = Int64.toInt32 (Int32.toInt64 a + w)) ∨ (r = 1 ∧ ¬ BC n d0)) (hM : BT a b n d0 rM t2) : t2 = r ∧ (r = 0 → f0 = Int32.toInt64 rM) := by
  rcases hL with ⟨h1, h2, x, h3, w, h4, h5⟩ | ⟨h1, h2⟩ <;> rcases hM with ⟨g1, g2, w2, g3, g4⟩ | ⟨g1, g2⟩
  · refine ⟨g2.trans h1.symm, fun _ => ?_⟩
    have e : w = w2 := l_eq.mpr (FD_uniq h4 g3)
    rw [h3, h5, g4, e]
  · exact absurd h2 g1
  · exact absurd g1 h2
  · exact ⟨g2.trans h1.symm, fun q => by rw [h1] at q; exact absurd q (by decide)⟩
theorem one_ok {P : Int32 → Prop} {C : Prop} {f0 : Int64} {r t2 rM : Int32} (hu : ∀ x y, P x → P y → x = y) (hL : (r = 0 ∧ C ∧ ∃ x : Int32, f0 = Int32.toInt64 x ∧ P x) ∨ (r = 1 ∧ ¬ C)) (hM : (C ∧ t2 = 0 ∧ P rM) ∨ (¬ C ∧ t2 = 1)) : t2 = r ∧ (r = 0 → f0 = Int32.toInt64 rM) := by
  rcases hL with ⟨h1, h2, x, h3, h4⟩ | ⟨h1, h2⟩ <;> rcases hM with ⟨g1, g2, g3⟩ | ⟨g1, g2⟩
  · refine ⟨g2.trans h1.symm, fun _ => ?_⟩
    rw [h3, hu _ _ h4 g3]
  · exact absurd h2 g1
  · exact absurd g1 h2
  · exact ⟨g2.trans h1.symm, fun q => by rw [h1] at q; exact absurd q (by decide)⟩
theorem FXP_u {c x y : Int32} (h1 : FXP c x) (h2 : FXP c y) : x = y := i_eq.mpr (h1.trans h2.symm)
theorem SHP_u {a b x y : Int32} (h1 : SHP a b x) (h2 : SHP a b y) : x = y := i_eq.mpr (h1.trans h2.symm)
theorem FH_u {h x y : Int32} (h1 : FH h x) (h2 : FH h y) : x = y := h1.trans h2.symm
theorem CH_u {c x y : Int32} (h1 : CH c x) (h2 : CH c y) : x = y := i_eq.mpr (h1.trans h2.symm)
theorem OR_u {a x y : Int32} (h1 : (¬ 0 < a ∧ x = 2147483647) ∨ (0 < a ∧ RT (281474976710656 / a.toInt.toNat) x)) (h2 : (¬ 0 < a ∧ y = 2147483647) ∨ (0 < a ∧ RT (281474976710656 / a.toInt.toNat) y)) : x = y := by
  rcases h1 with ⟨p1, h1⟩ | ⟨p1, h1⟩ <;> rcases h2 with ⟨p2, h2⟩ | ⟨p2, h2⟩
  · exact h1.trans h2.symm
  · exact absurd p2 p1
  · exact absurd p1 p2
  · exact RT_uniq h1 h2
set_option maxHeartbeats 8000000 in
set_option maxRecDepth 100000 in
theorem law_loop {p : Program} {e : Env} {s : State} {m : MethodId} {below : List Frame} {meth : Method} {c : Code} (l : Launch) (hfl : l.flags = flags0) {b L : Nat} {xs : Nat → Int32} (hL : L ≤ 3584) (C0 : lw_At p s m meth c b L xs) (hex : exw s) (hnq : va_Nw nq s) (hnf : va_Nw nf s) (D : va_G) (q0 q1 q2 q3 : Nat) (cJ : ClassId) (hK : va_K D classes [(cJ, .long)] s) :
    ∀ (n k : Nat), L + 7 ≤ 7 * (k + n) → 7 * k ≤ L → ∀ (v1 v2 : Value) (t : Int32) (u lo lf : Int64) (f : Nat → Int64) (i : Int32), i = nI (7 * k) → ∀ (H : Heap) (locs : List Loc) (ls : Array Slot), va_P D classes (LW q0 q1 q2 q3 cJ v1 v2 t u lo lf f) H → va_D (fun q : Nat => s.heap.size ≤ q) (LW q0 q1 q2 q3 cJ v1 v2 t u lo lf f) → va_S (fun q : Nat => s.heap.size ≤ q) s.heap H locs → lv_has ls 8 [(0, .ref b), (1, .ref q0), (2, .ref q2), (3, .ref q3), (4, .int i)] →
      W p l e room_1 s m #[Value.ref b] below meth c H locs (4 + 2 * k) (8 + 12 * k) (lw_Z below #[Value.ref b] s) (F0 m 23 ls []) := by
  obtain ⟨hx, hb, hr, hml, hown0, hts, hX, hbl, hlocks, hgv⟩ := id C0
  have hown : s.vm.findClass "FixedNumbersLaw" = some m.cls := hown0
  have hg : ∀ w ∈ lw_gd, w.before #[Value.ref b] s = true := fun w h => hts w (gd_tbl h)
  have hA : ∀ q : Nat, s.heap.size ≤ q → (fun q : Nat => s.heap.size ≤ q) q := fun _ h => h
  have hbA : ¬ (fun q : Nat => s.heap.size ≤ q) b := Nat.not_le.mpr hbl
  have hAs : ∀ (q : Nat) (cell : Cell), s.heap[q]? = some cell → cell.vm.isStatics = true → ¬ (fun q : Nat => s.heap.size ≤ q) q := fun q cell h _ z => absurd (Array.getElem?_eq_some_iff.mp h).1 (Nat.not_lt.mpr z)
  intro n
  induction n with
  | zero => intro k h1 h2; omega
  | succ n ih =>
    intro k hn hk v1 v2 t u lo lf f i hi H locs ls hP hD hS hl
    have hl : lv_has ls 8 [(0, .ref b), (1, .ref q0), (2, .ref q2), (3, .ref q3), (4, .int i)] := hl
    have hc0 : 4 + 2 * k ≤ room_1.cells := by show 4 + 2 * k ≤ 3080; omega
    have hs0 : 8 + 12 * k ≤ room_1.slots := by show 8 + 12 * k ≤ 20512; omega
    have hc1 : 4 + 2 * k + 1 ≤ room_1.cells := by show 4 + 2 * k + 1 ≤ 3080; omega
    have hs1 : 8 + 12 * k + 6 ≤ room_1.slots := by show 8 + 12 * k + 6 ≤ 20512; omega
    have hc2 : 4 + 2 * k + 2 ≤ room_1.cells := by show 4 + 2 * k + 2 ≤ 3080; omega
    have hs2 : 8 + 12 * k + 12 ≤ room_1.slots := by show 8 + 12 * k + 12 ≤ 20512; omega
    refine lv_iload hx hb d_law_23 (lv_at hl 4 rfl) ?_
    refine lv_aload_n hx hb d_law_25 rfl (lv_at hl 0 rfl) ?_
    refine va_slen hx hb hX hbl hbA hS d_law_26 ?_
    refine lv_bipush (v := 7) hx hb d_law_27 (by decide) ?_
    refine lv_isub hx hb d_law_29 ?_
    refine lv_icmp_gt (tgt := 764) hx hb d_law_30 (by decide) (fun c_30 => ?_) (fun c_30 => ?_)
    · refine lv_iconst (v := 1) hx hb d_law_764 (by decide) ?_
      refine va_forget hS.2.2 ?_
      refine W.widen (k := 3080) (n := 20512) hc0 hs0 ?_
      exact lw_ret hx hb hr hlocks d_law_765
    · have h7 : 7 * k + 7 ≤ L := Nat.not_lt.mp (fun z => c_30 ((lp_c hL hi hk).mpr z))
      have K : ∀ (v1 v2 : Value) (t : Int32) (u lo lf : Int64) (f : Nat → Int64) (H : Heap) (locs : List Loc) (cl sl : Nat), cl ≤ 4 + 2 * (k + 1) → sl ≤ 8 + 12 * (k + 1) → va_P D classes (LW q0 q1 q2 q3 cJ v1 v2 t u lo lf f) H → va_D (fun q : Nat => s.heap.size ≤ q) (LW q0 q1 q2 q3 cJ v1 v2 t u lo lf f) → va_S (fun q : Nat => s.heap.size ≤ q) s.heap H locs → ∀ ls : Array Slot, lv_has ls 8 [(0, .ref b), (1, .ref q0), (2, .ref q2), (3, .ref q3), (4, .int i)] → W p l e room_1 s m #[Value.ref b] below meth c H locs cl sl (lw_Z below #[Value.ref b] s) (F0 m 758 ls []) := by
        intro v1 v2 t u lo lf f H locs cl sl h1 h2 hP hD hS ls hl
        refine W.widen h1 h2 ?_
        obtain ⟨v_758, e_758⟩ : ∃ y : Int32, y = i + 7 := ⟨_, rfl⟩
        refine lv_iinc (v := v_758) (lv' := [(4, .int v_758), (0, .ref b), (1, .ref q0), (2, .ref q2), (3, .ref q3)]) hx hb d_law_758 hl (k := 4) rfl (by rw [e_758]; rfl) (by decide) rfl (fun ls hl => ?_)
        refine lv_goto (tgt := 23) hx hb d_law_761 (by decide) ?_
        exact ih (k + 1) (by omega) (by omega) v1 v2 t u lo lf f v_758 (by rw [e_758, hi]; exact (Int32.ofNat_add _ _).symm) H locs ls hP hD hS (lv_sub hl [1, 2, 3, 4, 0] rfl)
      obtain ⟨a0, ha_0⟩ : ∃ y, xs i.toNatClampNeg = y := ⟨_, rfl⟩
      have hin_0 := sc_in0 hL hi h7
      obtain ⟨a1, ha_1⟩ : ∃ y, xs (i + 1).toNatClampNeg = y := ⟨_, rfl⟩
      have hin_1 : vp_in (i + 1) L := sc_in (J := 1) hL hi h7 rfl (by decide)
      obtain ⟨a2, ha_2⟩ : ∃ y, xs (i + 2).toNatClampNeg = y := ⟨_, rfl⟩
      have hin_2 : vp_in (i + 2) L := sc_in (J := 2) hL hi h7 rfl (by decide)
      obtain ⟨a3, ha_3⟩ : ∃ y, xs (i + 3).toNatClampNeg = y := ⟨_, rfl⟩
      have hin_3 : vp_in (i + 3) L := sc_in (J := 3) hL hi h7 rfl (by decide)
      obtain ⟨a4, ha_4⟩ : ∃ y, xs (i + 4).toNatClampNeg = y := ⟨_, rfl⟩
      have hin_4 : vp_in (i + 4) L := sc_in (J := 4) hL hi h7 rfl (by decide)
      obtain ⟨a5, ha_5⟩ : ∃ y, xs (i + 5).toNatClampNeg = y := ⟨_, rfl⟩
      have hin_5 : vp_in (i + 5) L := sc_in (J := 5) hL hi h7 rfl (by decide)
      obtain ⟨a6, ha_6⟩ : ∃ y, xs (i + 6).toNatClampNeg = y := ⟨_, rfl⟩
      have hin_6 : vp_in (i + 6) L := sc_in (J := 6) hL hi h7 rfl (by decide)
      refine lv_aload_n hx hb d_law_33 rfl (lv_at hl 0 rfl) ?_
      refine lv_iload hx hb d_law_34 (lv_at hl 4 rfl) ?_
      refine sld hx hb hX hbl hbA hS hin_0 ha_0 d_law_36 ?_
      refine lv_bipush (v := 15) hx hb d_law_37 (by decide) ?_
      refine lv_iand hx hb d_law_39 ?_
      obtain ⟨j, hj, ej⟩ := and15 a0
      rw [ej]
      clear ej
      rcases (show j = 0 ∨ j = 1 ∨ j = 2 ∨ j = 3 ∨ j = 4 ∨ j = 5 ∨ j = 6 ∨ j = 7 ∨ j = 8 ∨ j = 9 ∨ j = 10 ∨ 11 ≤ j by omega) with rfl | rfl | rfl | rfl | rfl | rfl | rfl | rfl | rfl | rfl | rfl | hj2
      · refine lv_tableIn (off := 60) (tgt := 100) hx hb d_law_40 (by decide +kernel) (by decide +kernel) (by decide +kernel) (by decide +kernel) ?_
        refine lv_aload_n hx hb d_law_100 rfl (lv_at hl 1 rfl) ?_
        refine lv_aload_n hx hb d_law_101 rfl (lv_at hl 0 rfl) ?_
        refine lv_iload hx hb d_law_102 (lv_at hl 4 rfl) ?_
        refine lv_iconst (v := 1) hx hb d_law_104 (by decide) ?_
        refine lv_iadd hx hb d_law_105 ?_
        refine sld hx hb hX hbl hbA hS hin_1 ha_1 d_law_106 ?_
        refine lv_aload_n hx hb d_law_107 rfl (lv_at hl 0 rfl) ?_
        refine lv_iload hx hb d_law_108 (lv_at hl 4 rfl) ?_
        refine lv_iconst (v := 2) hx hb d_law_110 (by decide) ?_
        refine lv_iadd hx hb d_law_111 ?_
        refine sld hx hb hX hbl hbA hS hin_2 ha_2 d_law_112 ?_
        refine cv_i [.int a1, .int a2] 2 rfl (b := q0) (C := "FixedNumbers") (rest := []) hx hb hml hown hg (c_X_product l q0 a1 a2) (va_recv hK hP (ci := 0) (q0 := 0) rfl rfl) k_40 k_41 k_42 k_1 k_43 (by decide +kernel) hl.1 rfl rfl ⟨Nat.le_of_ble_eq_true rfl, Nat.le_of_ble_eq_true rfl⟩ rfl (Nat.le_of_ble_eq_true rfl) ⟨hc0, hs0⟩ d_law_113 (fun r_113 h_113 => ?_)
        refine lv_aload_n hx hb d_law_116 rfl (lv_at hl 2 rfl) ?_
        refine lv_aload_n hx hb d_law_117 rfl (lv_at hl 0 rfl) ?_
        refine lv_iload hx hb d_law_118 (lv_at hl 4 rfl) ?_
        refine lv_iconst (v := 1) hx hb d_law_120 (by decide) ?_
        refine lv_iadd hx hb d_law_121 ?_
        refine sld hx hb hX hbl hbA hS hin_1 ha_1 d_law_122 ?_
        refine lv_aload_n hx hb d_law_123 rfl (lv_at hl 0 rfl) ?_
        refine lv_iload hx hb d_law_124 (lv_at hl 4 rfl) ?_
        refine lv_iconst (v := 2) hx hb d_law_126 (by decide) ?_
        refine lv_iadd hx hb d_law_127 ?_
        refine sld hx hb hX hbl hbA hS hin_2 ha_2 d_law_128 ?_
        refine cL_i [.int a1, .int a2] 2 rfl (rest := [.int r_113]) hx hb hml hown hg hK hP hD hS hA (c_M_product l D q2 _ t u lo lf a1 a2) k_293 k_294 k_295 k_296 (by decide +kernel) hl.1 rfl rfl ⟨Nat.le_of_ble_eq_true rfl, Nat.le_of_ble_eq_true rfl⟩ rfl (Nat.le_of_ble_eq_true rfl) ⟨hc0, hs0⟩ d_law_129 (fun r_129 t2 u2 lo2 lf2 H locs h_129 hP hD hS => ?_)
        dsimp only at h_129
        refine lv_icmp_eq (tgt := 758) hx hb d_law_132 (by decide) (fun c_132 => ?_) (fun c_132 => ?_)
        · exact K _ _ _ _ _ _ _ _ _ _ _ (by omega) (by omega) hP hD hS ls (lv_sub hl [0, 1, 2, 3, 4] rfl)
        · exact absurd (h_113.trans h_129.2.symm) c_132
      · refine lv_tableIn (off := 97) (tgt := 137) hx hb d_law_40 (by decide +kernel) (by decide +kernel) (by decide +kernel) (by decide +kernel) ?_
        refine lv_aload_n hx hb d_law_137 rfl (lv_at hl 1 rfl) ?_
        refine lv_aload_n hx hb d_law_138 rfl (lv_at hl 0 rfl) ?_
        refine lv_iload hx hb d_law_139 (lv_at hl 4 rfl) ?_
        refine lv_iconst (v := 1) hx hb d_law_141 (by decide) ?_
        refine lv_iadd hx hb d_law_142 ?_
        refine sld hx hb hX hbl hbA hS hin_1 ha_1 d_law_143 ?_
        refine lv_aload_n hx hb d_law_144 rfl (lv_at hl 0 rfl) ?_
        refine lv_iload hx hb d_law_145 (lv_at hl 4 rfl) ?_
        refine lv_iconst (v := 2) hx hb d_law_147 (by decide) ?_
        refine lv_iadd hx hb d_law_148 ?_
        refine sld hx hb hX hbl hbA hS hin_2 ha_2 d_law_149 ?_
        refine cv_i [.int a1, .int a2] 2 rfl (b := q0) (C := "FixedNumbers") (rest := []) hx hb hml hown hg (c_X_quotient l q0 a1 a2) (va_recv hK hP (ci := 0) (q0 := 0) rfl rfl) k_44 k_45 k_46 k_1 k_47 (by decide +kernel) hl.1 rfl rfl ⟨Nat.le_of_ble_eq_true rfl, Nat.le_of_ble_eq_true rfl⟩ rfl (Nat.le_of_ble_eq_true rfl) ⟨hc0, hs0⟩ d_law_150 (fun r_150 h_150 => ?_)
        refine lv_aload_n hx hb d_law_153 rfl (lv_at hl 2 rfl) ?_
        refine lv_aload_n hx hb d_law_154 rfl (lv_at hl 0 rfl) ?_
        refine lv_iload hx hb d_law_155 (lv_at hl 4 rfl) ?_
        refine lv_iconst (v := 1) hx hb d_law_157 (by decide) ?_
        refine lv_iadd hx hb d_law_158 ?_
        refine sld hx hb hX hbl hbA hS hin_1 ha_1 d_law_159 ?_
        refine lv_aload_n hx hb d_law_160 rfl (lv_at hl 0 rfl) ?_
        refine lv_iload hx hb d_law_161 (lv_at hl 4 rfl) ?_
        refine lv_iconst (v := 2) hx hb d_law_163 (by decide) ?_
        refine lv_iadd hx hb d_law_164 ?_
        refine sld hx hb hX hbl hbA hS hin_2 ha_2 d_law_165 ?_
        refine cL_i [.int a1, .int a2] 2 rfl (rest := [.int r_150]) hx hb hml hown hg hK hP hD hS hA (c_M_quotient l D q2 _ t u lo lf a1 a2) k_298 k_299 k_300 k_301 (by decide +kernel) hl.1 rfl rfl ⟨Nat.le_of_ble_eq_true rfl, Nat.le_of_ble_eq_true rfl⟩ rfl (Nat.le_of_ble_eq_true rfl) ⟨hc0, hs0⟩ d_law_166 (fun r_166 t2 u2 lo2 lf2 H locs h_166 hP hD hS => ?_)
        dsimp only at h_166
        refine lv_icmp_eq (tgt := 758) hx hb d_law_169 (by decide) (fun c_169 => ?_) (fun c_169 => ?_)
        · exact K _ _ _ _ _ _ _ _ _ _ _ (by omega) (by omega) hP hD hS ls (lv_sub hl [0, 1, 2, 3, 4] rfl)
        · exact absurd (QS_uniq h_150 h_166.2) c_169
      · refine lv_tableIn (off := 134) (tgt := 174) hx hb d_law_40 (by decide +kernel) (by decide +kernel) (by decide +kernel) (by decide +kernel) ?_
        refine lv_aload_n hx hb d_law_174 rfl (lv_at hl 1 rfl) ?_
        refine lv_aload_n hx hb d_law_175 rfl (lv_at hl 0 rfl) ?_
        refine lv_iload hx hb d_law_176 (lv_at hl 4 rfl) ?_
        refine lv_iconst (v := 1) hx hb d_law_178 (by decide) ?_
        refine lv_iadd hx hb d_law_179 ?_
        refine sld hx hb hX hbl hbA hS hin_1 ha_1 d_law_180 ?_
        refine cv_i [.int a1] 1 rfl (b := q0) (C := "FixedNumbers") (rest := []) hx hb hml hown hg (c_X_root l q0 a1) (va_recv hK hP (ci := 0) (q0 := 0) rfl rfl) k_64 k_65 k_66 k_1 k_67 (by decide +kernel) hl.1 rfl rfl ⟨Nat.le_of_ble_eq_true rfl, Nat.le_of_ble_eq_true rfl⟩ rfl (Nat.le_of_ble_eq_true rfl) ⟨hc0, hs0⟩ d_law_181 (fun r_181 h_181 => ?_)
        refine lv_aload_n hx hb d_law_184 rfl (lv_at hl 2 rfl) ?_
        refine lv_aload_n hx hb d_law_185 rfl (lv_at hl 0 rfl) ?_
        refine lv_iload hx hb d_law_186 (lv_at hl 4 rfl) ?_
        refine lv_iconst (v := 1) hx hb d_law_188 (by decide) ?_
        refine lv_iadd hx hb d_law_189 ?_
        refine sld hx hb hX hbl hbA hS hin_1 ha_1 d_law_190 ?_
        refine cL_i [.int a1] 1 rfl (rest := [.int r_181]) hx hb hml hown hg hK hP hD hS hA (c_M_root l D q2 _ t u lo lf a1) k_309 k_310 k_311 k_312 (by decide +kernel) hl.1 rfl rfl ⟨Nat.le_of_ble_eq_true rfl, Nat.le_of_ble_eq_true rfl⟩ rfl (Nat.le_of_ble_eq_true rfl) ⟨hc0, hs0⟩ d_law_191 (fun r_191 t2 u2 lo2 lf2 H locs h_191 hP hD hS => ?_)
        dsimp only at h_191
        refine lv_icmp_eq (tgt := 758) hx hb d_law_194 (by decide) (fun c_194 => ?_) (fun c_194 => ?_)
        · exact K _ _ _ _ _ _ _ _ _ _ _ (by omega) (by omega) hP hD hS ls (lv_sub hl [0, 1, 2, 3, 4] rfl)
        · exact absurd (RT_uniq h_181 h_191.2) c_194
      · refine lv_tableIn (off := 159) (tgt := 199) hx hb d_law_40 (by decide +kernel) (by decide +kernel) (by decide +kernel) (by decide +kernel) ?_
        refine lv_aload_n hx hb d_law_199 rfl (lv_at hl 1 rfl) ?_
        refine lv_aload_n hx hb d_law_200 rfl (lv_at hl 0 rfl) ?_
        refine lv_iload hx hb d_law_201 (lv_at hl 4 rfl) ?_
        refine lv_iconst (v := 1) hx hb d_law_203 (by decide) ?_
        refine lv_iadd hx hb d_law_204 ?_
        refine sld hx hb hX hbl hbA hS hin_1 ha_1 d_law_205 ?_
        refine cv_i [.int a1] 1 rfl (b := q0) (C := "FixedNumbers") (rest := []) hx hb hml hown hg (c_X_oneByRoot l q0 a1) (va_recv hK hP (ci := 0) (q0 := 0) rfl rfl) k_79 k_80 k_81 k_1 k_82 (by decide +kernel) hl.1 rfl rfl ⟨Nat.le_of_ble_eq_true rfl, Nat.le_of_ble_eq_true rfl⟩ rfl (Nat.le_of_ble_eq_true rfl) ⟨hc0, hs0⟩ d_law_206 (fun r_206 h_206 => ?_)
        refine lv_aload_n hx hb d_law_209 rfl (lv_at hl 2 rfl) ?_
        refine lv_aload_n hx hb d_law_210 rfl (lv_at hl 0 rfl) ?_
        refine lv_iload hx hb d_law_211 (lv_at hl 4 rfl) ?_
        refine lv_iconst (v := 1) hx hb d_law_213 (by decide) ?_
        refine lv_iadd hx hb d_law_214 ?_
        refine sld hx hb hX hbl hbA hS hin_1 ha_1 d_law_215 ?_
        refine cL_i [.int a1] 1 rfl (rest := [.int r_206]) hx hb hml hown hg hK hP hD hS hA (c_M_oneByRoot l D q2 _ t u lo lf a1) k_315 k_316 k_317 k_318 (by decide +kernel) hl.1 rfl rfl ⟨Nat.le_of_ble_eq_true rfl, Nat.le_of_ble_eq_true rfl⟩ rfl (Nat.le_of_ble_eq_true rfl) ⟨hc0, hs0⟩ d_law_216 (fun r_216 t2 u2 lo2 lf2 H locs h_216 hP hD hS => ?_)
        dsimp only at h_216
        refine lv_icmp_eq (tgt := 758) hx hb d_law_219 (by decide) (fun c_219 => ?_) (fun c_219 => ?_)
        · exact K _ _ _ _ _ _ _ _ _ _ _ (by omega) (by omega) hP hD hS ls (lv_sub hl [0, 1, 2, 3, 4] rfl)
        · exact absurd (OR_u h_206 h_216.2) c_219
      · refine lv_tableIn (off := 184) (tgt := 224) hx hb d_law_40 (by decide +kernel) (by decide +kernel) (by decide +kernel) (by decide +kernel) ?_
        refine lv_aload_n hx hb d_law_224 rfl (lv_at hl 1 rfl) ?_
        refine lv_aload_n hx hb d_law_225 rfl (lv_at hl 0 rfl) ?_
        refine lv_iload hx hb d_law_226 (lv_at hl 4 rfl) ?_
        refine lv_iconst (v := 1) hx hb d_law_228 (by decide) ?_
        refine lv_iadd hx hb d_law_229 ?_
        refine sld hx hb hX hbl hbA hS hin_1 ha_1 d_law_230 ?_
        refine lv_i2l hx hb d_law_231 rfl ?_
        refine lv_bipush (v := 32) hx hb d_law_232 (by decide) ?_
        refine lv_lshl hx hb d_law_234 rfl ?_
        refine lv_aload_n hx hb d_law_235 rfl (lv_at hl 0 rfl) ?_
        refine lv_iload hx hb d_law_236 (lv_at hl 4 rfl) ?_
        refine lv_iconst (v := 2) hx hb d_law_238 (by decide) ?_
        refine lv_iadd hx hb d_law_239 ?_
        refine sld hx hb hX hbl hbA hS hin_2 ha_2 d_law_240 ?_
        refine lv_i2l hx hb d_law_241 rfl ?_
        refine lv_ldc2 (v := 4294967295) hx hb hown (hg _ k_373) d_law_242 ?_
        refine lv_land hx hb d_law_245 ?_
        refine lv_lor hx hb d_law_246 ?_
        refine lv_aload_n hx hb d_law_247 rfl (lv_at hl 0 rfl) ?_
        refine lv_iload hx hb d_law_248 (lv_at hl 4 rfl) ?_
        refine lv_iconst (v := 3) hx hb d_law_250 (by decide) ?_
        refine lv_iadd hx hb d_law_251 ?_
        refine sld hx hb hX hbl hbA hS hin_3 ha_3 d_law_252 ?_
        refine lv_i2l hx hb d_law_253 rfl ?_
        refine lv_bipush (v := 32) hx hb d_law_254 (by decide) ?_
        refine lv_lshl hx hb d_law_256 rfl ?_
        refine lv_aload_n hx hb d_law_257 rfl (lv_at hl 0 rfl) ?_
        refine lv_iload hx hb d_law_258 (lv_at hl 4 rfl) ?_
        refine lv_iconst (v := 4) hx hb d_law_260 (by decide) ?_
        refine lv_iadd hx hb d_law_261 ?_
        refine sld hx hb hX hbl hbA hS hin_4 ha_4 d_law_262 ?_
        refine lv_i2l hx hb d_law_263 rfl ?_
        refine lv_ldc2 (v := 4294967295) hx hb hown (hg _ k_373) d_law_264 ?_
        refine lv_land hx hb d_law_267 ?_
        refine lv_lor hx hb d_law_268 ?_
        refine lv_aload_n hx hb d_law_269 rfl (lv_at hl 0 rfl) ?_
        refine lv_iload hx hb d_law_270 (lv_at hl 4 rfl) ?_
        refine lv_iconst (v := 5) hx hb d_law_272 (by decide) ?_
        refine lv_iadd hx hb d_law_273 ?_
        refine sld hx hb hX hbl hbA hS hin_5 ha_5 d_law_274 ?_
        refine lv_i2l hx hb d_law_275 rfl ?_
        refine lv_bipush (v := 32) hx hb d_law_276 (by decide) ?_
        refine lv_lshl hx hb d_law_278 rfl ?_
        refine lv_aload_n hx hb d_law_279 rfl (lv_at hl 0 rfl) ?_
        refine lv_iload hx hb d_law_280 (lv_at hl 4 rfl) ?_
        refine lv_bipush (v := 6) hx hb d_law_282 (by decide) ?_
        refine lv_iadd hx hb d_law_284 ?_
        refine sld hx hb hX hbl hbA hS hin_6 ha_6 d_law_285 ?_
        refine lv_i2l hx hb d_law_286 rfl ?_
        refine lv_ldc2 (v := 4294967295) hx hb hown (hg _ k_373) d_law_287 ?_
        refine lv_land hx hb d_law_290 ?_
        refine lv_lor hx hb d_law_291 ?_
        refine lv_aload_n hx hb d_law_292 rfl (lv_at hl 3 rfl) ?_
        refine cW [.ref q0, .long (((Int32.toInt64 a1) <<< ((Int32.toInt64 32) &&& 63)) ||| ((Int32.toInt64 a2) &&& 4294967295)), .long (((Int32.toInt64 a3) <<< ((Int32.toInt64 32) &&& 63)) ||| ((Int32.toInt64 a4) &&& 4294967295)), .long (((Int32.toInt64 a5) <<< ((Int32.toInt64 32) &&& 63)) ||| ((Int32.toInt64 a6) &&& 4294967295)), .ref q3] 5 rfl (rest := []) hx hb hml hown hg hK hP hD hS hA hAs hex hnq hnf (c_L_ratio l hfl D q0 q1 q3 _ cJ v1 v2 f (((Int32.toInt64 a1) <<< ((Int32.toInt64 32) &&& 63)) ||| ((Int32.toInt64 a2) &&& 4294967295)) (((Int32.toInt64 a3) <<< ((Int32.toInt64 32) &&& 63)) ||| ((Int32.toInt64 a4) &&& 4294967295)) (((Int32.toInt64 a5) <<< ((Int32.toInt64 32) &&& 63)) ||| ((Int32.toInt64 a6) &&& 4294967295))) k_108 k_109 k_0 k_110 (by decide +kernel) hl.1 rfl rfl ⟨Nat.le_of_ble_eq_true rfl, Nat.le_of_ble_eq_true rfl⟩ rfl (Nat.le_of_ble_eq_true rfl) ⟨hc1, hs1⟩ d_law_293 (fun r_293 w1 w2 f2 H locs h_293 hP hD hS => ?_)
        dsimp only at h_293
        refine lv_istore (lv' := [(5, .int r_293), (0, .ref b), (1, .ref q0), (2, .ref q2), (3, .ref q3), (4, .int i)]) hx hb d_law_296 hl (by decide) rfl (fun ls hl => ?_)
        refine lv_aload_n hx hb d_law_298 rfl (lv_at hl 3 rfl) ?_
        refine lv_aload_n hx hb d_law_299 rfl (lv_at hl 1 rfl) ?_
        refine lv_iload hx hb d_law_300 (lv_at hl 5 rfl) ?_
        refine lv_iconst (v := 1) hx hb d_law_302 (by decide) ?_
        refine lv_iadd hx hb d_law_303 ?_
        refine sld hx hb hX hbl hbA hS hin_1 ha_1 d_law_304 ?_
        refine lv_i2l hx hb d_law_305 rfl ?_
        refine lv_bipush (v := 32) hx hb d_law_306 (by decide) ?_
        refine lv_lshl hx hb d_law_308 rfl ?_
        refine lv_aload_n hx hb d_law_309 rfl (lv_at hl 1 rfl) ?_
        refine lv_iload hx hb d_law_310 (lv_at hl 5 rfl) ?_
        refine lv_iconst (v := 2) hx hb d_law_312 (by decide) ?_
        refine lv_iadd hx hb d_law_313 ?_
        refine sld hx hb hX hbl hbA hS hin_2 ha_2 d_law_314 ?_
        refine lv_i2l hx hb d_law_315 rfl ?_
        refine lv_ldc2 (v := 4294967295) hx hb hown (hg _ k_373) d_law_316 ?_
        refine lv_land hx hb d_law_319 ?_
        refine lv_lor hx hb d_law_320 ?_
        refine lv_aload_n hx hb d_law_321 rfl (lv_at hl 1 rfl) ?_
        refine lv_iload hx hb d_law_322 (lv_at hl 5 rfl) ?_
        refine lv_iconst (v := 3) hx hb d_law_324 (by decide) ?_
        refine lv_iadd hx hb d_law_325 ?_
        refine sld hx hb hX hbl hbA hS hin_3 ha_3 d_law_326 ?_
        refine lv_i2l hx hb d_law_327 rfl ?_
        refine lv_bipush (v := 32) hx hb d_law_328 (by decide) ?_
        refine lv_lshl hx hb d_law_330 rfl ?_
        refine lv_aload_n hx hb d_law_331 rfl (lv_at hl 1 rfl) ?_
        refine lv_iload hx hb d_law_332 (lv_at hl 5 rfl) ?_
        refine lv_iconst (v := 4) hx hb d_law_334 (by decide) ?_
        refine lv_iadd hx hb d_law_335 ?_
        refine sld hx hb hX hbl hbA hS hin_4 ha_4 d_law_336 ?_
        refine lv_i2l hx hb d_law_337 rfl ?_
        refine lv_ldc2 (v := 4294967295) hx hb hown (hg _ k_373) d_law_338 ?_
        refine lv_land hx hb d_law_341 ?_
        refine lv_lor hx hb d_law_342 ?_
        refine lv_aload_n hx hb d_law_343 rfl (lv_at hl 1 rfl) ?_
        refine lv_iload hx hb d_law_344 (lv_at hl 5 rfl) ?_
        refine lv_iconst (v := 5) hx hb d_law_346 (by decide) ?_
        refine lv_iadd hx hb d_law_347 ?_
        refine sld hx hb hX hbl hbA hS hin_5 ha_5 d_law_348 ?_
        refine lv_i2l hx hb d_law_349 rfl ?_
        refine lv_bipush (v := 32) hx hb d_law_350 (by decide) ?_
        refine lv_lshl hx hb d_law_352 rfl ?_
        refine lv_aload_n hx hb d_law_353 rfl (lv_at hl 1 rfl) ?_
        refine lv_iload hx hb d_law_354 (lv_at hl 5 rfl) ?_
        refine lv_bipush (v := 6) hx hb d_law_356 (by decide) ?_
        refine lv_iadd hx hb d_law_358 ?_
        refine sld hx hb hX hbl hbA hS hin_6 ha_6 d_law_359 ?_
        refine lv_i2l hx hb d_law_360 rfl ?_
        refine lv_ldc2 (v := 4294967295) hx hb hown (hg _ k_373) d_law_361 ?_
        refine lv_land hx hb d_law_364 ?_
        refine lv_lor hx hb d_law_365 ?_
        refine cL_l [.long (((Int32.toInt64 a1) <<< ((Int32.toInt64 32) &&& 63)) ||| ((Int32.toInt64 a2) &&& 4294967295)), .long (((Int32.toInt64 a3) <<< ((Int32.toInt64 32) &&& 63)) ||| ((Int32.toInt64 a4) &&& 4294967295)), .long (((Int32.toInt64 a5) <<< ((Int32.toInt64 32) &&& 63)) ||| ((Int32.toInt64 a6) &&& 4294967295))] 3 rfl (rest := []) hx hb hml hown hg hK hP hD hS hA (c_M_ratio l D q2 _ t u lo lf (((Int32.toInt64 a1) <<< ((Int32.toInt64 32) &&& 63)) ||| ((Int32.toInt64 a2) &&& 4294967295)) (((Int32.toInt64 a3) <<< ((Int32.toInt64 32) &&& 63)) ||| ((Int32.toInt64 a4) &&& 4294967295)) (((Int32.toInt64 a5) <<< ((Int32.toInt64 32) &&& 63)) ||| ((Int32.toInt64 a6) &&& 4294967295))) k_320 k_321 k_322 k_323 (by decide +kernel) hl.1 rfl rfl ⟨Nat.le_of_ble_eq_true rfl, Nat.le_of_ble_eq_true rfl⟩ rfl (Nat.le_of_ble_eq_true rfl) ⟨hc1, hs1⟩ d_law_366 (fun r_366 t2 u2 lo2 lf2 H locs h_366 hP hD hS => ?_)
        dsimp only at h_366
        refine lv_lstore (lv' := [(6, .long r_366), (5, .int r_293), (0, .ref b), (1, .ref q0), (2, .ref q2), (3, .ref q3), (4, .int i)]) hx hb d_law_369 hl (by decide) rfl (fun ls hl => ?_)
        refine lv_aload_n hx hb d_law_371 rfl (lv_at hl 4 rfl) ?_
        refine cL_i [] 0 rfl (rest := []) hx hb hml hown hg hK hP hD hS hA (c_M_thrown l D q2 _ t2 u2 lo2 lf2 ) k_289 k_290 k_291 k_292 (by decide +kernel) hl.1 rfl rfl ⟨Nat.le_of_ble_eq_true rfl, Nat.le_of_ble_eq_true rfl⟩ rfl (Nat.le_of_ble_eq_true rfl) ⟨hc1, hs1⟩ d_law_372 (fun r_372 t3 u3 lo3 lf3 H locs h_372 hP hD hS => ?_)
        dsimp only at h_372
        have key := rat_ok h_293 h_366
        refine lv_iload hx hb d_law_375 (lv_at hl 1 rfl) ?_
        refine lv_icmp_eq (tgt := 382) hx hb d_law_377 (by decide) (fun c_377 => ?_) (fun c_377 => ?_)
        · refine lv_iload hx hb d_law_382 (lv_at hl 1 rfl) ?_
          refine lv_if_ne (tgt := 398) hx hb d_law_384 (by decide) (fun c_384 => ?_) (fun c_384 => ?_)
          · refine lv_goto (tgt := 758) hx hb d_law_398 (by decide) ?_
            exact K _ _ _ _ _ _ _ _ _ _ _ (by omega) (by omega) hP hD hS ls (lv_sub hl [2, 3, 4, 5, 6] rfl)
          · refine lv_aload_n hx hb d_law_387 rfl (lv_at hl 5 rfl) ?_
            refine lv_iconst (v := 0) hx hb d_law_388 (by decide) ?_
            refine va_lald hx hb hK hP 3 0 rfl rfl in01 d_law_389 ?_
            refine lv_lload hx hb d_law_390 (lv_at hl 0 rfl) ?_
            refine rl_eq (tgt := 398) hx hb d_law_392 d_law_393 (by decide) (fun c_392 => ?_) (fun c_392 => ?_)
            · refine lv_goto (tgt := 758) hx hb d_law_398 (by decide) ?_
              exact K _ _ _ _ _ _ _ _ _ _ _ (by omega) (by omega) hP hD hS ls (lv_sub hl [2, 3, 4, 5, 6] rfl)
            · exact absurd (key.2 c_384) c_392
        · exact absurd (h_372.1.trans key.1) c_377
      · refine lv_tableIn (off := 361) (tgt := 401) hx hb d_law_40 (by decide +kernel) (by decide +kernel) (by decide +kernel) (by decide +kernel) ?_
        refine lv_aload_n hx hb d_law_401 rfl (lv_at hl 1 rfl) ?_
        refine lv_aload_n hx hb d_law_402 rfl (lv_at hl 0 rfl) ?_
        refine lv_iload hx hb d_law_403 (lv_at hl 4 rfl) ?_
        refine lv_iconst (v := 1) hx hb d_law_405 (by decide) ?_
        refine lv_iadd hx hb d_law_406 ?_
        refine sld hx hb hX hbl hbA hS hin_1 ha_1 d_law_407 ?_
        refine lv_aload_n hx hb d_law_408 rfl (lv_at hl 0 rfl) ?_
        refine lv_iload hx hb d_law_409 (lv_at hl 4 rfl) ?_
        refine lv_iconst (v := 2) hx hb d_law_411 (by decide) ?_
        refine lv_iadd hx hb d_law_412 ?_
        refine sld hx hb hX hbl hbA hS hin_2 ha_2 d_law_413 ?_
        refine lv_aload_n hx hb d_law_414 rfl (lv_at hl 0 rfl) ?_
        refine lv_iload hx hb d_law_415 (lv_at hl 4 rfl) ?_
        refine lv_iconst (v := 3) hx hb d_law_417 (by decide) ?_
        refine lv_iadd hx hb d_law_418 ?_
        refine sld hx hb hX hbl hbA hS hin_3 ha_3 d_law_419 ?_
        refine lv_i2l hx hb d_law_420 rfl ?_
        refine lv_bipush (v := 32) hx hb d_law_421 (by decide) ?_
        refine lv_lshl hx hb d_law_423 rfl ?_
        refine lv_aload_n hx hb d_law_424 rfl (lv_at hl 0 rfl) ?_
        refine lv_iload hx hb d_law_425 (lv_at hl 4 rfl) ?_
        refine lv_iconst (v := 4) hx hb d_law_427 (by decide) ?_
        refine lv_iadd hx hb d_law_428 ?_
        refine sld hx hb hX hbl hbA hS hin_4 ha_4 d_law_429 ?_
        refine lv_i2l hx hb d_law_430 rfl ?_
        refine lv_ldc2 (v := 4294967295) hx hb hown (hg _ k_373) d_law_431 ?_
        refine lv_land hx hb d_law_434 ?_
        refine lv_lor hx hb d_law_435 ?_
        refine lv_aload_n hx hb d_law_436 rfl (lv_at hl 0 rfl) ?_
        refine lv_iload hx hb d_law_437 (lv_at hl 4 rfl) ?_
        refine lv_iconst (v := 5) hx hb d_law_439 (by decide) ?_
        refine lv_iadd hx hb d_law_440 ?_
        refine sld hx hb hX hbl hbA hS hin_5 ha_5 d_law_441 ?_
        refine lv_i2l hx hb d_law_442 rfl ?_
        refine lv_bipush (v := 32) hx hb d_law_443 (by decide) ?_
        refine lv_lshl hx hb d_law_445 rfl ?_
        refine lv_aload_n hx hb d_law_446 rfl (lv_at hl 0 rfl) ?_
        refine lv_iload hx hb d_law_447 (lv_at hl 4 rfl) ?_
        refine lv_bipush (v := 6) hx hb d_law_449 (by decide) ?_
        refine lv_iadd hx hb d_law_451 ?_
        refine sld hx hb hX hbl hbA hS hin_6 ha_6 d_law_452 ?_
        refine lv_i2l hx hb d_law_453 rfl ?_
        refine lv_ldc2 (v := 4294967295) hx hb hown (hg _ k_373) d_law_454 ?_
        refine lv_land hx hb d_law_457 ?_
        refine lv_lor hx hb d_law_458 ?_
        refine lv_aload_n hx hb d_law_459 rfl (lv_at hl 3 rfl) ?_
        refine cW [.ref q0, .int a1, .int a2, .long (((Int32.toInt64 a3) <<< ((Int32.toInt64 32) &&& 63)) ||| ((Int32.toInt64 a4) &&& 4294967295)), .long (((Int32.toInt64 a5) <<< ((Int32.toInt64 32) &&& 63)) ||| ((Int32.toInt64 a6) &&& 4294967295)), .ref q3] 6 rfl (rest := []) hx hb hml hown hg hK hP hD hS hA hAs hex hnq hnf (c_L_between l hfl D q0 q1 q3 _ cJ v1 v2 f a1 a2 (((Int32.toInt64 a3) <<< ((Int32.toInt64 32) &&& 63)) ||| ((Int32.toInt64 a4) &&& 4294967295)) (((Int32.toInt64 a5) <<< ((Int32.toInt64 32) &&& 63)) ||| ((Int32.toInt64 a6) &&& 4294967295))) k_229 k_230 k_0 k_231 (by decide +kernel) hl.1 rfl rfl ⟨Nat.le_of_ble_eq_true rfl, Nat.le_of_ble_eq_true rfl⟩ rfl (Nat.le_of_ble_eq_true rfl) ⟨hc2, hs2⟩ d_law_460 (fun r_460 w1 w2 f2 H locs h_460 hP hD hS => ?_)
        dsimp only at h_460
        refine lv_istore (lv' := [(5, .int r_460), (0, .ref b), (1, .ref q0), (2, .ref q2), (3, .ref q3), (4, .int i)]) hx hb d_law_463 hl (by decide) rfl (fun ls hl => ?_)
        refine lv_aload_n hx hb d_law_465 rfl (lv_at hl 3 rfl) ?_
        refine lv_aload_n hx hb d_law_466 rfl (lv_at hl 1 rfl) ?_
        refine lv_iload hx hb d_law_467 (lv_at hl 5 rfl) ?_
        refine lv_iconst (v := 1) hx hb d_law_469 (by decide) ?_
        refine lv_iadd hx hb d_law_470 ?_
        refine sld hx hb hX hbl hbA hS hin_1 ha_1 d_law_471 ?_
        refine lv_aload_n hx hb d_law_472 rfl (lv_at hl 1 rfl) ?_
        refine lv_iload hx hb d_law_473 (lv_at hl 5 rfl) ?_
        refine lv_iconst (v := 2) hx hb d_law_475 (by decide) ?_
        refine lv_iadd hx hb d_law_476 ?_
        refine sld hx hb hX hbl hbA hS hin_2 ha_2 d_law_477 ?_
        refine lv_aload_n hx hb d_law_478 rfl (lv_at hl 1 rfl) ?_
        refine lv_iload hx hb d_law_479 (lv_at hl 5 rfl) ?_
        refine lv_iconst (v := 3) hx hb d_law_481 (by decide) ?_
        refine lv_iadd hx hb d_law_482 ?_
        refine sld hx hb hX hbl hbA hS hin_3 ha_3 d_law_483 ?_
        refine lv_i2l hx hb d_law_484 rfl ?_
        refine lv_bipush (v := 32) hx hb d_law_485 (by decide) ?_
        refine lv_lshl hx hb d_law_487 rfl ?_
        refine lv_aload_n hx hb d_law_488 rfl (lv_at hl 1 rfl) ?_
        refine lv_iload hx hb d_law_489 (lv_at hl 5 rfl) ?_
        refine lv_iconst (v := 4) hx hb d_law_491 (by decide) ?_
        refine lv_iadd hx hb d_law_492 ?_
        refine sld hx hb hX hbl hbA hS hin_4 ha_4 d_law_493 ?_
        refine lv_i2l hx hb d_law_494 rfl ?_
        refine lv_ldc2 (v := 4294967295) hx hb hown (hg _ k_373) d_law_495 ?_
        refine lv_land hx hb d_law_498 ?_
        refine lv_lor hx hb d_law_499 ?_
        refine lv_aload_n hx hb d_law_500 rfl (lv_at hl 1 rfl) ?_
        refine lv_iload hx hb d_law_501 (lv_at hl 5 rfl) ?_
        refine lv_iconst (v := 5) hx hb d_law_503 (by decide) ?_
        refine lv_iadd hx hb d_law_504 ?_
        refine sld hx hb hX hbl hbA hS hin_5 ha_5 d_law_505 ?_
        refine lv_i2l hx hb d_law_506 rfl ?_
        refine lv_bipush (v := 32) hx hb d_law_507 (by decide) ?_
        refine lv_lshl hx hb d_law_509 rfl ?_
        refine lv_aload_n hx hb d_law_510 rfl (lv_at hl 1 rfl) ?_
        refine lv_iload hx hb d_law_511 (lv_at hl 5 rfl) ?_
        refine lv_bipush (v := 6) hx hb d_law_513 (by decide) ?_
        refine lv_iadd hx hb d_law_515 ?_
        refine sld hx hb hX hbl hbA hS hin_6 ha_6 d_law_516 ?_
        refine lv_i2l hx hb d_law_517 rfl ?_
        refine lv_ldc2 (v := 4294967295) hx hb hown (hg _ k_373) d_law_518 ?_
        refine lv_land hx hb d_law_521 ?_
        refine lv_lor hx hb d_law_522 ?_
        refine cL_i [.int a1, .int a2, .long (((Int32.toInt64 a3) <<< ((Int32.toInt64 32) &&& 63)) ||| ((Int32.toInt64 a4) &&& 4294967295)), .long (((Int32.toInt64 a5) <<< ((Int32.toInt64 32) &&& 63)) ||| ((Int32.toInt64 a6) &&& 4294967295))] 4 rfl (rest := []) hx hb hml hown hg hK hP hD hS hA (c_M_between l D q2 _ t u lo lf a1 a2 (((Int32.toInt64 a3) <<< ((Int32.toInt64 32) &&& 63)) ||| ((Int32.toInt64 a4) &&& 4294967295)) (((Int32.toInt64 a5) <<< ((Int32.toInt64 32) &&& 63)) ||| ((Int32.toInt64 a6) &&& 4294967295))) k_340 k_341 k_342 k_343 (by decide +kernel) hl.1 rfl rfl ⟨Nat.le_of_ble_eq_true rfl, Nat.le_of_ble_eq_true rfl⟩ rfl (Nat.le_of_ble_eq_true rfl) ⟨hc2, hs2⟩ d_law_523 (fun r_523 t2 u2 lo2 lf2 H locs h_523 hP hD hS => ?_)
        dsimp only at h_523
        refine lv_istore (lv' := [(6, .int r_523), (5, .int r_460), (0, .ref b), (1, .ref q0), (2, .ref q2), (3, .ref q3), (4, .int i)]) hx hb d_law_526 hl (by decide) rfl (fun ls hl => ?_)
        refine lv_aload_n hx hb d_law_528 rfl (lv_at hl 4 rfl) ?_
        refine cL_i [] 0 rfl (rest := []) hx hb hml hown hg hK hP hD hS hA (c_M_thrown l D q2 _ t2 u2 lo2 lf2 ) k_289 k_290 k_291 k_292 (by decide +kernel) hl.1 rfl rfl ⟨Nat.le_of_ble_eq_true rfl, Nat.le_of_ble_eq_true rfl⟩ rfl (Nat.le_of_ble_eq_true rfl) ⟨hc2, hs2⟩ d_law_529 (fun r_529 t3 u3 lo3 lf3 H locs h_529 hP hD hS => ?_)
        dsimp only at h_529
        have key := btw_ok h_460 h_523
        refine lv_iload hx hb d_law_532 (lv_at hl 1 rfl) ?_
        refine lv_icmp_eq (tgt := 539) hx hb d_law_534 (by decide) (fun c_534 => ?_) (fun c_534 => ?_)
        · refine lv_iload hx hb d_law_539 (lv_at hl 1 rfl) ?_
          refine lv_if_ne (tgt := 556) hx hb d_law_541 (by decide) (fun c_541 => ?_) (fun c_541 => ?_)
          · refine lv_goto (tgt := 758) hx hb d_law_556 (by decide) ?_
            exact K _ _ _ _ _ _ _ _ _ _ _ (by omega) (by omega) hP hD hS ls (lv_sub hl [2, 3, 4, 5, 6] rfl)
          · refine lv_aload_n hx hb d_law_544 rfl (lv_at hl 5 rfl) ?_
            refine lv_iconst (v := 0) hx hb d_law_545 (by decide) ?_
            refine va_lald hx hb hK hP 3 0 rfl rfl in01 d_law_546 ?_
            refine lv_iload hx hb d_law_547 (lv_at hl 0 rfl) ?_
            refine lv_i2l hx hb d_law_549 rfl ?_
            refine rl_eq (tgt := 556) hx hb d_law_550 d_law_551 (by decide) (fun c_550 => ?_) (fun c_550 => ?_)
            · refine lv_goto (tgt := 758) hx hb d_law_556 (by decide) ?_
              exact K _ _ _ _ _ _ _ _ _ _ _ (by omega) (by omega) hP hD hS ls (lv_sub hl [2, 3, 4, 5, 6] rfl)
            · exact absurd (key.2 c_541) c_550
        · exact absurd (h_529.1.trans key.1) c_534
      · refine lv_tableIn (off := 519) (tgt := 559) hx hb d_law_40 (by decide +kernel) (by decide +kernel) (by decide +kernel) (by decide +kernel) ?_
        refine lv_aload_n hx hb d_law_559 rfl (lv_at hl 1 rfl) ?_
        refine lv_aload_n hx hb d_law_560 rfl (lv_at hl 0 rfl) ?_
        refine lv_iload hx hb d_law_561 (lv_at hl 4 rfl) ?_
        refine lv_iconst (v := 1) hx hb d_law_563 (by decide) ?_
        refine lv_iadd hx hb d_law_564 ?_
        refine sld hx hb hX hbl hbA hS hin_1 ha_1 d_law_565 ?_
        refine cv_i [.int a1] 1 rfl (b := q0) (C := "FixedNumbers") (rest := []) hx hb hml hown hg (c_X_channel l q0 a1) (va_recv hK hP (ci := 0) (q0 := 0) rfl rfl) k_84 k_85 k_86 k_1 k_87 (by decide +kernel) hl.1 rfl rfl ⟨Nat.le_of_ble_eq_true rfl, Nat.le_of_ble_eq_true rfl⟩ rfl (Nat.le_of_ble_eq_true rfl) ⟨hc0, hs0⟩ d_law_566 (fun r_566 h_566 => ?_)
        refine lv_aload_n hx hb d_law_569 rfl (lv_at hl 2 rfl) ?_
        refine lv_aload_n hx hb d_law_570 rfl (lv_at hl 0 rfl) ?_
        refine lv_iload hx hb d_law_571 (lv_at hl 4 rfl) ?_
        refine lv_iconst (v := 1) hx hb d_law_573 (by decide) ?_
        refine lv_iadd hx hb d_law_574 ?_
        refine sld hx hb hX hbl hbA hS hin_1 ha_1 d_law_575 ?_
        refine cL_i [.int a1] 1 rfl (rest := [.int r_566]) hx hb hml hown hg hK hP hD hS hA (c_M_channel l D q2 _ t u lo lf a1) k_344 k_345 k_346 k_347 (by decide +kernel) hl.1 rfl rfl ⟨Nat.le_of_ble_eq_true rfl, Nat.le_of_ble_eq_true rfl⟩ rfl (Nat.le_of_ble_eq_true rfl) ⟨hc0, hs0⟩ d_law_576 (fun r_576 t2 u2 lo2 lf2 H locs h_576 hP hD hS => ?_)
        dsimp only at h_576
        refine lv_icmp_eq (tgt := 758) hx hb d_law_579 (by decide) (fun c_579 => ?_) (fun c_579 => ?_)
        · exact K _ _ _ _ _ _ _ _ _ _ _ (by omega) (by omega) hP hD hS ls (lv_sub hl [0, 1, 2, 3, 4] rfl)
        · exact absurd (CH_u h_566 h_576.2) c_579
      · refine lv_tableIn (off := 544) (tgt := 584) hx hb d_law_40 (by decide +kernel) (by decide +kernel) (by decide +kernel) (by decide +kernel) ?_
        refine lv_aload_n hx hb d_law_584 rfl (lv_at hl 1 rfl) ?_
        refine lv_aload_n hx hb d_law_585 rfl (lv_at hl 0 rfl) ?_
        refine lv_iload hx hb d_law_586 (lv_at hl 4 rfl) ?_
        refine lv_iconst (v := 1) hx hb d_law_588 (by decide) ?_
        refine lv_iadd hx hb d_law_589 ?_
        refine sld hx hb hX hbl hbA hS hin_1 ha_1 d_law_590 ?_
        refine lv_aload_n hx hb d_law_591 rfl (lv_at hl 3 rfl) ?_
        refine cW [.ref q0, .int a1, .ref q3] 3 rfl (rest := []) hx hb hml hown hg hK hP hD hS hA hAs hex hnq hnf (c_L_fixed l hfl D q0 q1 q3 _ cJ v1 v2 f a1) k_256 k_257 k_0 k_258 (by decide +kernel) hl.1 rfl rfl ⟨Nat.le_of_ble_eq_true rfl, Nat.le_of_ble_eq_true rfl⟩ rfl (Nat.le_of_ble_eq_true rfl) ⟨hc1, hs1⟩ d_law_592 (fun r_592 w1 w2 f2 H locs h_592 hP hD hS => ?_)
        dsimp only at h_592
        refine lv_istore (lv' := [(5, .int r_592), (0, .ref b), (1, .ref q0), (2, .ref q2), (3, .ref q3), (4, .int i)]) hx hb d_law_595 hl (by decide) rfl (fun ls hl => ?_)
        refine lv_aload_n hx hb d_law_597 rfl (lv_at hl 3 rfl) ?_
        refine lv_aload_n hx hb d_law_598 rfl (lv_at hl 1 rfl) ?_
        refine lv_iload hx hb d_law_599 (lv_at hl 5 rfl) ?_
        refine lv_iconst (v := 1) hx hb d_law_601 (by decide) ?_
        refine lv_iadd hx hb d_law_602 ?_
        refine sld hx hb hX hbl hbA hS hin_1 ha_1 d_law_603 ?_
        refine cL_i [.int a1] 1 rfl (rest := []) hx hb hml hown hg hK hP hD hS hA (c_M_fixed l D q2 _ t u lo lf a1) k_352 k_353 k_354 k_355 (by decide +kernel) hl.1 rfl rfl ⟨Nat.le_of_ble_eq_true rfl, Nat.le_of_ble_eq_true rfl⟩ rfl (Nat.le_of_ble_eq_true rfl) ⟨hc1, hs1⟩ d_law_604 (fun r_604 t2 u2 lo2 lf2 H locs h_604 hP hD hS => ?_)
        dsimp only at h_604
        refine lv_istore (lv' := [(6, .int r_604), (5, .int r_592), (0, .ref b), (1, .ref q0), (2, .ref q2), (3, .ref q3), (4, .int i)]) hx hb d_law_607 hl (by decide) rfl (fun ls hl => ?_)
        refine lv_aload_n hx hb d_law_609 rfl (lv_at hl 4 rfl) ?_
        refine cL_i [] 0 rfl (rest := []) hx hb hml hown hg hK hP hD hS hA (c_M_thrown l D q2 _ t2 u2 lo2 lf2 ) k_289 k_290 k_291 k_292 (by decide +kernel) hl.1 rfl rfl ⟨Nat.le_of_ble_eq_true rfl, Nat.le_of_ble_eq_true rfl⟩ rfl (Nat.le_of_ble_eq_true rfl) ⟨hc1, hs1⟩ d_law_610 (fun r_610 t3 u3 lo3 lf3 H locs h_610 hP hD hS => ?_)
        dsimp only at h_610
        have key := one_ok (fun _ _ => FXP_u) h_592 h_604
        refine lv_iload hx hb d_law_613 (lv_at hl 1 rfl) ?_
        refine lv_icmp_eq (tgt := 620) hx hb d_law_615 (by decide) (fun c_615 => ?_) (fun c_615 => ?_)
        · refine lv_iload hx hb d_law_620 (lv_at hl 1 rfl) ?_
          refine lv_if_ne (tgt := 637) hx hb d_law_622 (by decide) (fun c_622 => ?_) (fun c_622 => ?_)
          · refine lv_goto (tgt := 758) hx hb d_law_637 (by decide) ?_
            exact K _ _ _ _ _ _ _ _ _ _ _ (by omega) (by omega) hP hD hS ls (lv_sub hl [2, 3, 4, 5, 6] rfl)
          · refine lv_aload_n hx hb d_law_625 rfl (lv_at hl 5 rfl) ?_
            refine lv_iconst (v := 0) hx hb d_law_626 (by decide) ?_
            refine va_lald hx hb hK hP 3 0 rfl rfl in01 d_law_627 ?_
            refine lv_iload hx hb d_law_628 (lv_at hl 0 rfl) ?_
            refine lv_i2l hx hb d_law_630 rfl ?_
            refine rl_eq (tgt := 637) hx hb d_law_631 d_law_632 (by decide) (fun c_631 => ?_) (fun c_631 => ?_)
            · refine lv_goto (tgt := 758) hx hb d_law_637 (by decide) ?_
              exact K _ _ _ _ _ _ _ _ _ _ _ (by omega) (by omega) hP hD hS ls (lv_sub hl [2, 3, 4, 5, 6] rfl)
            · exact absurd (key.2 c_622) c_631
        · exact absurd (h_610.1.trans key.1) c_615
      · refine lv_tableIn (off := 600) (tgt := 640) hx hb d_law_40 (by decide +kernel) (by decide +kernel) (by decide +kernel) (by decide +kernel) ?_
        refine lv_aload_n hx hb d_law_640 rfl (lv_at hl 1 rfl) ?_
        refine lv_aload_n hx hb d_law_641 rfl (lv_at hl 0 rfl) ?_
        refine lv_iload hx hb d_law_642 (lv_at hl 4 rfl) ?_
        refine lv_iconst (v := 1) hx hb d_law_644 (by decide) ?_
        refine lv_iadd hx hb d_law_645 ?_
        refine sld hx hb hX hbl hbA hS hin_1 ha_1 d_law_646 ?_
        refine lv_aload_n hx hb d_law_647 rfl (lv_at hl 0 rfl) ?_
        refine lv_iload hx hb d_law_648 (lv_at hl 4 rfl) ?_
        refine lv_iconst (v := 2) hx hb d_law_650 (by decide) ?_
        refine lv_iadd hx hb d_law_651 ?_
        refine sld hx hb hX hbl hbA hS hin_2 ha_2 d_law_652 ?_
        refine lv_aload_n hx hb d_law_653 rfl (lv_at hl 3 rfl) ?_
        refine cW [.ref q0, .int a1, .int a2, .ref q3] 4 rfl (rest := []) hx hb hml hown hg hK hP hD hS hA hAs hex hnq hnf (c_L_shade l hfl D q0 q1 q3 _ cJ v1 v2 f a1 a2) k_263 k_264 k_0 k_265 (by decide +kernel) hl.1 rfl rfl ⟨Nat.le_of_ble_eq_true rfl, Nat.le_of_ble_eq_true rfl⟩ rfl (Nat.le_of_ble_eq_true rfl) ⟨hc1, hs1⟩ d_law_654 (fun r_654 w1 w2 f2 H locs h_654 hP hD hS => ?_)
        dsimp only at h_654
        refine lv_istore (lv' := [(5, .int r_654), (0, .ref b), (1, .ref q0), (2, .ref q2), (3, .ref q3), (4, .int i)]) hx hb d_law_657 hl (by decide) rfl (fun ls hl => ?_)
        refine lv_aload_n hx hb d_law_659 rfl (lv_at hl 3 rfl) ?_
        refine lv_aload_n hx hb d_law_660 rfl (lv_at hl 1 rfl) ?_
        refine lv_iload hx hb d_law_661 (lv_at hl 5 rfl) ?_
        refine lv_iconst (v := 1) hx hb d_law_663 (by decide) ?_
        refine lv_iadd hx hb d_law_664 ?_
        refine sld hx hb hX hbl hbA hS hin_1 ha_1 d_law_665 ?_
        refine lv_aload_n hx hb d_law_666 rfl (lv_at hl 1 rfl) ?_
        refine lv_iload hx hb d_law_667 (lv_at hl 5 rfl) ?_
        refine lv_iconst (v := 2) hx hb d_law_669 (by decide) ?_
        refine lv_iadd hx hb d_law_670 ?_
        refine sld hx hb hX hbl hbA hS hin_2 ha_2 d_law_671 ?_
        refine cL_i [.int a1, .int a2] 2 rfl (rest := []) hx hb hml hown hg hK hP hD hS hA (c_M_shade l D q2 _ t u lo lf a1 a2) k_356 k_357 k_358 k_359 (by decide +kernel) hl.1 rfl rfl ⟨Nat.le_of_ble_eq_true rfl, Nat.le_of_ble_eq_true rfl⟩ rfl (Nat.le_of_ble_eq_true rfl) ⟨hc1, hs1⟩ d_law_672 (fun r_672 t2 u2 lo2 lf2 H locs h_672 hP hD hS => ?_)
        dsimp only at h_672
        refine lv_istore (lv' := [(6, .int r_672), (5, .int r_654), (0, .ref b), (1, .ref q0), (2, .ref q2), (3, .ref q3), (4, .int i)]) hx hb d_law_675 hl (by decide) rfl (fun ls hl => ?_)
        refine lv_aload_n hx hb d_law_677 rfl (lv_at hl 4 rfl) ?_
        refine cL_i [] 0 rfl (rest := []) hx hb hml hown hg hK hP hD hS hA (c_M_thrown l D q2 _ t2 u2 lo2 lf2 ) k_289 k_290 k_291 k_292 (by decide +kernel) hl.1 rfl rfl ⟨Nat.le_of_ble_eq_true rfl, Nat.le_of_ble_eq_true rfl⟩ rfl (Nat.le_of_ble_eq_true rfl) ⟨hc1, hs1⟩ d_law_678 (fun r_678 t3 u3 lo3 lf3 H locs h_678 hP hD hS => ?_)
        dsimp only at h_678
        have key := one_ok (fun _ _ => SHP_u) h_654 h_672
        refine lv_iload hx hb d_law_681 (lv_at hl 1 rfl) ?_
        refine lv_icmp_eq (tgt := 688) hx hb d_law_683 (by decide) (fun c_683 => ?_) (fun c_683 => ?_)
        · refine lv_iload hx hb d_law_688 (lv_at hl 1 rfl) ?_
          refine lv_if_ne (tgt := 705) hx hb d_law_690 (by decide) (fun c_690 => ?_) (fun c_690 => ?_)
          · refine lv_goto (tgt := 758) hx hb d_law_705 (by decide) ?_
            exact K _ _ _ _ _ _ _ _ _ _ _ (by omega) (by omega) hP hD hS ls (lv_sub hl [2, 3, 4, 5, 6] rfl)
          · refine lv_aload_n hx hb d_law_693 rfl (lv_at hl 5 rfl) ?_
            refine lv_iconst (v := 0) hx hb d_law_694 (by decide) ?_
            refine va_lald hx hb hK hP 3 0 rfl rfl in01 d_law_695 ?_
            refine lv_iload hx hb d_law_696 (lv_at hl 0 rfl) ?_
            refine lv_i2l hx hb d_law_698 rfl ?_
            refine rl_eq (tgt := 705) hx hb d_law_699 d_law_700 (by decide) (fun c_699 => ?_) (fun c_699 => ?_)
            · refine lv_goto (tgt := 758) hx hb d_law_705 (by decide) ?_
              exact K _ _ _ _ _ _ _ _ _ _ _ (by omega) (by omega) hP hD hS ls (lv_sub hl [2, 3, 4, 5, 6] rfl)
            · exact absurd (key.2 c_690) c_699
        · exact absurd (h_678.1.trans key.1) c_683
      · refine lv_tableIn (off := 668) (tgt := 708) hx hb d_law_40 (by decide +kernel) (by decide +kernel) (by decide +kernel) (by decide +kernel) ?_
        refine lv_aload_n hx hb d_law_708 rfl (lv_at hl 1 rfl) ?_
        refine lv_aload_n hx hb d_law_709 rfl (lv_at hl 0 rfl) ?_
        refine lv_iload hx hb d_law_710 (lv_at hl 4 rfl) ?_
        refine lv_iconst (v := 1) hx hb d_law_712 (by decide) ?_
        refine lv_iadd hx hb d_law_713 ?_
        refine sld hx hb hX hbl hbA hS hin_1 ha_1 d_law_714 ?_
        refine cv_i [.int a1] 1 rfl (b := q0) (C := "FixedNumbers") (rest := []) hx hb hml hown hg (c_X_fromHalf l q0 a1) (va_recv hK hP (ci := 0) (q0 := 0) rfl rfl) k_96 k_97 k_98 k_1 k_99 (by decide +kernel) hl.1 rfl rfl ⟨Nat.le_of_ble_eq_true rfl, Nat.le_of_ble_eq_true rfl⟩ rfl (Nat.le_of_ble_eq_true rfl) ⟨hc0, hs0⟩ d_law_715 (fun r_715 h_715 => ?_)
        refine lv_aload_n hx hb d_law_718 rfl (lv_at hl 2 rfl) ?_
        refine lv_aload_n hx hb d_law_719 rfl (lv_at hl 0 rfl) ?_
        refine lv_iload hx hb d_law_720 (lv_at hl 4 rfl) ?_
        refine lv_iconst (v := 1) hx hb d_law_722 (by decide) ?_
        refine lv_iadd hx hb d_law_723 ?_
        refine sld hx hb hX hbl hbA hS hin_1 ha_1 d_law_724 ?_
        refine cL_i [.int a1] 1 rfl (rest := [.int r_715]) hx hb hml hown hg hK hP hD hS hA (c_M_fromHalf l D q2 _ t u lo lf a1) k_360 k_361 k_362 k_363 (by decide +kernel) hl.1 rfl rfl ⟨Nat.le_of_ble_eq_true rfl, Nat.le_of_ble_eq_true rfl⟩ rfl (Nat.le_of_ble_eq_true rfl) ⟨hc0, hs0⟩ d_law_725 (fun r_725 t2 u2 lo2 lf2 H locs h_725 hP hD hS => ?_)
        dsimp only at h_725
        refine lv_icmp_eq (tgt := 758) hx hb d_law_728 (by decide) (fun c_728 => ?_) (fun c_728 => ?_)
        · exact K _ _ _ _ _ _ _ _ _ _ _ (by omega) (by omega) hP hD hS ls (lv_sub hl [0, 1, 2, 3, 4] rfl)
        · exact absurd (FH_u h_715 h_725.2) c_728
      · refine lv_tableIn (off := 693) (tgt := 733) hx hb d_law_40 (by decide +kernel) (by decide +kernel) (by decide +kernel) (by decide +kernel) ?_
        refine lv_aload_n hx hb d_law_733 rfl (lv_at hl 1 rfl) ?_
        refine lv_aload_n hx hb d_law_734 rfl (lv_at hl 0 rfl) ?_
        refine lv_iload hx hb d_law_735 (lv_at hl 4 rfl) ?_
        refine lv_iconst (v := 1) hx hb d_law_737 (by decide) ?_
        refine lv_iadd hx hb d_law_738 ?_
        refine sld hx hb hX hbl hbA hS hin_1 ha_1 d_law_739 ?_
        refine cv_i [.int a1] 1 rfl (b := q0) (C := "FixedNumbers") (rest := []) hx hb hml hown hg (c_X_toHalf l q0 a1) (va_recv hK hP (ci := 0) (q0 := 0) rfl rfl) k_100 k_101 k_102 k_1 k_103 (by decide +kernel) hl.1 rfl rfl ⟨Nat.le_of_ble_eq_true rfl, Nat.le_of_ble_eq_true rfl⟩ rfl (Nat.le_of_ble_eq_true rfl) ⟨hc0, hs0⟩ d_law_740 (fun r_740 h_740 => ?_)
        refine lv_aload_n hx hb d_law_743 rfl (lv_at hl 2 rfl) ?_
        refine lv_aload_n hx hb d_law_744 rfl (lv_at hl 0 rfl) ?_
        refine lv_iload hx hb d_law_745 (lv_at hl 4 rfl) ?_
        refine lv_iconst (v := 1) hx hb d_law_747 (by decide) ?_
        refine lv_iadd hx hb d_law_748 ?_
        refine sld hx hb hX hbl hbA hS hin_1 ha_1 d_law_749 ?_
        refine cL_i [.int a1] 1 rfl (rest := [.int r_740]) hx hb hml hown hg hK hP hD hS hA (c_M_toHalf l D q2 _ t u lo lf a1) k_368 k_369 k_370 k_371 (by decide +kernel) hl.1 rfl rfl ⟨Nat.le_of_ble_eq_true rfl, Nat.le_of_ble_eq_true rfl⟩ rfl (Nat.le_of_ble_eq_true rfl) ⟨hc0, hs0⟩ d_law_750 (fun r_750 t2 u2 lo2 lf2 H locs h_750 hP hD hS => ?_)
        dsimp only at h_750
        refine lv_icmp_eq (tgt := 758) hx hb d_law_753 (by decide) (fun c_753 => ?_) (fun c_753 => ?_)
        · exact K _ _ _ _ _ _ _ _ _ _ _ (by omega) (by omega) hP hD hS ls (lv_sub hl [0, 1, 2, 3, 4] rfl)
        · exact absurd (TH_uniq h_740 h_750.2) c_753
      · refine lv_tableOut (tgt := 758) hx hb d_law_40 (Or.inr (sw_hi hj hj2)) (by decide +kernel) ?_
        exact K _ _ _ _ _ _ _ _ _ _ _ (by omega) (by omega) hP hD hS ls (lv_sub hl [0, 1, 2, 3, 4] rfl)
end
section
theorem exw_of {s : State} {b : Nat} (hts : ∀ w ∈ lw_tbl, w.before #[Value.ref b] s = true) (hgv : (Jvm.Cond.and given_1 narrow_1).before #[Value.ref b] s = true) : exw s := by
  have hs := flat_of_before _ hgv
  intro w hw
  have key : w ∈ lw_tbl ∨ w = .isRef (.static nTH "UNASSIGNED_STACK" "[Ljava/lang/StackTraceElement;") ∨ w = .isRef (.static nTH "SUPPRESSED_SENTINEL" "Ljava/util/List;") := by
    have h : ∀ w ∈ exL, w ∈ lw_tbl ∨ w = .isRef (.static nTH "UNASSIGNED_STACK" "[Ljava/lang/StackTraceElement;") ∨ w = .isRef (.static nTH "SUPPRESSED_SENTINEL" "Ljava/util/List;") := by decide +kernel
    exact h w hw
  have h1 : w.before #[Value.ref b] s = true := by
    rcases key with h | h | h
    · exact hts w h
    · rw [h]; exact hs _ (by decide +kernel)
    · rw [h]; exact hs _ (by decide +kernel)
  simp only [exL, List.mem_cons, List.not_mem_nil, or_false] at hw
  rcases hw with rfl | rfl | rfl | rfl | rfl | rfl | rfl | rfl | rfl <;> exact h1
set_option maxHeartbeats 4000000 in
set_option maxRecDepth 100000 in
/-- the law, from its entry -/
theorem whole_start {p : Program} {e : Env} {s : State} {m : MethodId} {below : List Frame} {meth : Method} {c : Code} (l : Launch) (hfl : l.flags = flags0) {b L : Nat} {xs : Nat → Int32} (hL : L ≤ 3584) (C0 : lw_At p s m meth c b L xs) : W p l e room_1 s m #[Value.ref b] below meth c s.heap [] 0 0 (lw_Z below #[Value.ref b] s) (entryFrame m ([Value.ref b] : List Value).toArray 8) := by
  obtain ⟨hx, hb, hr, hml, hown0, hts, hX, hbl, hlocks, hgv⟩ := id C0
  have hown : s.vm.findClass "FixedNumbersLaw" = some m.cls := hown0
  have hg : ∀ w ∈ lw_gd, w.before #[Value.ref b] s = true := fun w h => hts w (gd_tbl h)
  have hA : ∀ q : Nat, s.heap.size ≤ q → (fun q : Nat => s.heap.size ≤ q) q := fun _ h => h
  have hex := exw_of hts hgv
  have hnq : va_Nw nq s := va_Nw.of rfl (hts _ (by decide +kernel))
  have hnf : va_Nw nf s := va_Nw.of rfl (hts _ (by decide +kernel))
  have hnD : va_Nw nD s := va_Nw.of rfl (hts _ (by decide +kernel))
  obtain ⟨c0, iS0, hKn0⟩ := u_known (C := "FixedNumbers") (T := F_X) (N := 1) (n := 1) hg i_X (hg _ k_14)
  obtain ⟨c1, iS1, hKn1⟩ := u_known (C := "FixedNumbers$Division") (T := F_D) (N := 2) (n := 2) hg i_D (hg _ k_22)
  obtain ⟨c2, iS2, hKn2⟩ := u_known (C := "FixedNumbersModel") (T := F_M) (N := 4) (n := 4) hg i_M (hg _ k_271)
  obtain ⟨D, hKc⟩ : ∃ D : va_G, ∀ (k : Nat) (q : vw_C), classes[k]? = some q → u_Kn s q.1 q.2.1 q.2.2 (D.1 k) (D.2 k) := by
    refine ⟨(fun k => if k = 0 then c0 else if k = 1 then c1 else c2, fun k => if k = 0 then iS0 else if k = 1 then iS1 else iS2), ?_⟩
    intro k q hq
    match k, hq with
    | 0, hq => cases hq; exact hKn0
    | 1, hq => cases hq; exact hKn1
    | 2, hq => cases hq; exact hKn2
    | k + 3, hq => simp [classes] at hq
  have hS : va_S (fun q : Nat => s.heap.size ≤ q) s.heap s.heap [] := va_S.rf
  have hK : va_K D classes [] s := ⟨hKc, fun k q h => by simp at h⟩
  have hP : va_P D classes [] s.heap := fun k q h => by simp at h
  have hD : va_D (fun q : Nat => s.heap.size ≤ q) [] := ⟨fun i j p q h => by simp at h, fun k q h => by simp at h⟩
  have hl := lv_entry ([.ref b]) (n := 8) (Nat.le_of_ble_eq_true rfl)
  rw [lg_entry_eq]
  generalize (lg_sl ([.ref b]) ++ List.replicate (8 - (lg_sl ([.ref b])).length) Slot.unset).toArray = ls at hl ⊢
  have hl : lv_has ls 8 [(0, .ref b)] := hl
  -- the class's object
  refine va_new (ci := 0) (fs := [.null]) (C := "FixedNumbers") (T := F_X) (N := 1) hx hb hg i_X t_X t_X_ok hown (hg _ k_13) (hg _ k_14) (hg _ k_1) hK hP hD hS hA rfl (fun j hj => by rcases (show j = 0 by omega) with rfl; rfl) (Nat.le_of_ble_eq_true rfl) (Nat.le_of_ble_eq_true rfl) d_law_0 (fun q0 H hP hD hS => ?_)
  have hP : va_P D classes [(q0, .inr (0, [.null]))] H := hP
  have hD : va_D (fun q : Nat => s.heap.size ≤ q) [(q0, .inr (0, [.null]))] := hD
  refine lv_dup hx hb d_law_3 rfl ?_
  have hFc := va_free (wc := [(q0, .inr (0, [.null]))]) hD hS hA [0] rfl
  refine va_callv (va_runI (As := []) (rest := [.ref q0]) ⟨hx, hb, hml, hown, hg⟩ (c_X_init l D q0 H.size .null) (cwI 0 hg (gi_w k_17) rfl rfl rfl (hg _ k_1) (hg _ k_15) (hg _ k_16) rfl (by decide +kernel) ⟨Nat.le_of_ble_eq_true rfl, Nat.le_of_ble_eq_true rfl⟩) ⟨fun a U g mk q => by obtain ⟨q0, q1, qP, qK, qD, qN⟩ := q; exact ⟨q0, q1, qP, va_K.moved (u := U) (U := U.calling g mk a) (Vm.Alike.refl U.vm) qK, qD, va_Nw.same rfl (u := U) rfl qN⟩, fun U hU hW => ⟨rfl, by rw [hU], by rw [hU]; exact hP, va_K.moved hW.alike hK, hD.weaken (fun _ _ _ _ => trivial), va_Nw.warmM hW hnD⟩⟩ rfl rfl hl.1 rfl (lv_room (Nat.le_of_ble_eq_true rfl)) d_law_4 ⟨Nat.le_of_ble_eq_true rfl, Nat.le_of_ble_eq_true rfl⟩) hS (fun q _ h => hFc q h) hFc (fun w t H1 locs ht hvm hw hB hz1 hk1 hS => ?_)
  obtain ⟨q1, hP1, hD1⟩ := hB
  rw [ht] at hP1
  obtain ⟨hP, hD⟩ := va_join (wr := []) (w1 := Xw q0 q1 (.long 0) (.long 0)) hP hD [0] [] rfl rfl (by decide) (by decide) hk1 hFc hP1 hD1
  have hP : va_P D classes (Xw q0 q1 (.long 0) (.long 0)) H1 := hP
  have hD : va_D (fun q : Nat => s.heap.size ≤ q) (Xw q0 q1 (.long 0) (.long 0)) := hD
  refine lv_astore_n (lv' := [(1, .ref q0), (0, .ref b)]) hx hb d_law_7 rfl hl (by decide) rfl (fun ls hl => ?_)
  -- the reference
  refine va_new (ci := 2) (fs := [.int 0, .long 0, .long 0, .long 0]) (C := "FixedNumbersModel") (T := F_M) (N := 4) hx hb hg i_M t_M t_M_ok hown (hg _ k_270) (hg _ k_271) (hg _ k_3) hK hP hD hS hA rfl (fun j hj => by rcases (show j = 0 ∨ j = 1 ∨ j = 2 ∨ j = 3 by omega) with rfl | rfl | rfl | rfl <;> rfl) (Nat.le_of_ble_eq_true rfl) (Nat.le_of_ble_eq_true rfl) d_law_8 (fun q2 H hP hD hS => ?_)
  have hP : va_P D classes [(q0, .inr (0, [.ref q1])), (q1, .inr (1, [.long 0, .long 0])), (q2, .inr (2, [.int 0, .long 0, .long 0, .long 0]))] H := hP
  have hD : va_D (fun q : Nat => s.heap.size ≤ q) [(q0, .inr (0, [.ref q1])), (q1, .inr (1, [.long 0, .long 0])), (q2, .inr (2, [.int 0, .long 0, .long 0, .long 0]))] := hD
  refine lv_dup hx hb d_law_11 rfl ?_
  have hPc := hP.sub (ws' := Mw q2 0 0 0 0) [2] rfl
  have hDc := hD.sub (ws' := Mw q2 0 0 0 0) [2] (by decide) rfl
  have hFc := va_free (wc := Mw q2 0 0 0 0) hD hS hA [2] rfl
  refine va_callv (va_runI (As := []) (rest := [.ref q2]) ⟨hx, hb, hml, hown, hg⟩ (c_M_init l D q2 H.size 0 0 0 0) (cwI 0 hg (gi_w k_274) rfl rfl rfl (hg _ k_3) (hg _ k_272) (hg _ k_273) rfl (by decide +kernel) ⟨Nat.le_of_ble_eq_true rfl, Nat.le_of_ble_eq_true rfl⟩) ⟨fun a U g mk q => by obtain ⟨q0, q1, qP, qK, qD⟩ := q; exact ⟨q0, q1, qP, va_K.moved (u := U) (U := U.calling g mk a) (Vm.Alike.refl U.vm) qK, qD⟩, fun U hU hW => ⟨rfl, by rw [hU], by rw [hU]; exact hPc, va_K.moved hW.alike hK, hDc.weaken (fun _ _ _ _ => trivial)⟩⟩ rfl rfl hl.1 rfl (lv_room (Nat.le_of_ble_eq_true rfl)) d_law_12 ⟨Nat.le_of_ble_eq_true rfl, Nat.le_of_ble_eq_true rfl⟩) hS (fun q _ h => hFc q h) hFc (fun w t H1 locs ht hvm hw hB hz1 hk1 hS => ?_)
  obtain ⟨hP1, hK1, hD1⟩ := hB
  subst hw
  rw [ht] at hP1
  obtain ⟨hP, hD⟩ := va_join (wr := Xw q0 q1 (.long 0) (.long 0)) (w1 := Mw q2 0 0 0 0) hP hD [2] [0, 1] rfl rfl (by decide) (by decide) hk1 hFc hP1 hD1
  have hP : va_P D classes [(q0, .inr (0, [.ref q1])), (q1, .inr (1, [.long 0, .long 0])), (q2, .inr (2, [.int 0, .long 0, .long 0, .long 0]))] H1 := hP
  have hD : va_D (fun q : Nat => s.heap.size ≤ q) [(q0, .inr (0, [.ref q1])), (q1, .inr (1, [.long 0, .long 0])), (q2, .inr (2, [.int 0, .long 0, .long 0, .long 0]))] := hD
  refine lv_astore_n (lv' := [(2, .ref q2), (1, .ref q0), (0, .ref b)]) hx hb d_law_15 rfl hl (by decide) rfl (fun ls hl => ?_)
  -- the array
  refine lv_iconst (v := 1) hx hb d_law_16 (by decide) ?_
  refine va_newa (atype := .long) (ty := .long) (a0 := (1, .inr (.inl (fun _ => 0)))) (N' := 1) hx hb (hg _ k_374) rfl hK hP hD hS hA (fun cA => rfl) (by decide) (by decide) (by decide) (Nat.le_of_ble_eq_true rfl) (Nat.le_of_ble_eq_true rfl) d_law_17 (fun q3 cJ H hK hP hD hS => ?_)
  have hK : va_K D classes [(cJ, .long)] s := hK
  have hP : va_P D classes (LW q0 q1 q2 q3 cJ (.long 0) (.long 0) 0 0 0 0 (fun _ => 0)) H := hP
  have hD : va_D (fun q : Nat => s.heap.size ≤ q) (LW q0 q1 q2 q3 cJ (.long 0) (.long 0) 0 0 0 0 (fun _ => 0)) := hD
  refine lv_astore_n (lv' := [(3, .ref q3), (2, .ref q2), (1, .ref q0), (0, .ref b)]) hx hb d_law_19 rfl hl (by decide) rfl (fun ls hl => ?_)
  refine lv_iconst (v := 0) hx hb d_law_20 (by decide) ?_
  refine lv_istore (lv' := [(4, .int 0), (3, .ref q3), (2, .ref q2), (1, .ref q0), (0, .ref b)]) hx hb d_law_21 hl (by decide) rfl (fun ls hl => ?_)
  refine W.widen (k := 4 + 2 * 0) (n := 8 + 12 * 0) (Nat.le_of_ble_eq_true rfl) (Nat.le_of_ble_eq_true rfl) ?_
  exact law_loop l hfl hL C0 hex hnq hnf D q0 q1 q2 q3 cJ hK (L + 7) 0 (by omega) (by omega) _ _ _ _ _ _ _ 0 rfl H _ ls hP hD hS (lv_sub hl [4, 3, 2, 1, 0] rfl)
set_option maxHeartbeats 4000000 in
theorem lw_walk (l : Launch) (hfl : l.flags = flags0) (b : Addr) (xs : List Int32) : MetFree l x (headSpec (Jvm.Cond.code x code maxLocals ret :: tables_1) room_1) (lw_P b xs) (fun _ _ _ _ _ => True) lw_Q := by
  refine MetFree.of_bodyS (code := code) (maxLocals := maxLocals) (ret := ret) (by decide) ?_ ?_
  · intro args s m h hn
    obtain ⟨meth, c, h1, h2, h3, h4, h5, h6, -, -⟩ := Cond.code_spec hn (atoms_spec (ws := Jvm.Cond.code x code maxLocals ret :: tables_1) h _ List.mem_cons_self)
    exact ⟨meth, c, h1, h2, h3, h4, h5, h6⟩
  · intro p e s m args below meth c s₁ B hml0 hP _
    obtain ⟨rfl, hx, hbd, hgv⟩ := hP
    obtain ⟨scr, harrAt, hlist, hof, hsmall⟩ := hx
    obtain ⟨hcb, hkn, -, -⟩ := State.arrayAt?_spec harrAt
    have hown : s.vm.findClass R_law = some m.cls := findClass_of_methodNamed B.named
    have hts0 : ∀ c ∈ (Jvm.Cond.code x code maxLocals ret :: tables_1), c.before #[Value.ref b] s = true := atoms_spec (ws := Jvm.Cond.code x code maxLocals ret :: tables_1) B.pre
    have hts : ∀ w ∈ lw_tbl, w.before #[Value.ref b] s = true := k2_hts_sels lw_privs (fun w hw => hts0 w (List.mem_cons_of_mem _ hw)) lw_privs_ok
    have hml : c.maxLocals = 8 := B.maxLocals_eq (hts0 _ List.mem_cons_self)
    have X₀ : Stand p l e room_1 s m #[Value.ref b] below meth c s₁ [] 0 0 := Stand.of_body B
    have hh0 : s₁.heap = s.heap := by rw [B.state]; rfl
    have hsz : scr.slots.size = xs.length := by rw [← Array.length_toList, hlist, List.length_map]
    have hval : ∀ j : Nat, j < xs.length → scr.slots[j]? = some (.int (xs.getD j 0)) := fun j hj => by
      rw [← Array.getElem?_toList, hlist]
      simp [hj]
    have hbl : b < s.heap.size := (Array.getElem?_eq_some_iff.mp hcb).1
    have hX : va_X b xs.length (fun j => xs.getD j 0) s s.heap := ⟨scr, hcb, hof, hkn, hsz, hval⟩
    have K : W p l e room_1 s m #[Value.ref b] below meth c s₁.heap [] 0 0 (lw_Z below #[Value.ref b] s) (entryFrame m ([Value.ref b] : List Value).toArray 8) := by
      rw [hh0]
      exact whole_start l hfl hbd ⟨B.exec, B.bytes, B.returns, hml, hown, hts, hX, hbl, B.notSynchronized, hgv⟩
    obtain ⟨t, a1, o, b1, b2, b3⟩ := K s₁ rfl X₀
    exact ⟨t, o, a1, b1, b2, b3⟩
theorem lw_pre_spec {args : Array Value} {s : State} (h : (Jvm.Cond.and given_1 narrow_1).before args s = true) (hr : rest_1_c.before args s = true) : ∃ (b : Addr) (xs : List Int32), lw_P b xs args s := by
  have hs := flat_of_before _ h
  have hq := flat_of_before _ hr
  have hc : (Cond.count 1).before args s = true := hs _ (by decide +kernel)
  have harr : (Cond.arrayOf (.arg 0) .int).before args s = true := hs _ (by decide +kernel)
  have hle : (Cond.le (.length (.arg 0)) (.int 3584)).before args s = true := hs _ (by decide +kernel)
  have hlen : (Cond.isInt (.length (.arg 0))).before args s = true := hq _ (by decide +kernel)
  have hall : (Cond.all (.arg 0) (.isInt (.elem (.arg 0) (.index 0)))).before args s = true := hq _ (by decide +kernel)
  obtain ⟨b, xs, hb, hx⟩ := State.ints_of_pre rfl harr hlen hall
  have hsm : xs.length < 2 ^ 31 := hx.choose_spec.2.2.2
  have hev : (Term.length (.arg 0)).eval args s none [] s = some (.int xs.length.toInt32) := hx.length_eval hb
  have hv := Cond.le_ints hev (show (Term.int 3584).eval args s none [] s = some (.int 3584) from rfl)
  have hd : xs.length.toInt32 ≤ 3584 := by
    simpa [Cond.before, Cond.holds, hv] using hle
  have hN : xs.length ≤ 3584 := (Int32.ofNat_le_ofNat hsm (by decide)).mp (show Int32.ofNat xs.length ≤ Int32.ofNat 3584 from hd)
  exact ⟨b, xs, Cond.one_arg hc (show args[0]? = some (.ref b) from hb), hx, hN, h⟩
theorem lw_comes (l : Launch) (hfl : l.flags = flags0) : Comes l x (Jvm.Cond.code x code maxLocals ret :: tables_1) room_1 (fun tb e args s => Calls_1 tb e args s ∧ rest_1 tb e args s ∧ Pre_1 tb e args s)
    (fun _ _ args s o t => lw_Q args s o t) := by
  intro p e ha hc hk s m args below hf hfit hheap happ hpre
  obtain ⟨b, xs, hP⟩ := lw_pre_spec hpre.2.2 hpre.2.1
  obtain ⟨k, o, h1, h2, h3, hQ⟩ := lw_walk l hfl b xs p e ha hc hk s m args below hf ((Spec.applies_iff_loose hf).mp happ).1 hP trivial
  exact ⟨k, o, h1, h2, h3, hQ⟩
theorem lw_frame {s t : State} {o : Outcome} {args : Array Value} (h : Framed s o t [] 3080 20512) :
    Framed s o t (fieldLocs frame_1_writes args s ++ arrayLocs frame_1_arrays args s ++ staticLocs frame_1_statics s) 3080 20512 := h
theorem lw_limb (L : Cond) (hL : ∀ (args : Array Value) (s t : State), L.after args s (.returned (some (.int 1))) t = true) :
    ArmFor flags0 classFile x code maxLocals ret World_1 tables_1 room_1 Calls_1 rest_1 Pre_1
      (fun tb e a s o t => postC L tb e a s o t ∧ Framed s o t (fieldLocs frame_1_writes a s ++ arrayLocs frame_1_arrays a s ++ staticLocs frame_1_statics s) 3080 20512) := by
  intro l hfl _ _ p e ha hc hk s m args below hf hfit hheap happ hpre
  obtain ⟨k, o, h1, h2, h3, rfl, hF⟩ := lw_comes l hfl p e ha hc hk s m args below hf hfit hheap happ hpre
  exact ⟨k, _, h1, h2, h3, hL args s _, lw_frame hF⟩
theorem i_vc : Claimed_1_1 ∧ Claimed_1_2 := ⟨lw_limb limb_1_1 (fun args s t => by simp [limb_1_1, Cond.after, Cond.holds, Cond.value]), lw_limb limb_1_2 (fun args s t => Cond.after_iff.mpr (by
  first | (rw [show limb_1_2 = Cond.eq .result (.int 1) from rfl, Cond.eq_ints (x := 1) (y := 1) rfl rfl]; simp; done) | (simp [limb_1_2, Cond.value, Term.eval]; done)))⟩
end
