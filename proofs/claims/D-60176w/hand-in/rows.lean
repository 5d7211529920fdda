section
-- ===== PART A: goes FIRST, ahead of the names: the tables' words, and 'selects' of the private methods out of them =====
/-- a private method of a class that the tables say can be made, by its rows of tables_1 -/
def lw_okq (q : MethodName × Nat) : Prop := (q.1.cls ≠ "java/lang/invoke/MethodHandle" ∧ q.1.cls ≠ "java/lang/invoke/VarHandle") ∧ Cond.instantiable q.1.cls q.2 ∈ tables_1 ∧ Cond.privateMethod q.1 ∈ tables_1 ∧ Cond.instanceMethod q.1 ∈ tables_1
theorem lw_p0 : lw_okq (⟨"WeekDeskModel", "year", "()I"⟩, 1) := ⟨⟨by decide +kernel, by decide +kernel⟩, List.mem_of_getElem? (i := 88) (by decide +kernel), List.mem_of_getElem? (i := 112) (by decide +kernel), List.mem_of_getElem? (i := 113) (by decide +kernel)⟩
theorem lw_p1 : lw_okq (⟨"WeekDeskModel", "monday", "(I)I"⟩, 1) := ⟨⟨by decide +kernel, by decide +kernel⟩, List.mem_of_getElem? (i := 88) (by decide +kernel), List.mem_of_getElem? (i := 119) (by decide +kernel), List.mem_of_getElem? (i := 120) (by decide +kernel)⟩
def lw_privs_1 : List (MethodName × Nat) := [(⟨"WeekDeskModel", "year", "()I"⟩, 1), (⟨"WeekDeskModel", "monday", "(I)I"⟩, 1)]
theorem lw_r1 : ∀ q ∈ lw_privs_1, lw_okq q := List.forall_mem_cons.mpr ⟨lw_p0, List.forall_mem_cons.mpr ⟨lw_p1, fun _ h => absurd h List.not_mem_nil⟩⟩
def lw_privs : List (MethodName × Nat) := lw_privs_1
def lw_tbl : List Cond := k2_sels lw_privs ++ tables_1
theorem lw_privs_ok : ∀ q ∈ lw_privs, lw_okq q := lw_r1
def R_law : String := "WeekDeskLaw"
def R_D : String := "WeekDesk"
def R_M : String := "WeekDeskModel"
def F_D : u_T := fun k => match k with
  | _ => ("WeekDesk", "day", "I", false)
def t_D : Nat → FieldType := fun k => match k with
  | _ => .int
def F_M : u_T := fun k => match k with
  | _ => ("WeekDeskModel", "day", "I", false)
def t_M : Nat → FieldType := fun k => match k with
  | _ => .int
abbrev b_D_init : ByteArray := prog_1_method_1_code
def y_D_init : MethodName := ⟨R_D, "<init>", "()V"⟩
abbrev b_D_load : ByteArray := prog_1_method_9_code
def y_D_load : MethodName := ⟨R_D, "load", "(I)V"⟩
abbrev b_D_within : ByteArray := prog_1_method_2_code
def y_D_within : MethodName := ⟨R_D, "within", "(II)I"⟩
abbrev b_D_weekday : ByteArray := prog_1_method_10_code
def y_D_weekday : MethodName := ⟨R_D, "weekday", "()I"⟩
abbrev b_D_weekYear : ByteArray := prog_1_method_11_code
def y_D_weekYear : MethodName := ⟨R_D, "weekYear", "()I"⟩
abbrev b_D_thursday : ByteArray := prog_1_method_6_code
def y_D_thursday : MethodName := ⟨R_D, "thursday", "(I)I"⟩
abbrev b_D_year : ByteArray := prog_1_method_5_code
def y_D_year : MethodName := ⟨R_D, "year", "(I)I"⟩
abbrev b_D_week : ByteArray := prog_1_method_12_code
def y_D_week : MethodName := ⟨R_D, "week", "()I"⟩
abbrev b_D_begin : ByteArray := prog_1_method_4_code
def y_D_begin : MethodName := ⟨R_D, "begin", "(I)I"⟩
abbrev b_D_weeks : ByteArray := prog_1_method_13_code
def y_D_weeks : MethodName := ⟨R_D, "weeks", "(I)I"⟩
abbrev b_D_many : ByteArray := prog_1_method_8_code
def y_D_many : MethodName := ⟨R_D, "many", "(I)I"⟩
abbrev b_D_first : ByteArray := prog_1_method_7_code
def y_D_first : MethodName := ⟨R_D, "first", "(I)I"⟩
abbrev b_D_fromWeek : ByteArray := prog_1_method_14_code
def y_D_fromWeek : MethodName := ⟨R_D, "fromWeek", "(III)Z"⟩
abbrev b_D_dayOfYear : ByteArray := prog_1_method_15_code
def y_D_dayOfYear : MethodName := ⟨R_D, "dayOfYear", "()I"⟩
abbrev b_D_yearOf : ByteArray := prog_1_method_16_code
def y_D_yearOf : MethodName := ⟨R_D, "yearOf", "()I"⟩
abbrev b_D_fridays : ByteArray := prog_1_method_17_code
def y_D_fridays : MethodName := ⟨R_D, "fridays", "(I)I"⟩
abbrev b_D_isLeap : ByteArray := prog_1_method_3_code
def y_D_isLeap : MethodName := ⟨R_D, "isLeap", "(I)Z"⟩
abbrev b_D_easter : ByteArray := prog_1_method_18_code
def y_D_easter : MethodName := ⟨R_D, "easter", "(I)I"⟩
abbrev b_M_init : ByteArray := prog_3_method_1_code
def y_M_init : MethodName := ⟨R_M, "<init>", "()V"⟩
abbrev b_M_load : ByteArray := prog_3_method_3_code
def y_M_load : MethodName := ⟨R_M, "load", "(I)V"⟩
abbrev b_M_weekday : ByteArray := prog_3_method_4_code
def y_M_weekday : MethodName := ⟨R_M, "weekday", "()I"⟩
abbrev b_M_weekYear : ByteArray := prog_3_method_8_code
def y_M_weekYear : MethodName := ⟨R_M, "weekYear", "()I"⟩
abbrev b_M_year : ByteArray := prog_3_method_5_code
def y_M_year : MethodName := ⟨R_M, "year", "()I"⟩
abbrev b_M_leap : ByteArray := prog_3_method_2_code
def y_M_leap : MethodName := ⟨R_M, "leap", "(I)Z"⟩
abbrev b_M_monday : ByteArray := prog_3_method_7_code
def y_M_monday : MethodName := ⟨R_M, "monday", "(I)I"⟩
abbrev b_M_before0 : ByteArray := prog_3_method_6_code
def y_M_before0 : MethodName := ⟨R_M, "before0", "(I)I"⟩
abbrev b_M_week : ByteArray := prog_3_method_9_code
def y_M_week : MethodName := ⟨R_M, "week", "()I"⟩
abbrev b_M_weeks : ByteArray := prog_3_method_10_code
def y_M_weeks : MethodName := ⟨R_M, "weeks", "(I)I"⟩
abbrev b_M_fromWeek : ByteArray := prog_3_method_11_code
def y_M_fromWeek : MethodName := ⟨R_M, "fromWeek", "(III)Z"⟩
abbrev b_M_dayOfYear : ByteArray := prog_3_method_12_code
def y_M_dayOfYear : MethodName := ⟨R_M, "dayOfYear", "()I"⟩
abbrev b_M_yearOf : ByteArray := prog_3_method_13_code
def y_M_yearOf : MethodName := ⟨R_M, "yearOf", "()I"⟩
abbrev b_M_fridays : ByteArray := prog_3_method_14_code
def y_M_fridays : MethodName := ⟨R_M, "fridays", "(I)I"⟩
abbrev b_M_easter : ByteArray := prog_3_method_15_code
def y_M_easter : MethodName := ⟨R_M, "easter", "(I)I"⟩
abbrev classes : List vw_C := [(R_D, F_D, 1), (R_M, F_M, 1)]
theorem n_D : ∀ a, a < 1 → ∀ b, b < 1 → a ≠ b → (F_D a).2.1 ≠ (F_D b).2.1 := by decide +kernel
theorem t_D_ok : ∀ k, k < 1 → parseFieldDescriptor (F_D k).2.2.1 = some (t_D k) := by decide +kernel
theorem n_M : ∀ a, a < 1 → ∀ b, b < 1 → a ≠ b → (F_M a).2.1 ≠ (F_M b).2.1 := by decide +kernel
theorem t_M_ok : ∀ k, k < 1 → parseFieldDescriptor (F_M k).2.2.1 = some (t_M k) := by decide +kernel
/-- the words of the tables that hold wherever a callee starts -/
def gT : List Cond := lw_tbl.filter goodWord
theorem gT_of {i : Nat} {w : Cond} (h : tables_1[i]? = some w) (hg : goodWord w = true) : w ∈ gT := List.mem_filter.mpr ⟨List.mem_append_right _ (List.mem_of_getElem? h), hg⟩
theorem gT_ofs {i : Nat} {w : Cond} (h : (k2_sels lw_privs)[i]? = some w) (hg : goodWord w = true) : w ∈ gT := List.mem_filter.mpr ⟨List.mem_append_left _ (List.mem_of_getElem? h), hg⟩
theorem gT_in {w : Cond} (h : w ∈ gT) : w ∈ lw_tbl := (List.mem_filter.mp h).1
theorem gT_good {w : Cond} (h : w ∈ gT) : goodWord w = true := (List.mem_filter.mp h).2
theorem tm_0 : Cond.initialized R_law ∈ gT := gT_of (i := 0) (by decide +kernel) rfl
theorem tm_1 : Cond.initialized R_D ∈ gT := gT_of (i := 1) (by decide +kernel) rfl
theorem tm_2 : Cond.initialized R_M ∈ gT := gT_of (i := 2) (by decide +kernel) rfl
theorem tm_3 : Cond.initialized "java/lang/Math" ∈ gT := gT_of (i := 3) (by decide +kernel) rfl
theorem tm_4 : Cond.classLink R_law 7 R_D ∈ gT := gT_of (i := 4) (by decide +kernel) rfl
theorem tm_5 : Cond.instantiable R_D 1 ∈ gT := gT_of (i := 5) (by decide +kernel) rfl
theorem tm_6 : Cond.methodLink R_law 9 y_D_init ∈ gT := gT_of (i := 6) (by decide +kernel) rfl
theorem tm_7 : Cond.instanceMethod y_D_init ∈ gT := gT_of (i := 7) (by decide +kernel) rfl
theorem tm_8 : Cond.code y_D_init b_D_init 1 none ∈ gT := gT_of (i := 8) rfl rfl
theorem tm_9 : Cond.methodLink R_D 1 Lib.objectInit ∈ gT := gT_of (i := 9) (by decide +kernel) rfl
theorem tm_10 : Cond.instanceMethod Lib.objectInit ∈ gT := gT_of (i := 10) (by decide +kernel) rfl
theorem tm_11 : Cond.code Lib.objectInit ⟨#[0xb1]⟩ 1 none ∈ gT := gT_of (i := 11) rfl rfl
theorem tm_12 : Cond.fieldLink R_D 33 "WeekDesk" "day" "I" ∈ gT := gT_of (i := 12) (by decide +kernel) rfl
theorem tm_13 : Cond.lays R_D "WeekDesk" "day" "I" ∈ gT := gT_of (i := 13) (by decide +kernel) rfl
theorem tm_16 : Cond.methodLink R_law 13 y_D_load ∈ gT := gT_of (i := 16) (by decide +kernel) rfl
theorem tm_17 : Cond.instanceMethod y_D_load ∈ gT := gT_of (i := 17) (by decide +kernel) rfl
theorem tm_18 : Cond.selects R_D y_D_load y_D_load ∈ gT := gT_of (i := 18) (by decide +kernel) rfl
theorem tm_19 : Cond.code y_D_load b_D_load 2 none ∈ gT := gT_of (i := 19) rfl rfl
theorem tm_20 : Cond.constant R_D 29 (nI 146097) ∈ gT := gT_of (i := 20) (by decide +kernel) rfl
theorem tm_21 : Cond.methodLink R_D 30 y_D_within ∈ gT := gT_of (i := 21) (by decide +kernel) rfl
theorem tm_22 : Cond.static y_D_within ∈ gT := gT_of (i := 22) (by decide +kernel) rfl
theorem tm_23 : Cond.code y_D_within b_D_within 2 (some .int) ∈ gT := gT_of (i := 23) rfl rfl
theorem tm_24 : Cond.constant R_D 9 (nI 2147483647) ∈ gT := gT_of (i := 24) (by decide +kernel) rfl
theorem tm_25 : Cond.methodLink R_law 18 y_D_weekday ∈ gT := gT_of (i := 25) (by decide +kernel) rfl
theorem tm_26 : Cond.instanceMethod y_D_weekday ∈ gT := gT_of (i := 26) (by decide +kernel) rfl
theorem tm_27 : Cond.selects R_D y_D_weekday y_D_weekday ∈ gT := gT_of (i := 27) (by decide +kernel) rfl
theorem tm_28 : Cond.code y_D_weekday b_D_weekday 1 (some .int) ∈ gT := gT_of (i := 28) rfl rfl
theorem tm_29 : Cond.methodLink R_law 23 y_D_weekYear ∈ gT := gT_of (i := 29) (by decide +kernel) rfl
theorem tm_30 : Cond.instanceMethod y_D_weekYear ∈ gT := gT_of (i := 30) (by decide +kernel) rfl
theorem tm_31 : Cond.selects R_D y_D_weekYear y_D_weekYear ∈ gT := gT_of (i := 31) (by decide +kernel) rfl
theorem tm_32 : Cond.code y_D_weekYear b_D_weekYear 1 (some .int) ∈ gT := gT_of (i := 32) rfl rfl
theorem tm_33 : Cond.methodLink R_D 23 y_D_thursday ∈ gT := gT_of (i := 33) (by decide +kernel) rfl
theorem tm_34 : Cond.static y_D_thursday ∈ gT := gT_of (i := 34) (by decide +kernel) rfl
theorem tm_35 : Cond.code y_D_thursday b_D_thursday 1 (some .int) ∈ gT := gT_of (i := 35) rfl rfl
theorem tm_36 : Cond.methodLink R_D 37 y_D_year ∈ gT := gT_of (i := 36) (by decide +kernel) rfl
theorem tm_37 : Cond.static y_D_year ∈ gT := gT_of (i := 37) (by decide +kernel) rfl
theorem tm_38 : Cond.code y_D_year b_D_year 4 (some .int) ∈ gT := gT_of (i := 38) rfl rfl
theorem tm_39 : Cond.constant R_D 12 (nI 36524) ∈ gT := gT_of (i := 39) (by decide +kernel) rfl
theorem tm_40 : Cond.methodLink R_D 13 Lib.Math.min.name ∈ gT := gT_of (i := 40) (by decide +kernel) rfl
theorem tm_41 : Cond.static Lib.Math.min.name ∈ gT := gT_of (i := 41) (by decide +kernel) rfl
theorem tm_42 : Cond.code Lib.Math.min.name Lib.Math.min.code 2 (some .int) ∈ gT := gT_of (i := 42) rfl rfl
theorem tm_43 : Cond.methodLink R_law 27 y_D_week ∈ gT := gT_of (i := 43) (by decide +kernel) rfl
theorem tm_44 : Cond.instanceMethod y_D_week ∈ gT := gT_of (i := 44) (by decide +kernel) rfl
theorem tm_45 : Cond.selects R_D y_D_week y_D_week ∈ gT := gT_of (i := 45) (by decide +kernel) rfl
theorem tm_46 : Cond.code y_D_week b_D_week 2 (some .int) ∈ gT := gT_of (i := 46) rfl rfl
theorem tm_47 : Cond.methodLink R_D 19 y_D_begin ∈ gT := gT_of (i := 47) (by decide +kernel) rfl
theorem tm_48 : Cond.static y_D_begin ∈ gT := gT_of (i := 48) (by decide +kernel) rfl
theorem tm_49 : Cond.code y_D_begin b_D_begin 2 (some .int) ∈ gT := gT_of (i := 49) rfl rfl
theorem tm_50 : Cond.methodLink R_law 31 y_D_weeks ∈ gT := gT_of (i := 50) (by decide +kernel) rfl
theorem tm_51 : Cond.instanceMethod y_D_weeks ∈ gT := gT_of (i := 51) (by decide +kernel) rfl
theorem tm_52 : Cond.selects R_D y_D_weeks y_D_weeks ∈ gT := gT_of (i := 52) (by decide +kernel) rfl
theorem tm_53 : Cond.code y_D_weeks b_D_weeks 2 (some .int) ∈ gT := gT_of (i := 53) rfl rfl
theorem tm_54 : Cond.methodLink R_D 40 y_D_many ∈ gT := gT_of (i := 54) (by decide +kernel) rfl
theorem tm_55 : Cond.static y_D_many ∈ gT := gT_of (i := 55) (by decide +kernel) rfl
theorem tm_56 : Cond.code y_D_many b_D_many 1 (some .int) ∈ gT := gT_of (i := 56) rfl rfl
theorem tm_57 : Cond.methodLink R_D 26 y_D_first ∈ gT := gT_of (i := 57) (by decide +kernel) rfl
theorem tm_58 : Cond.static y_D_first ∈ gT := gT_of (i := 58) (by decide +kernel) rfl
theorem tm_59 : Cond.code y_D_first b_D_first 1 (some .int) ∈ gT := gT_of (i := 59) rfl rfl
theorem tm_60 : Cond.methodLink R_law 36 y_D_fromWeek ∈ gT := gT_of (i := 60) (by decide +kernel) rfl
theorem tm_61 : Cond.instanceMethod y_D_fromWeek ∈ gT := gT_of (i := 61) (by decide +kernel) rfl
theorem tm_62 : Cond.selects R_D y_D_fromWeek y_D_fromWeek ∈ gT := gT_of (i := 62) (by decide +kernel) rfl
theorem tm_63 : Cond.code y_D_fromWeek b_D_fromWeek 6 (some .boolean) ∈ gT := gT_of (i := 63) rfl rfl
theorem tm_64 : Cond.methodLink R_law 41 y_D_dayOfYear ∈ gT := gT_of (i := 64) (by decide +kernel) rfl
theorem tm_65 : Cond.instanceMethod y_D_dayOfYear ∈ gT := gT_of (i := 65) (by decide +kernel) rfl
theorem tm_66 : Cond.selects R_D y_D_dayOfYear y_D_dayOfYear ∈ gT := gT_of (i := 66) (by decide +kernel) rfl
theorem tm_67 : Cond.code y_D_dayOfYear b_D_dayOfYear 1 (some .int) ∈ gT := gT_of (i := 67) rfl rfl
theorem tm_68 : Cond.methodLink R_law 45 y_D_yearOf ∈ gT := gT_of (i := 68) (by decide +kernel) rfl
theorem tm_69 : Cond.instanceMethod y_D_yearOf ∈ gT := gT_of (i := 69) (by decide +kernel) rfl
theorem tm_70 : Cond.selects R_D y_D_yearOf y_D_yearOf ∈ gT := gT_of (i := 70) (by decide +kernel) rfl
theorem tm_71 : Cond.code y_D_yearOf b_D_yearOf 1 (some .int) ∈ gT := gT_of (i := 71) rfl rfl
theorem tm_72 : Cond.methodLink R_law 49 y_D_fridays ∈ gT := gT_of (i := 72) (by decide +kernel) rfl
theorem tm_73 : Cond.instanceMethod y_D_fridays ∈ gT := gT_of (i := 73) (by decide +kernel) rfl
theorem tm_74 : Cond.selects R_D y_D_fridays y_D_fridays ∈ gT := gT_of (i := 74) (by decide +kernel) rfl
theorem tm_75 : Cond.code y_D_fridays b_D_fridays 4 (some .int) ∈ gT := gT_of (i := 75) rfl rfl
theorem tm_76 : Cond.methodLink R_D 43 y_D_isLeap ∈ gT := gT_of (i := 76) (by decide +kernel) rfl
theorem tm_77 : Cond.static y_D_isLeap ∈ gT := gT_of (i := 77) (by decide +kernel) rfl
theorem tm_78 : Cond.code y_D_isLeap b_D_isLeap 1 (some .boolean) ∈ gT := gT_of (i := 78) rfl rfl
theorem tm_79 : Cond.fieldLink R_D 47 "WeekDesk" "LEAP" "[I" ∈ gT := gT_of (i := 79) (by decide +kernel) rfl
theorem tm_81 : Cond.fieldLink R_D 51 "WeekDesk" "PLAIN" "[I" ∈ gT := gT_of (i := 81) (by decide +kernel) rfl
theorem tm_83 : Cond.methodLink R_law 53 y_D_easter ∈ gT := gT_of (i := 83) (by decide +kernel) rfl
theorem tm_84 : Cond.instanceMethod y_D_easter ∈ gT := gT_of (i := 84) (by decide +kernel) rfl
theorem tm_85 : Cond.selects R_D y_D_easter y_D_easter ∈ gT := gT_of (i := 85) (by decide +kernel) rfl
theorem tm_86 : Cond.code y_D_easter b_D_easter 10 (some .int) ∈ gT := gT_of (i := 86) rfl rfl
theorem tm_87 : Cond.classLink R_law 10 R_M ∈ gT := gT_of (i := 87) (by decide +kernel) rfl
theorem tm_88 : Cond.instantiable R_M 1 ∈ gT := gT_of (i := 88) (by decide +kernel) rfl
theorem tm_89 : Cond.methodLink R_law 12 y_M_init ∈ gT := gT_of (i := 89) (by decide +kernel) rfl
theorem tm_90 : Cond.instanceMethod y_M_init ∈ gT := gT_of (i := 90) (by decide +kernel) rfl
theorem tm_91 : Cond.code y_M_init b_M_init 1 none ∈ gT := gT_of (i := 91) rfl rfl
theorem tm_92 : Cond.methodLink R_M 1 Lib.objectInit ∈ gT := gT_of (i := 92) (by decide +kernel) rfl
theorem tm_93 : Cond.fieldLink R_M 9 "WeekDeskModel" "day" "I" ∈ gT := gT_of (i := 93) (by decide +kernel) rfl
theorem tm_94 : Cond.lays R_M "WeekDeskModel" "day" "I" ∈ gT := gT_of (i := 94) (by decide +kernel) rfl
theorem tm_97 : Cond.methodLink R_law 17 y_M_load ∈ gT := gT_of (i := 97) (by decide +kernel) rfl
theorem tm_98 : Cond.instanceMethod y_M_load ∈ gT := gT_of (i := 98) (by decide +kernel) rfl
theorem tm_99 : Cond.selects R_M y_M_load y_M_load ∈ gT := gT_of (i := 99) (by decide +kernel) rfl
theorem tm_100 : Cond.code y_M_load b_M_load 2 none ∈ gT := gT_of (i := 100) rfl rfl
theorem tm_101 : Cond.constant R_M 7 (nI 2147483647) ∈ gT := gT_of (i := 101) (by decide +kernel) rfl
theorem tm_102 : Cond.constant R_M 8 (nI 146097) ∈ gT := gT_of (i := 102) (by decide +kernel) rfl
theorem tm_103 : Cond.methodLink R_law 22 y_M_weekday ∈ gT := gT_of (i := 103) (by decide +kernel) rfl
theorem tm_104 : Cond.instanceMethod y_M_weekday ∈ gT := gT_of (i := 104) (by decide +kernel) rfl
theorem tm_105 : Cond.selects R_M y_M_weekday y_M_weekday ∈ gT := gT_of (i := 105) (by decide +kernel) rfl
theorem tm_106 : Cond.code y_M_weekday b_M_weekday 1 (some .int) ∈ gT := gT_of (i := 106) rfl rfl
theorem tm_107 : Cond.methodLink R_law 26 y_M_weekYear ∈ gT := gT_of (i := 107) (by decide +kernel) rfl
theorem tm_108 : Cond.instanceMethod y_M_weekYear ∈ gT := gT_of (i := 108) (by decide +kernel) rfl
theorem tm_109 : Cond.selects R_M y_M_weekYear y_M_weekYear ∈ gT := gT_of (i := 109) (by decide +kernel) rfl
theorem tm_110 : Cond.code y_M_weekYear b_M_weekYear 2 (some .int) ∈ gT := gT_of (i := 110) rfl rfl
theorem tm_111 : Cond.methodLink R_M 23 y_M_year ∈ gT := gT_of (i := 111) (by decide +kernel) rfl
theorem tm_113 : Cond.instanceMethod y_M_year ∈ gT := gT_of (i := 113) (by decide +kernel) rfl
theorem tm_114 : Cond.code y_M_year b_M_year 3 (some .int) ∈ gT := gT_of (i := 114) rfl rfl
theorem tm_115 : Cond.methodLink R_M 15 y_M_leap ∈ gT := gT_of (i := 115) (by decide +kernel) rfl
theorem tm_116 : Cond.static y_M_leap ∈ gT := gT_of (i := 116) (by decide +kernel) rfl
theorem tm_117 : Cond.code y_M_leap b_M_leap 1 (some .boolean) ∈ gT := gT_of (i := 117) rfl rfl
theorem tm_118 : Cond.methodLink R_M 27 y_M_monday ∈ gT := gT_of (i := 118) (by decide +kernel) rfl
theorem tm_120 : Cond.instanceMethod y_M_monday ∈ gT := gT_of (i := 120) (by decide +kernel) rfl
theorem tm_121 : Cond.code y_M_monday b_M_monday 3 (some .int) ∈ gT := gT_of (i := 121) rfl rfl
theorem tm_122 : Cond.methodLink R_M 19 y_M_before0 ∈ gT := gT_of (i := 122) (by decide +kernel) rfl
theorem tm_123 : Cond.static y_M_before0 ∈ gT := gT_of (i := 123) (by decide +kernel) rfl
theorem tm_124 : Cond.code y_M_before0 b_M_before0 3 (some .int) ∈ gT := gT_of (i := 124) rfl rfl
theorem tm_125 : Cond.methodLink R_law 30 y_M_week ∈ gT := gT_of (i := 125) (by decide +kernel) rfl
theorem tm_126 : Cond.instanceMethod y_M_week ∈ gT := gT_of (i := 126) (by decide +kernel) rfl
theorem tm_127 : Cond.selects R_M y_M_week y_M_week ∈ gT := gT_of (i := 127) (by decide +kernel) rfl
theorem tm_128 : Cond.code y_M_week b_M_week 1 (some .int) ∈ gT := gT_of (i := 128) rfl rfl
theorem tm_129 : Cond.methodLink R_M 30 y_M_weekYear ∈ gT := gT_of (i := 129) (by decide +kernel) rfl
theorem tm_130 : Cond.methodLink R_law 35 y_M_weeks ∈ gT := gT_of (i := 130) (by decide +kernel) rfl
theorem tm_131 : Cond.instanceMethod y_M_weeks ∈ gT := gT_of (i := 131) (by decide +kernel) rfl
theorem tm_132 : Cond.selects R_M y_M_weeks y_M_weeks ∈ gT := gT_of (i := 132) (by decide +kernel) rfl
theorem tm_133 : Cond.code y_M_weeks b_M_weeks 3 (some .int) ∈ gT := gT_of (i := 133) rfl rfl
theorem tm_134 : Cond.methodLink R_law 40 y_M_fromWeek ∈ gT := gT_of (i := 134) (by decide +kernel) rfl
theorem tm_135 : Cond.instanceMethod y_M_fromWeek ∈ gT := gT_of (i := 135) (by decide +kernel) rfl
theorem tm_136 : Cond.selects R_M y_M_fromWeek y_M_fromWeek ∈ gT := gT_of (i := 136) (by decide +kernel) rfl
theorem tm_137 : Cond.code y_M_fromWeek b_M_fromWeek 8 (some .boolean) ∈ gT := gT_of (i := 137) rfl rfl
theorem tm_138 : Cond.methodLink R_M 33 y_M_weeks ∈ gT := gT_of (i := 138) (by decide +kernel) rfl
theorem tm_139 : Cond.methodLink R_law 44 y_M_dayOfYear ∈ gT := gT_of (i := 139) (by decide +kernel) rfl
theorem tm_140 : Cond.instanceMethod y_M_dayOfYear ∈ gT := gT_of (i := 140) (by decide +kernel) rfl
theorem tm_141 : Cond.selects R_M y_M_dayOfYear y_M_dayOfYear ∈ gT := gT_of (i := 141) (by decide +kernel) rfl
theorem tm_142 : Cond.code y_M_dayOfYear b_M_dayOfYear 1 (some .int) ∈ gT := gT_of (i := 142) rfl rfl
theorem tm_143 : Cond.methodLink R_law 48 y_M_yearOf ∈ gT := gT_of (i := 143) (by decide +kernel) rfl
theorem tm_144 : Cond.instanceMethod y_M_yearOf ∈ gT := gT_of (i := 144) (by decide +kernel) rfl
theorem tm_145 : Cond.selects R_M y_M_yearOf y_M_yearOf ∈ gT := gT_of (i := 145) (by decide +kernel) rfl
theorem tm_146 : Cond.code y_M_yearOf b_M_yearOf 1 (some .int) ∈ gT := gT_of (i := 146) rfl rfl
theorem tm_147 : Cond.methodLink R_law 52 y_M_fridays ∈ gT := gT_of (i := 147) (by decide +kernel) rfl
theorem tm_148 : Cond.instanceMethod y_M_fridays ∈ gT := gT_of (i := 148) (by decide +kernel) rfl
theorem tm_149 : Cond.selects R_M y_M_fridays y_M_fridays ∈ gT := gT_of (i := 149) (by decide +kernel) rfl
theorem tm_150 : Cond.code y_M_fridays b_M_fridays 6 (some .int) ∈ gT := gT_of (i := 150) rfl rfl
theorem tm_151 : Cond.methodLink R_law 56 y_M_easter ∈ gT := gT_of (i := 151) (by decide +kernel) rfl
theorem tm_152 : Cond.instanceMethod y_M_easter ∈ gT := gT_of (i := 152) (by decide +kernel) rfl
theorem tm_153 : Cond.selects R_M y_M_easter y_M_easter ∈ gT := gT_of (i := 153) (by decide +kernel) rfl
theorem tm_154 : Cond.code y_M_easter b_M_easter 10 (some .int) ∈ gT := gT_of (i := 154) rfl rfl
theorem tm_s0 : Cond.selects R_M y_M_year y_M_year ∈ gT := gT_ofs (i := 0) (by decide +kernel) rfl
theorem tm_s1 : Cond.selects R_M y_M_monday y_M_monday ∈ gT := gT_ofs (i := 1) (by decide +kernel) rfl
theorem in_D : ∀ w ∈ u_ws R_D F_D 1, w ∈ gT := by
  intro w hw
  obtain ⟨k, hk, rfl⟩ := List.mem_map.mp hw
  exact tm_13
theorem in_M : ∀ w ∈ u_ws R_M F_M 1, w ∈ gT := by
  intro w hw
  obtain ⟨k, hk, rfl⟩ := List.mem_map.mp hw
  exact tm_94
theorem goodS {own : String} {idx : Nat} {y : MethodName} {w : Cond} (h1 : Cond.methodLink own idx y ∈ gT) (h2 : Cond.static y ∈ gT) (h3 : Cond.initialized own ∈ gT) (h5 : w ∈ gT) : GoodIn gT (wsS own idx y (w :: gT)) := by
  intro z hz
  have hz2 : z ∈ gT := by
    unfold wsS at hz
    rcases List.mem_append.mp hz with h | h
    · rcases List.mem_cons.mp h with rfl | h
      · exact h1
      · rcases List.mem_cons.mp h with rfl | h
        · exact h2
        · rcases List.mem_cons.mp h with rfl | h
          · exact h3
          · exact absurd h List.not_mem_nil
    · rcases List.mem_cons.mp h with rfl | h
      · exact h5
      · exact h
  exact ⟨hz2, good_of_word (gT_good hz2)⟩
theorem goodV {own C : String} {idx : Nat} {y : MethodName} {w : Cond} (h1 : Cond.methodLink own idx y ∈ gT) (h2 : Cond.instanceMethod y ∈ gT) (h3 : Cond.selects C y y ∈ gT) (h4 : Cond.initialized C ∈ gT) (h5 : w ∈ gT) : GoodIn gT (wsV own idx C y (w :: gT)) := by
  intro z hz
  have hz2 : z ∈ gT := by
    unfold wsV at hz
    rcases List.mem_append.mp hz with h | h
    · rcases List.mem_cons.mp h with rfl | h
      · exact h1
      · rcases List.mem_cons.mp h with rfl | h
        · exact h2
        · rcases List.mem_cons.mp h with rfl | h
          · exact h3
          · rcases List.mem_cons.mp h with rfl | h
            · exact h4
            · exact absurd h List.not_mem_nil
    · rcases List.mem_cons.mp h with rfl | h
      · exact h5
      · exact h
  exact ⟨hz2, good_of_word (gT_good hz2)⟩
theorem goodC {w : Cond} (h5 : w ∈ gT) : GoodIn gT (w :: gT) := by
  intro z hz
  have hz2 : z ∈ gT := by
    rcases List.mem_cons.mp hz with rfl | h
    · exact h5
    · exact h
  exact ⟨hz2, good_of_word (gT_good hz2)⟩
end
section
theorem d_D_init_0 : decode b_D_init 0 = .ok (.aload_n 0, 1) := by decide +kernel
theorem d_D_init_1 : decode b_D_init 1 = .ok (.invokespecial 1, 3) := by decide +kernel
theorem d_D_init_4 : decode b_D_init 4 = .ok (.return_, 1) := by decide +kernel
theorem d_D_within_0 : decode b_D_within 0 = .ok (.iload_n 0, 1) := by decide +kernel
theorem d_D_within_1 : decode b_D_within 1 = .ok (.ldc 9, 2) := by decide +kernel
theorem d_D_within_3 : decode b_D_within 3 = .ok (.iand, 1) := by decide +kernel
theorem d_D_within_4 : decode b_D_within 4 = .ok (.iload_n 1, 1) := by decide +kernel
theorem d_D_within_5 : decode b_D_within 5 = .ok (.irem, 1) := by decide +kernel
theorem d_D_within_6 : decode b_D_within 6 = .ok (.ireturn, 1) := by decide +kernel
theorem d_D_isLeap_0 : decode b_D_isLeap 0 = .ok (.iload_n 0, 1) := by decide +kernel
theorem d_D_isLeap_1 : decode b_D_isLeap 1 = .ok (.iconst 3, 1) := by decide +kernel
theorem d_D_isLeap_2 : decode b_D_isLeap 2 = .ok (.iand, 1) := by decide +kernel
theorem d_D_isLeap_3 : decode b_D_isLeap 3 = .ok (.ifCond .ne 21, 3) := by decide +kernel
theorem d_D_isLeap_6 : decode b_D_isLeap 6 = .ok (.iload_n 0, 1) := by decide +kernel
theorem d_D_isLeap_7 : decode b_D_isLeap 7 = .ok (.bipush 100, 2) := by decide +kernel
theorem d_D_isLeap_9 : decode b_D_isLeap 9 = .ok (.irem, 1) := by decide +kernel
theorem d_D_isLeap_10 : decode b_D_isLeap 10 = .ok (.ifCond .ne 10, 3) := by decide +kernel
theorem d_D_isLeap_13 : decode b_D_isLeap 13 = .ok (.iload_n 0, 1) := by decide +kernel
theorem d_D_isLeap_14 : decode b_D_isLeap 14 = .ok (.sipush 400, 3) := by decide +kernel
theorem d_D_isLeap_17 : decode b_D_isLeap 17 = .ok (.if_icmp .ne 7, 3) := by decide +kernel
theorem d_D_isLeap_20 : decode b_D_isLeap 20 = .ok (.iconst 1, 1) := by decide +kernel
theorem d_D_isLeap_21 : decode b_D_isLeap 21 = .ok (.goto 4, 3) := by decide +kernel
theorem d_D_isLeap_24 : decode b_D_isLeap 24 = .ok (.iconst 0, 1) := by decide +kernel
theorem d_D_isLeap_25 : decode b_D_isLeap 25 = .ok (.ireturn, 1) := by decide +kernel
theorem d_D_begin_0 : decode b_D_begin 0 = .ok (.iload_n 0, 1) := by decide +kernel
theorem d_D_begin_1 : decode b_D_begin 1 = .ok (.iconst 1, 1) := by decide +kernel
theorem d_D_begin_2 : decode b_D_begin 2 = .ok (.isub, 1) := by decide +kernel
theorem d_D_begin_3 : decode b_D_begin 3 = .ok (.istore_n 1, 1) := by decide +kernel
theorem d_D_begin_4 : decode b_D_begin 4 = .ok (.sipush 365, 3) := by decide +kernel
theorem d_D_begin_7 : decode b_D_begin 7 = .ok (.iload_n 1, 1) := by decide +kernel
theorem d_D_begin_8 : decode b_D_begin 8 = .ok (.imul, 1) := by decide +kernel
theorem d_D_begin_9 : decode b_D_begin 9 = .ok (.iload_n 1, 1) := by decide +kernel
theorem d_D_begin_10 : decode b_D_begin 10 = .ok (.iconst 2, 1) := by decide +kernel
theorem d_D_begin_11 : decode b_D_begin 11 = .ok (.ishr, 1) := by decide +kernel
theorem d_D_begin_12 : decode b_D_begin 12 = .ok (.iadd, 1) := by decide +kernel
theorem d_D_begin_13 : decode b_D_begin 13 = .ok (.iload_n 1, 1) := by decide +kernel
theorem d_D_begin_14 : decode b_D_begin 14 = .ok (.bipush 100, 2) := by decide +kernel
theorem d_D_begin_16 : decode b_D_begin 16 = .ok (.idiv, 1) := by decide +kernel
theorem d_D_begin_17 : decode b_D_begin 17 = .ok (.isub, 1) := by decide +kernel
theorem d_D_begin_18 : decode b_D_begin 18 = .ok (.iload_n 1, 1) := by decide +kernel
theorem d_D_begin_19 : decode b_D_begin 19 = .ok (.sipush 400, 3) := by decide +kernel
theorem d_D_begin_22 : decode b_D_begin 22 = .ok (.idiv, 1) := by decide +kernel
theorem d_D_begin_23 : decode b_D_begin 23 = .ok (.iadd, 1) := by decide +kernel
theorem d_D_begin_24 : decode b_D_begin 24 = .ok (.ireturn, 1) := by decide +kernel
theorem d_D_year_0 : decode b_D_year 0 = .ok (.iload_n 0, 1) := by decide +kernel
theorem d_D_year_1 : decode b_D_year 1 = .ok (.ldc 12, 2) := by decide +kernel
theorem d_D_year_3 : decode b_D_year 3 = .ok (.idiv, 1) := by decide +kernel
theorem d_D_year_4 : decode b_D_year 4 = .ok (.iconst 3, 1) := by decide +kernel
theorem d_D_year_5 : decode b_D_year 5 = .ok (.invokestatic 13, 3) := by decide +kernel
theorem d_D_year_8 : decode b_D_year 8 = .ok (.istore_n 1, 1) := by decide +kernel
theorem d_D_year_9 : decode b_D_year 9 = .ok (.iload_n 0, 1) := by decide +kernel
theorem d_D_year_10 : decode b_D_year 10 = .ok (.ldc 12, 2) := by decide +kernel
theorem d_D_year_12 : decode b_D_year 12 = .ok (.iload_n 1, 1) := by decide +kernel
theorem d_D_year_13 : decode b_D_year 13 = .ok (.imul, 1) := by decide +kernel
theorem d_D_year_14 : decode b_D_year 14 = .ok (.isub, 1) := by decide +kernel
theorem d_D_year_15 : decode b_D_year 15 = .ok (.istore_n 2, 1) := by decide +kernel
theorem d_D_year_16 : decode b_D_year 16 = .ok (.iload_n 2, 1) := by decide +kernel
theorem d_D_year_17 : decode b_D_year 17 = .ok (.sipush 1461, 3) := by decide +kernel
theorem d_D_year_20 : decode b_D_year 20 = .ok (.idiv, 1) := by decide +kernel
theorem d_D_year_21 : decode b_D_year 21 = .ok (.istore_n 3, 1) := by decide +kernel
theorem d_D_year_22 : decode b_D_year 22 = .ok (.iload_n 2, 1) := by decide +kernel
theorem d_D_year_23 : decode b_D_year 23 = .ok (.sipush 1461, 3) := by decide +kernel
theorem d_D_year_26 : decode b_D_year 26 = .ok (.iload_n 3, 1) := by decide +kernel
theorem d_D_year_27 : decode b_D_year 27 = .ok (.imul, 1) := by decide +kernel
theorem d_D_year_28 : decode b_D_year 28 = .ok (.isub, 1) := by decide +kernel
theorem d_D_year_29 : decode b_D_year 29 = .ok (.istore_n 2, 1) := by decide +kernel
theorem d_D_year_30 : decode b_D_year 30 = .ok (.bipush 100, 2) := by decide +kernel
theorem d_D_year_32 : decode b_D_year 32 = .ok (.iload_n 1, 1) := by decide +kernel
theorem d_D_year_33 : decode b_D_year 33 = .ok (.imul, 1) := by decide +kernel
theorem d_D_year_34 : decode b_D_year 34 = .ok (.iconst 4, 1) := by decide +kernel
theorem d_D_year_35 : decode b_D_year 35 = .ok (.iload_n 3, 1) := by decide +kernel
theorem d_D_year_36 : decode b_D_year 36 = .ok (.imul, 1) := by decide +kernel
theorem d_D_year_37 : decode b_D_year 37 = .ok (.iadd, 1) := by decide +kernel
theorem d_D_year_38 : decode b_D_year 38 = .ok (.iload_n 2, 1) := by decide +kernel
theorem d_D_year_39 : decode b_D_year 39 = .ok (.sipush 365, 3) := by decide +kernel
theorem d_D_year_42 : decode b_D_year 42 = .ok (.idiv, 1) := by decide +kernel
theorem d_D_year_43 : decode b_D_year 43 = .ok (.iconst 3, 1) := by decide +kernel
theorem d_D_year_44 : decode b_D_year 44 = .ok (.invokestatic 13, 3) := by decide +kernel
theorem d_D_year_47 : decode b_D_year 47 = .ok (.iadd, 1) := by decide +kernel
theorem d_D_year_48 : decode b_D_year 48 = .ok (.iconst 1, 1) := by decide +kernel
theorem d_D_year_49 : decode b_D_year 49 = .ok (.iadd, 1) := by decide +kernel
theorem d_D_year_50 : decode b_D_year 50 = .ok (.ireturn, 1) := by decide +kernel
theorem d_D_thursday_0 : decode b_D_thursday 0 = .ok (.iload_n 0, 1) := by decide +kernel
theorem d_D_thursday_1 : decode b_D_thursday 1 = .ok (.iload_n 0, 1) := by decide +kernel
theorem d_D_thursday_2 : decode b_D_thursday 2 = .ok (.bipush 7, 2) := by decide +kernel
theorem d_D_thursday_4 : decode b_D_thursday 4 = .ok (.irem, 1) := by decide +kernel
theorem d_D_thursday_5 : decode b_D_thursday 5 = .ok (.isub, 1) := by decide +kernel
theorem d_D_thursday_6 : decode b_D_thursday 6 = .ok (.iconst 3, 1) := by decide +kernel
theorem d_D_thursday_7 : decode b_D_thursday 7 = .ok (.iadd, 1) := by decide +kernel
theorem d_D_thursday_8 : decode b_D_thursday 8 = .ok (.ireturn, 1) := by decide +kernel
theorem d_D_first_0 : decode b_D_first 0 = .ok (.iload_n 0, 1) := by decide +kernel
theorem d_D_first_1 : decode b_D_first 1 = .ok (.invokestatic 19, 3) := by decide +kernel
theorem d_D_first_4 : decode b_D_first 4 = .ok (.iconst 3, 1) := by decide +kernel
theorem d_D_first_5 : decode b_D_first 5 = .ok (.iadd, 1) := by decide +kernel
theorem d_D_first_6 : decode b_D_first 6 = .ok (.invokestatic 23, 3) := by decide +kernel
theorem d_D_first_9 : decode b_D_first 9 = .ok (.ireturn, 1) := by decide +kernel
theorem d_D_many_0 : decode b_D_many 0 = .ok (.iload_n 0, 1) := by decide +kernel
theorem d_D_many_1 : decode b_D_many 1 = .ok (.iconst 1, 1) := by decide +kernel
theorem d_D_many_2 : decode b_D_many 2 = .ok (.iadd, 1) := by decide +kernel
theorem d_D_many_3 : decode b_D_many 3 = .ok (.invokestatic 19, 3) := by decide +kernel
theorem d_D_many_6 : decode b_D_many 6 = .ok (.iconst 1, 1) := by decide +kernel
theorem d_D_many_7 : decode b_D_many 7 = .ok (.isub, 1) := by decide +kernel
theorem d_D_many_8 : decode b_D_many 8 = .ok (.iload_n 0, 1) := by decide +kernel
theorem d_D_many_9 : decode b_D_many 9 = .ok (.invokestatic 26, 3) := by decide +kernel
theorem d_D_many_12 : decode b_D_many 12 = .ok (.isub, 1) := by decide +kernel
theorem d_D_many_13 : decode b_D_many 13 = .ok (.bipush 7, 2) := by decide +kernel
theorem d_D_many_15 : decode b_D_many 15 = .ok (.idiv, 1) := by decide +kernel
theorem d_D_many_16 : decode b_D_many 16 = .ok (.iconst 1, 1) := by decide +kernel
theorem d_D_many_17 : decode b_D_many 17 = .ok (.iadd, 1) := by decide +kernel
theorem d_D_many_18 : decode b_D_many 18 = .ok (.ireturn, 1) := by decide +kernel
theorem d_D_load_0 : decode b_D_load 0 = .ok (.aload_n 0, 1) := by decide +kernel
theorem d_D_load_1 : decode b_D_load 1 = .ok (.iload_n 1, 1) := by decide +kernel
theorem d_D_load_2 : decode b_D_load 2 = .ok (.ldc 29, 2) := by decide +kernel
theorem d_D_load_4 : decode b_D_load 4 = .ok (.invokestatic 30, 3) := by decide +kernel
theorem d_D_load_7 : decode b_D_load 7 = .ok (.putfield 33, 3) := by decide +kernel
theorem d_D_load_10 : decode b_D_load 10 = .ok (.return_, 1) := by decide +kernel
theorem d_D_weekday_0 : decode b_D_weekday 0 = .ok (.aload_n 0, 1) := by decide +kernel
theorem d_D_weekday_1 : decode b_D_weekday 1 = .ok (.getfield 33, 3) := by decide +kernel
theorem d_D_weekday_4 : decode b_D_weekday 4 = .ok (.bipush 7, 2) := by decide +kernel
theorem d_D_weekday_6 : decode b_D_weekday 6 = .ok (.irem, 1) := by decide +kernel
theorem d_D_weekday_7 : decode b_D_weekday 7 = .ok (.iconst 1, 1) := by decide +kernel
theorem d_D_weekday_8 : decode b_D_weekday 8 = .ok (.iadd, 1) := by decide +kernel
theorem d_D_weekday_9 : decode b_D_weekday 9 = .ok (.ireturn, 1) := by decide +kernel
theorem d_D_weekYear_0 : decode b_D_weekYear 0 = .ok (.aload_n 0, 1) := by decide +kernel
theorem d_D_weekYear_1 : decode b_D_weekYear 1 = .ok (.getfield 33, 3) := by decide +kernel
theorem d_D_weekYear_4 : decode b_D_weekYear 4 = .ok (.invokestatic 23, 3) := by decide +kernel
theorem d_D_weekYear_7 : decode b_D_weekYear 7 = .ok (.invokestatic 37, 3) := by decide +kernel
theorem d_D_weekYear_10 : decode b_D_weekYear 10 = .ok (.ireturn, 1) := by decide +kernel
theorem d_D_week_0 : decode b_D_week 0 = .ok (.aload_n 0, 1) := by decide +kernel
theorem d_D_week_1 : decode b_D_week 1 = .ok (.getfield 33, 3) := by decide +kernel
theorem d_D_week_4 : decode b_D_week 4 = .ok (.invokestatic 23, 3) := by decide +kernel
theorem d_D_week_7 : decode b_D_week 7 = .ok (.istore_n 1, 1) := by decide +kernel
theorem d_D_week_8 : decode b_D_week 8 = .ok (.iload_n 1, 1) := by decide +kernel
theorem d_D_week_9 : decode b_D_week 9 = .ok (.iload_n 1, 1) := by decide +kernel
theorem d_D_week_10 : decode b_D_week 10 = .ok (.invokestatic 37, 3) := by decide +kernel
theorem d_D_week_13 : decode b_D_week 13 = .ok (.invokestatic 19, 3) := by decide +kernel
theorem d_D_week_16 : decode b_D_week 16 = .ok (.isub, 1) := by decide +kernel
theorem d_D_week_17 : decode b_D_week 17 = .ok (.bipush 7, 2) := by decide +kernel
theorem d_D_week_19 : decode b_D_week 19 = .ok (.idiv, 1) := by decide +kernel
theorem d_D_week_20 : decode b_D_week 20 = .ok (.iconst 1, 1) := by decide +kernel
theorem d_D_week_21 : decode b_D_week 21 = .ok (.iadd, 1) := by decide +kernel
theorem d_D_week_22 : decode b_D_week 22 = .ok (.ireturn, 1) := by decide +kernel
theorem d_D_weeks_0 : decode b_D_weeks 0 = .ok (.iload_n 1, 1) := by decide +kernel
theorem d_D_weeks_1 : decode b_D_weeks 1 = .ok (.sipush 400, 3) := by decide +kernel
theorem d_D_weeks_4 : decode b_D_weeks 4 = .ok (.invokestatic 30, 3) := by decide +kernel
theorem d_D_weeks_7 : decode b_D_weeks 7 = .ok (.iconst 1, 1) := by decide +kernel
theorem d_D_weeks_8 : decode b_D_weeks 8 = .ok (.iadd, 1) := by decide +kernel
theorem d_D_weeks_9 : decode b_D_weeks 9 = .ok (.invokestatic 40, 3) := by decide +kernel
theorem d_D_weeks_12 : decode b_D_weeks 12 = .ok (.ireturn, 1) := by decide +kernel
theorem d_D_fromWeek_0 : decode b_D_fromWeek 0 = .ok (.iload_n 1, 1) := by decide +kernel
theorem d_D_fromWeek_1 : decode b_D_fromWeek 1 = .ok (.sipush 400, 3) := by decide +kernel
theorem d_D_fromWeek_4 : decode b_D_fromWeek 4 = .ok (.invokestatic 30, 3) := by decide +kernel
theorem d_D_fromWeek_7 : decode b_D_fromWeek 7 = .ok (.iconst 1, 1) := by decide +kernel
theorem d_D_fromWeek_8 : decode b_D_fromWeek 8 = .ok (.iadd, 1) := by decide +kernel
theorem d_D_fromWeek_9 : decode b_D_fromWeek 9 = .ok (.istore 4, 2) := by decide +kernel
theorem d_D_fromWeek_11 : decode b_D_fromWeek 11 = .ok (.iload_n 2, 1) := by decide +kernel
theorem d_D_fromWeek_12 : decode b_D_fromWeek 12 = .ok (.bipush 53, 2) := by decide +kernel
theorem d_D_fromWeek_14 : decode b_D_fromWeek 14 = .ok (.invokestatic 30, 3) := by decide +kernel
theorem d_D_fromWeek_17 : decode b_D_fromWeek 17 = .ok (.istore 5, 2) := by decide +kernel
theorem d_D_fromWeek_19 : decode b_D_fromWeek 19 = .ok (.iload 5, 2) := by decide +kernel
theorem d_D_fromWeek_21 : decode b_D_fromWeek 21 = .ok (.iload 4, 2) := by decide +kernel
theorem d_D_fromWeek_23 : decode b_D_fromWeek 23 = .ok (.invokestatic 40, 3) := by decide +kernel
theorem d_D_fromWeek_26 : decode b_D_fromWeek 26 = .ok (.if_icmp .lt 5, 3) := by decide +kernel
theorem d_D_fromWeek_29 : decode b_D_fromWeek 29 = .ok (.iconst 0, 1) := by decide +kernel
theorem d_D_fromWeek_30 : decode b_D_fromWeek 30 = .ok (.ireturn, 1) := by decide +kernel
theorem d_D_fromWeek_31 : decode b_D_fromWeek 31 = .ok (.aload_n 0, 1) := by decide +kernel
theorem d_D_fromWeek_32 : decode b_D_fromWeek 32 = .ok (.iload 4, 2) := by decide +kernel
theorem d_D_fromWeek_34 : decode b_D_fromWeek 34 = .ok (.invokestatic 26, 3) := by decide +kernel
theorem d_D_fromWeek_37 : decode b_D_fromWeek 37 = .ok (.iconst 3, 1) := by decide +kernel
theorem d_D_fromWeek_38 : decode b_D_fromWeek 38 = .ok (.isub, 1) := by decide +kernel
theorem d_D_fromWeek_39 : decode b_D_fromWeek 39 = .ok (.bipush 7, 2) := by decide +kernel
theorem d_D_fromWeek_41 : decode b_D_fromWeek 41 = .ok (.iload 5, 2) := by decide +kernel
theorem d_D_fromWeek_43 : decode b_D_fromWeek 43 = .ok (.imul, 1) := by decide +kernel
theorem d_D_fromWeek_44 : decode b_D_fromWeek 44 = .ok (.iadd, 1) := by decide +kernel
theorem d_D_fromWeek_45 : decode b_D_fromWeek 45 = .ok (.iload_n 3, 1) := by decide +kernel
theorem d_D_fromWeek_46 : decode b_D_fromWeek 46 = .ok (.bipush 7, 2) := by decide +kernel
theorem d_D_fromWeek_48 : decode b_D_fromWeek 48 = .ok (.invokestatic 30, 3) := by decide +kernel
theorem d_D_fromWeek_51 : decode b_D_fromWeek 51 = .ok (.iadd, 1) := by decide +kernel
theorem d_D_fromWeek_52 : decode b_D_fromWeek 52 = .ok (.putfield 33, 3) := by decide +kernel
theorem d_D_fromWeek_55 : decode b_D_fromWeek 55 = .ok (.iconst 1, 1) := by decide +kernel
theorem d_D_fromWeek_56 : decode b_D_fromWeek 56 = .ok (.ireturn, 1) := by decide +kernel
theorem d_D_dayOfYear_0 : decode b_D_dayOfYear 0 = .ok (.aload_n 0, 1) := by decide +kernel
theorem d_D_dayOfYear_1 : decode b_D_dayOfYear 1 = .ok (.getfield 33, 3) := by decide +kernel
theorem d_D_dayOfYear_4 : decode b_D_dayOfYear 4 = .ok (.aload_n 0, 1) := by decide +kernel
theorem d_D_dayOfYear_5 : decode b_D_dayOfYear 5 = .ok (.getfield 33, 3) := by decide +kernel
theorem d_D_dayOfYear_8 : decode b_D_dayOfYear 8 = .ok (.invokestatic 37, 3) := by decide +kernel
theorem d_D_dayOfYear_11 : decode b_D_dayOfYear 11 = .ok (.invokestatic 19, 3) := by decide +kernel
theorem d_D_dayOfYear_14 : decode b_D_dayOfYear 14 = .ok (.isub, 1) := by decide +kernel
theorem d_D_dayOfYear_15 : decode b_D_dayOfYear 15 = .ok (.iconst 1, 1) := by decide +kernel
theorem d_D_dayOfYear_16 : decode b_D_dayOfYear 16 = .ok (.iadd, 1) := by decide +kernel
theorem d_D_dayOfYear_17 : decode b_D_dayOfYear 17 = .ok (.ireturn, 1) := by decide +kernel
theorem d_D_yearOf_0 : decode b_D_yearOf 0 = .ok (.aload_n 0, 1) := by decide +kernel
theorem d_D_yearOf_1 : decode b_D_yearOf 1 = .ok (.getfield 33, 3) := by decide +kernel
theorem d_D_yearOf_4 : decode b_D_yearOf 4 = .ok (.invokestatic 37, 3) := by decide +kernel
theorem d_D_yearOf_7 : decode b_D_yearOf 7 = .ok (.ireturn, 1) := by decide +kernel
theorem d_D_fridays_0 : decode b_D_fridays 0 = .ok (.iload_n 1, 1) := by decide +kernel
theorem d_D_fridays_1 : decode b_D_fridays 1 = .ok (.sipush 400, 3) := by decide +kernel
theorem d_D_fridays_4 : decode b_D_fridays 4 = .ok (.invokestatic 30, 3) := by decide +kernel
theorem d_D_fridays_7 : decode b_D_fridays 7 = .ok (.iconst 1, 1) := by decide +kernel
theorem d_D_fridays_8 : decode b_D_fridays 8 = .ok (.iadd, 1) := by decide +kernel
theorem d_D_fridays_9 : decode b_D_fridays 9 = .ok (.istore_n 2, 1) := by decide +kernel
theorem d_D_fridays_10 : decode b_D_fridays 10 = .ok (.iload_n 2, 1) := by decide +kernel
theorem d_D_fridays_11 : decode b_D_fridays 11 = .ok (.invokestatic 19, 3) := by decide +kernel
theorem d_D_fridays_14 : decode b_D_fridays 14 = .ok (.bipush 7, 2) := by decide +kernel
theorem d_D_fridays_16 : decode b_D_fridays 16 = .ok (.irem, 1) := by decide +kernel
theorem d_D_fridays_17 : decode b_D_fridays 17 = .ok (.istore_n 3, 1) := by decide +kernel
theorem d_D_fridays_18 : decode b_D_fridays 18 = .ok (.iload_n 2, 1) := by decide +kernel
theorem d_D_fridays_19 : decode b_D_fridays 19 = .ok (.invokestatic 43, 3) := by decide +kernel
theorem d_D_fridays_22 : decode b_D_fridays 22 = .ok (.ifCond .eq 11, 3) := by decide +kernel
theorem d_D_fridays_25 : decode b_D_fridays 25 = .ok (.getstatic 47, 3) := by decide +kernel
theorem d_D_fridays_28 : decode b_D_fridays 28 = .ok (.iload_n 3, 1) := by decide +kernel
theorem d_D_fridays_29 : decode b_D_fridays 29 = .ok (.iaload, 1) := by decide +kernel
theorem d_D_fridays_30 : decode b_D_fridays 30 = .ok (.goto 8, 3) := by decide +kernel
theorem d_D_fridays_33 : decode b_D_fridays 33 = .ok (.getstatic 51, 3) := by decide +kernel
theorem d_D_fridays_36 : decode b_D_fridays 36 = .ok (.iload_n 3, 1) := by decide +kernel
theorem d_D_fridays_37 : decode b_D_fridays 37 = .ok (.iaload, 1) := by decide +kernel
theorem d_D_fridays_38 : decode b_D_fridays 38 = .ok (.ireturn, 1) := by decide +kernel
theorem d_D_easter_0 : decode b_D_easter 0 = .ok (.iload_n 1, 1) := by decide +kernel
theorem d_D_easter_1 : decode b_D_easter 1 = .ok (.sipush 400, 3) := by decide +kernel
theorem d_D_easter_4 : decode b_D_easter 4 = .ok (.invokestatic 30, 3) := by decide +kernel
theorem d_D_easter_7 : decode b_D_easter 7 = .ok (.iconst 1, 1) := by decide +kernel
theorem d_D_easter_8 : decode b_D_easter 8 = .ok (.iadd, 1) := by decide +kernel
theorem d_D_easter_9 : decode b_D_easter 9 = .ok (.istore_n 2, 1) := by decide +kernel
theorem d_D_easter_10 : decode b_D_easter 10 = .ok (.iload_n 2, 1) := by decide +kernel
theorem d_D_easter_11 : decode b_D_easter 11 = .ok (.bipush 19, 2) := by decide +kernel
theorem d_D_easter_13 : decode b_D_easter 13 = .ok (.irem, 1) := by decide +kernel
theorem d_D_easter_14 : decode b_D_easter 14 = .ok (.iconst 1, 1) := by decide +kernel
theorem d_D_easter_15 : decode b_D_easter 15 = .ok (.iadd, 1) := by decide +kernel
theorem d_D_easter_16 : decode b_D_easter 16 = .ok (.istore_n 3, 1) := by decide +kernel
theorem d_D_easter_17 : decode b_D_easter 17 = .ok (.iload_n 2, 1) := by decide +kernel
theorem d_D_easter_18 : decode b_D_easter 18 = .ok (.bipush 100, 2) := by decide +kernel
theorem d_D_easter_20 : decode b_D_easter 20 = .ok (.idiv, 1) := by decide +kernel
theorem d_D_easter_21 : decode b_D_easter 21 = .ok (.iconst 1, 1) := by decide +kernel
theorem d_D_easter_22 : decode b_D_easter 22 = .ok (.iadd, 1) := by decide +kernel
theorem d_D_easter_23 : decode b_D_easter 23 = .ok (.istore 4, 2) := by decide +kernel
theorem d_D_easter_25 : decode b_D_easter 25 = .ok (.iconst 3, 1) := by decide +kernel
theorem d_D_easter_26 : decode b_D_easter 26 = .ok (.iload 4, 2) := by decide +kernel
theorem d_D_easter_28 : decode b_D_easter 28 = .ok (.imul, 1) := by decide +kernel
theorem d_D_easter_29 : decode b_D_easter 29 = .ok (.iconst 2, 1) := by decide +kernel
theorem d_D_easter_30 : decode b_D_easter 30 = .ok (.ishr, 1) := by decide +kernel
theorem d_D_easter_31 : decode b_D_easter 31 = .ok (.bipush 12, 2) := by decide +kernel
theorem d_D_easter_33 : decode b_D_easter 33 = .ok (.isub, 1) := by decide +kernel
theorem d_D_easter_34 : decode b_D_easter 34 = .ok (.istore 5, 2) := by decide +kernel
theorem d_D_easter_36 : decode b_D_easter 36 = .ok (.bipush 8, 2) := by decide +kernel
theorem d_D_easter_38 : decode b_D_easter 38 = .ok (.iload 4, 2) := by decide +kernel
theorem d_D_easter_40 : decode b_D_easter 40 = .ok (.imul, 1) := by decide +kernel
theorem d_D_easter_41 : decode b_D_easter 41 = .ok (.iconst 5, 1) := by decide +kernel
theorem d_D_easter_42 : decode b_D_easter 42 = .ok (.iadd, 1) := by decide +kernel
theorem d_D_easter_43 : decode b_D_easter 43 = .ok (.bipush 25, 2) := by decide +kernel
theorem d_D_easter_45 : decode b_D_easter 45 = .ok (.idiv, 1) := by decide +kernel
theorem d_D_easter_46 : decode b_D_easter 46 = .ok (.iconst 5, 1) := by decide +kernel
theorem d_D_easter_47 : decode b_D_easter 47 = .ok (.isub, 1) := by decide +kernel
theorem d_D_easter_48 : decode b_D_easter 48 = .ok (.istore 6, 2) := by decide +kernel
theorem d_D_easter_50 : decode b_D_easter 50 = .ok (.iconst 5, 1) := by decide +kernel
theorem d_D_easter_51 : decode b_D_easter 51 = .ok (.iload_n 2, 1) := by decide +kernel
theorem d_D_easter_52 : decode b_D_easter 52 = .ok (.imul, 1) := by decide +kernel
theorem d_D_easter_53 : decode b_D_easter 53 = .ok (.iconst 2, 1) := by decide +kernel
theorem d_D_easter_54 : decode b_D_easter 54 = .ok (.ishr, 1) := by decide +kernel
theorem d_D_easter_55 : decode b_D_easter 55 = .ok (.iload 5, 2) := by decide +kernel
theorem d_D_easter_57 : decode b_D_easter 57 = .ok (.isub, 1) := by decide +kernel
theorem d_D_easter_58 : decode b_D_easter 58 = .ok (.bipush 10, 2) := by decide +kernel
theorem d_D_easter_60 : decode b_D_easter 60 = .ok (.isub, 1) := by decide +kernel
theorem d_D_easter_61 : decode b_D_easter 61 = .ok (.istore 7, 2) := by decide +kernel
theorem d_D_easter_63 : decode b_D_easter 63 = .ok (.bipush 11, 2) := by decide +kernel
theorem d_D_easter_65 : decode b_D_easter 65 = .ok (.iload_n 3, 1) := by decide +kernel
theorem d_D_easter_66 : decode b_D_easter 66 = .ok (.imul, 1) := by decide +kernel
theorem d_D_easter_67 : decode b_D_easter 67 = .ok (.bipush 20, 2) := by decide +kernel
theorem d_D_easter_69 : decode b_D_easter 69 = .ok (.iadd, 1) := by decide +kernel
theorem d_D_easter_70 : decode b_D_easter 70 = .ok (.iload 6, 2) := by decide +kernel
theorem d_D_easter_72 : decode b_D_easter 72 = .ok (.iadd, 1) := by decide +kernel
theorem d_D_easter_73 : decode b_D_easter 73 = .ok (.iload 5, 2) := by decide +kernel
theorem d_D_easter_75 : decode b_D_easter 75 = .ok (.isub, 1) := by decide +kernel
theorem d_D_easter_76 : decode b_D_easter 76 = .ok (.bipush 30, 2) := by decide +kernel
theorem d_D_easter_78 : decode b_D_easter 78 = .ok (.irem, 1) := by decide +kernel
theorem d_D_easter_79 : decode b_D_easter 79 = .ok (.istore 8, 2) := by decide +kernel
theorem d_D_easter_81 : decode b_D_easter 81 = .ok (.iload 8, 2) := by decide +kernel
theorem d_D_easter_83 : decode b_D_easter 83 = .ok (.bipush 25, 2) := by decide +kernel
theorem d_D_easter_85 : decode b_D_easter 85 = .ok (.if_icmp .ne 9, 3) := by decide +kernel
theorem d_D_easter_88 : decode b_D_easter 88 = .ok (.iload_n 3, 1) := by decide +kernel
theorem d_D_easter_89 : decode b_D_easter 89 = .ok (.bipush 11, 2) := by decide +kernel
theorem d_D_easter_91 : decode b_D_easter 91 = .ok (.if_icmp .gt 10, 3) := by decide +kernel
theorem d_D_easter_94 : decode b_D_easter 94 = .ok (.iload 8, 2) := by decide +kernel
theorem d_D_easter_96 : decode b_D_easter 96 = .ok (.bipush 24, 2) := by decide +kernel
theorem d_D_easter_98 : decode b_D_easter 98 = .ok (.if_icmp .ne 6, 3) := by decide +kernel
theorem d_D_easter_101 : decode b_D_easter 101 = .ok (.iinc 8 1, 3) := by decide +kernel
theorem d_D_easter_104 : decode b_D_easter 104 = .ok (.iload 8, 2) := by decide +kernel
theorem d_D_easter_106 : decode b_D_easter 106 = .ok (.bipush 23, 2) := by decide +kernel
theorem d_D_easter_108 : decode b_D_easter 108 = .ok (.if_icmp .le 11, 3) := by decide +kernel
theorem d_D_easter_111 : decode b_D_easter 111 = .ok (.bipush 74, 2) := by decide +kernel
theorem d_D_easter_113 : decode b_D_easter 113 = .ok (.iload 8, 2) := by decide +kernel
theorem d_D_easter_115 : decode b_D_easter 115 = .ok (.isub, 1) := by decide +kernel
theorem d_D_easter_116 : decode b_D_easter 116 = .ok (.goto 8, 3) := by decide +kernel
theorem d_D_easter_119 : decode b_D_easter 119 = .ok (.bipush 44, 2) := by decide +kernel
theorem d_D_easter_121 : decode b_D_easter 121 = .ok (.iload 8, 2) := by decide +kernel
theorem d_D_easter_123 : decode b_D_easter 123 = .ok (.isub, 1) := by decide +kernel
theorem d_D_easter_124 : decode b_D_easter 124 = .ok (.istore 9, 2) := by decide +kernel
theorem d_D_easter_126 : decode b_D_easter 126 = .ok (.iload 9, 2) := by decide +kernel
theorem d_D_easter_128 : decode b_D_easter 128 = .ok (.bipush 7, 2) := by decide +kernel
theorem d_D_easter_130 : decode b_D_easter 130 = .ok (.iadd, 1) := by decide +kernel
theorem d_D_easter_131 : decode b_D_easter 131 = .ok (.iload 7, 2) := by decide +kernel
theorem d_D_easter_133 : decode b_D_easter 133 = .ok (.iload 9, 2) := by decide +kernel
theorem d_D_easter_135 : decode b_D_easter 135 = .ok (.iadd, 1) := by decide +kernel
theorem d_D_easter_136 : decode b_D_easter 136 = .ok (.bipush 7, 2) := by decide +kernel
theorem d_D_easter_138 : decode b_D_easter 138 = .ok (.irem, 1) := by decide +kernel
theorem d_D_easter_139 : decode b_D_easter 139 = .ok (.isub, 1) := by decide +kernel
theorem d_D_easter_140 : decode b_D_easter 140 = .ok (.ireturn, 1) := by decide +kernel
end
section
theorem d_M_init_0 : decode b_M_init 0 = .ok (.aload_n 0, 1) := by decide +kernel
theorem d_M_init_1 : decode b_M_init 1 = .ok (.invokespecial 1, 3) := by decide +kernel
theorem d_M_init_4 : decode b_M_init 4 = .ok (.return_, 1) := by decide +kernel
theorem d_M_leap_0 : decode b_M_leap 0 = .ok (.iload_n 0, 1) := by decide +kernel
theorem d_M_leap_1 : decode b_M_leap 1 = .ok (.iconst 4, 1) := by decide +kernel
theorem d_M_leap_2 : decode b_M_leap 2 = .ok (.irem, 1) := by decide +kernel
theorem d_M_leap_3 : decode b_M_leap 3 = .ok (.ifCond .ne 22, 3) := by decide +kernel
theorem d_M_leap_6 : decode b_M_leap 6 = .ok (.iload_n 0, 1) := by decide +kernel
theorem d_M_leap_7 : decode b_M_leap 7 = .ok (.bipush 100, 2) := by decide +kernel
theorem d_M_leap_9 : decode b_M_leap 9 = .ok (.irem, 1) := by decide +kernel
theorem d_M_leap_10 : decode b_M_leap 10 = .ok (.ifCond .ne 11, 3) := by decide +kernel
theorem d_M_leap_13 : decode b_M_leap 13 = .ok (.iload_n 0, 1) := by decide +kernel
theorem d_M_leap_14 : decode b_M_leap 14 = .ok (.sipush 400, 3) := by decide +kernel
theorem d_M_leap_17 : decode b_M_leap 17 = .ok (.irem, 1) := by decide +kernel
theorem d_M_leap_18 : decode b_M_leap 18 = .ok (.ifCond .ne 7, 3) := by decide +kernel
theorem d_M_leap_21 : decode b_M_leap 21 = .ok (.iconst 1, 1) := by decide +kernel
theorem d_M_leap_22 : decode b_M_leap 22 = .ok (.goto 4, 3) := by decide +kernel
theorem d_M_leap_25 : decode b_M_leap 25 = .ok (.iconst 0, 1) := by decide +kernel
theorem d_M_leap_26 : decode b_M_leap 26 = .ok (.ireturn, 1) := by decide +kernel
theorem d_M_load_0 : decode b_M_load 0 = .ok (.aload_n 0, 1) := by decide +kernel
theorem d_M_load_1 : decode b_M_load 1 = .ok (.iload_n 1, 1) := by decide +kernel
theorem d_M_load_2 : decode b_M_load 2 = .ok (.ldc 7, 2) := by decide +kernel
theorem d_M_load_4 : decode b_M_load 4 = .ok (.iand, 1) := by decide +kernel
theorem d_M_load_5 : decode b_M_load 5 = .ok (.ldc 8, 2) := by decide +kernel
theorem d_M_load_7 : decode b_M_load 7 = .ok (.irem, 1) := by decide +kernel
theorem d_M_load_8 : decode b_M_load 8 = .ok (.putfield 9, 3) := by decide +kernel
theorem d_M_load_11 : decode b_M_load 11 = .ok (.return_, 1) := by decide +kernel
theorem d_M_weekday_0 : decode b_M_weekday 0 = .ok (.aload_n 0, 1) := by decide +kernel
theorem d_M_weekday_1 : decode b_M_weekday 1 = .ok (.getfield 9, 3) := by decide +kernel
theorem d_M_weekday_4 : decode b_M_weekday 4 = .ok (.bipush 7, 2) := by decide +kernel
theorem d_M_weekday_6 : decode b_M_weekday 6 = .ok (.irem, 1) := by decide +kernel
theorem d_M_weekday_7 : decode b_M_weekday 7 = .ok (.iconst 1, 1) := by decide +kernel
theorem d_M_weekday_8 : decode b_M_weekday 8 = .ok (.iadd, 1) := by decide +kernel
theorem d_M_weekday_9 : decode b_M_weekday 9 = .ok (.ireturn, 1) := by decide +kernel
theorem d_M_year_0 : decode b_M_year 0 = .ok (.iconst 1, 1) := by decide +kernel
theorem d_M_year_1 : decode b_M_year 1 = .ok (.istore_n 1, 1) := by decide +kernel
theorem d_M_year_2 : decode b_M_year 2 = .ok (.aload_n 0, 1) := by decide +kernel
theorem d_M_year_3 : decode b_M_year 3 = .ok (.getfield 9, 3) := by decide +kernel
theorem d_M_year_6 : decode b_M_year 6 = .ok (.istore_n 2, 1) := by decide +kernel
theorem d_M_year_7 : decode b_M_year 7 = .ok (.iload_n 2, 1) := by decide +kernel
theorem d_M_year_8 : decode b_M_year 8 = .ok (.iload_n 1, 1) := by decide +kernel
theorem d_M_year_9 : decode b_M_year 9 = .ok (.invokestatic 15, 3) := by decide +kernel
theorem d_M_year_12 : decode b_M_year 12 = .ok (.ifCond .eq 9, 3) := by decide +kernel
theorem d_M_year_15 : decode b_M_year 15 = .ok (.sipush 366, 3) := by decide +kernel
theorem d_M_year_18 : decode b_M_year 18 = .ok (.goto 6, 3) := by decide +kernel
theorem d_M_year_21 : decode b_M_year 21 = .ok (.sipush 365, 3) := by decide +kernel
theorem d_M_year_24 : decode b_M_year 24 = .ok (.if_icmp .lt 29, 3) := by decide +kernel
theorem d_M_year_27 : decode b_M_year 27 = .ok (.iload_n 2, 1) := by decide +kernel
theorem d_M_year_28 : decode b_M_year 28 = .ok (.iload_n 1, 1) := by decide +kernel
theorem d_M_year_29 : decode b_M_year 29 = .ok (.invokestatic 15, 3) := by decide +kernel
theorem d_M_year_32 : decode b_M_year 32 = .ok (.ifCond .eq 9, 3) := by decide +kernel
theorem d_M_year_35 : decode b_M_year 35 = .ok (.sipush 366, 3) := by decide +kernel
theorem d_M_year_38 : decode b_M_year 38 = .ok (.goto 6, 3) := by decide +kernel
theorem d_M_year_41 : decode b_M_year 41 = .ok (.sipush 365, 3) := by decide +kernel
theorem d_M_year_44 : decode b_M_year 44 = .ok (.isub, 1) := by decide +kernel
theorem d_M_year_45 : decode b_M_year 45 = .ok (.istore_n 2, 1) := by decide +kernel
theorem d_M_year_46 : decode b_M_year 46 = .ok (.iload_n 1, 1) := by decide +kernel
theorem d_M_year_47 : decode b_M_year 47 = .ok (.iconst 1, 1) := by decide +kernel
theorem d_M_year_48 : decode b_M_year 48 = .ok (.iadd, 1) := by decide +kernel
theorem d_M_year_49 : decode b_M_year 49 = .ok (.istore_n 1, 1) := by decide +kernel
theorem d_M_year_50 : decode b_M_year 50 = .ok (.goto (-43), 3) := by decide +kernel
theorem d_M_year_53 : decode b_M_year 53 = .ok (.iload_n 1, 1) := by decide +kernel
theorem d_M_year_54 : decode b_M_year 54 = .ok (.ireturn, 1) := by decide +kernel
theorem d_M_before0_0 : decode b_M_before0 0 = .ok (.iconst 0, 1) := by decide +kernel
theorem d_M_before0_1 : decode b_M_before0 1 = .ok (.istore_n 1, 1) := by decide +kernel
theorem d_M_before0_2 : decode b_M_before0 2 = .ok (.iconst 1, 1) := by decide +kernel
theorem d_M_before0_3 : decode b_M_before0 3 = .ok (.istore_n 2, 1) := by decide +kernel
theorem d_M_before0_4 : decode b_M_before0 4 = .ok (.iload_n 2, 1) := by decide +kernel
theorem d_M_before0_5 : decode b_M_before0 5 = .ok (.iload_n 0, 1) := by decide +kernel
theorem d_M_before0_6 : decode b_M_before0 6 = .ok (.if_icmp .ge 28, 3) := by decide +kernel
theorem d_M_before0_9 : decode b_M_before0 9 = .ok (.iload_n 1, 1) := by decide +kernel
theorem d_M_before0_10 : decode b_M_before0 10 = .ok (.iload_n 2, 1) := by decide +kernel
theorem d_M_before0_11 : decode b_M_before0 11 = .ok (.invokestatic 15, 3) := by decide +kernel
theorem d_M_before0_14 : decode b_M_before0 14 = .ok (.ifCond .eq 9, 3) := by decide +kernel
theorem d_M_before0_17 : decode b_M_before0 17 = .ok (.sipush 366, 3) := by decide +kernel
theorem d_M_before0_20 : decode b_M_before0 20 = .ok (.goto 6, 3) := by decide +kernel
theorem d_M_before0_23 : decode b_M_before0 23 = .ok (.sipush 365, 3) := by decide +kernel
theorem d_M_before0_26 : decode b_M_before0 26 = .ok (.iadd, 1) := by decide +kernel
theorem d_M_before0_27 : decode b_M_before0 27 = .ok (.istore_n 1, 1) := by decide +kernel
theorem d_M_before0_28 : decode b_M_before0 28 = .ok (.iinc 2 1, 3) := by decide +kernel
theorem d_M_before0_31 : decode b_M_before0 31 = .ok (.goto (-27), 3) := by decide +kernel
theorem d_M_before0_34 : decode b_M_before0 34 = .ok (.iload_n 1, 1) := by decide +kernel
theorem d_M_before0_35 : decode b_M_before0 35 = .ok (.ireturn, 1) := by decide +kernel
theorem d_M_monday_0 : decode b_M_monday 0 = .ok (.iload_n 1, 1) := by decide +kernel
theorem d_M_monday_1 : decode b_M_monday 1 = .ok (.invokestatic 19, 3) := by decide +kernel
theorem d_M_monday_4 : decode b_M_monday 4 = .ok (.istore_n 2, 1) := by decide +kernel
theorem d_M_monday_5 : decode b_M_monday 5 = .ok (.iload_n 2, 1) := by decide +kernel
theorem d_M_monday_6 : decode b_M_monday 6 = .ok (.bipush 7, 2) := by decide +kernel
theorem d_M_monday_8 : decode b_M_monday 8 = .ok (.irem, 1) := by decide +kernel
theorem d_M_monday_9 : decode b_M_monday 9 = .ok (.iconst 3, 1) := by decide +kernel
theorem d_M_monday_10 : decode b_M_monday 10 = .ok (.if_icmp .eq 10, 3) := by decide +kernel
theorem d_M_monday_13 : decode b_M_monday 13 = .ok (.iload_n 2, 1) := by decide +kernel
theorem d_M_monday_14 : decode b_M_monday 14 = .ok (.iconst 1, 1) := by decide +kernel
theorem d_M_monday_15 : decode b_M_monday 15 = .ok (.iadd, 1) := by decide +kernel
theorem d_M_monday_16 : decode b_M_monday 16 = .ok (.istore_n 2, 1) := by decide +kernel
theorem d_M_monday_17 : decode b_M_monday 17 = .ok (.goto (-12), 3) := by decide +kernel
theorem d_M_monday_20 : decode b_M_monday 20 = .ok (.iload_n 2, 1) := by decide +kernel
theorem d_M_monday_21 : decode b_M_monday 21 = .ok (.iconst 3, 1) := by decide +kernel
theorem d_M_monday_22 : decode b_M_monday 22 = .ok (.isub, 1) := by decide +kernel
theorem d_M_monday_23 : decode b_M_monday 23 = .ok (.ireturn, 1) := by decide +kernel
theorem d_M_weekYear_0 : decode b_M_weekYear 0 = .ok (.aload_n 0, 1) := by decide +kernel
theorem d_M_weekYear_1 : decode b_M_weekYear 1 = .ok (.invokevirtual 23, 3) := by decide +kernel
theorem d_M_weekYear_4 : decode b_M_weekYear 4 = .ok (.istore_n 1, 1) := by decide +kernel
theorem d_M_weekYear_5 : decode b_M_weekYear 5 = .ok (.aload_n 0, 1) := by decide +kernel
theorem d_M_weekYear_6 : decode b_M_weekYear 6 = .ok (.getfield 9, 3) := by decide +kernel
theorem d_M_weekYear_9 : decode b_M_weekYear 9 = .ok (.aload_n 0, 1) := by decide +kernel
theorem d_M_weekYear_10 : decode b_M_weekYear 10 = .ok (.iload_n 1, 1) := by decide +kernel
theorem d_M_weekYear_11 : decode b_M_weekYear 11 = .ok (.iconst 1, 1) := by decide +kernel
theorem d_M_weekYear_12 : decode b_M_weekYear 12 = .ok (.iadd, 1) := by decide +kernel
theorem d_M_weekYear_13 : decode b_M_weekYear 13 = .ok (.invokevirtual 27, 3) := by decide +kernel
theorem d_M_weekYear_16 : decode b_M_weekYear 16 = .ok (.if_icmp .lt 7, 3) := by decide +kernel
theorem d_M_weekYear_19 : decode b_M_weekYear 19 = .ok (.iload_n 1, 1) := by decide +kernel
theorem d_M_weekYear_20 : decode b_M_weekYear 20 = .ok (.iconst 1, 1) := by decide +kernel
theorem d_M_weekYear_21 : decode b_M_weekYear 21 = .ok (.iadd, 1) := by decide +kernel
theorem d_M_weekYear_22 : decode b_M_weekYear 22 = .ok (.ireturn, 1) := by decide +kernel
theorem d_M_weekYear_23 : decode b_M_weekYear 23 = .ok (.aload_n 0, 1) := by decide +kernel
theorem d_M_weekYear_24 : decode b_M_weekYear 24 = .ok (.getfield 9, 3) := by decide +kernel
theorem d_M_weekYear_27 : decode b_M_weekYear 27 = .ok (.aload_n 0, 1) := by decide +kernel
theorem d_M_weekYear_28 : decode b_M_weekYear 28 = .ok (.iload_n 1, 1) := by decide +kernel
theorem d_M_weekYear_29 : decode b_M_weekYear 29 = .ok (.invokevirtual 27, 3) := by decide +kernel
theorem d_M_weekYear_32 : decode b_M_weekYear 32 = .ok (.if_icmp .ge 9, 3) := by decide +kernel
theorem d_M_weekYear_35 : decode b_M_weekYear 35 = .ok (.iload_n 1, 1) := by decide +kernel
theorem d_M_weekYear_36 : decode b_M_weekYear 36 = .ok (.iconst 1, 1) := by decide +kernel
theorem d_M_weekYear_37 : decode b_M_weekYear 37 = .ok (.isub, 1) := by decide +kernel
theorem d_M_weekYear_38 : decode b_M_weekYear 38 = .ok (.goto 4, 3) := by decide +kernel
theorem d_M_weekYear_41 : decode b_M_weekYear 41 = .ok (.iload_n 1, 1) := by decide +kernel
theorem d_M_weekYear_42 : decode b_M_weekYear 42 = .ok (.ireturn, 1) := by decide +kernel
theorem d_M_week_0 : decode b_M_week 0 = .ok (.aload_n 0, 1) := by decide +kernel
theorem d_M_week_1 : decode b_M_week 1 = .ok (.getfield 9, 3) := by decide +kernel
theorem d_M_week_4 : decode b_M_week 4 = .ok (.aload_n 0, 1) := by decide +kernel
theorem d_M_week_5 : decode b_M_week 5 = .ok (.aload_n 0, 1) := by decide +kernel
theorem d_M_week_6 : decode b_M_week 6 = .ok (.invokevirtual 30, 3) := by decide +kernel
theorem d_M_week_9 : decode b_M_week 9 = .ok (.invokevirtual 27, 3) := by decide +kernel
theorem d_M_week_12 : decode b_M_week 12 = .ok (.isub, 1) := by decide +kernel
theorem d_M_week_13 : decode b_M_week 13 = .ok (.bipush 7, 2) := by decide +kernel
theorem d_M_week_15 : decode b_M_week 15 = .ok (.idiv, 1) := by decide +kernel
theorem d_M_week_16 : decode b_M_week 16 = .ok (.iconst 1, 1) := by decide +kernel
theorem d_M_week_17 : decode b_M_week 17 = .ok (.iadd, 1) := by decide +kernel
theorem d_M_week_18 : decode b_M_week 18 = .ok (.ireturn, 1) := by decide +kernel
theorem d_M_weeks_0 : decode b_M_weeks 0 = .ok (.iconst 1, 1) := by decide +kernel
theorem d_M_weeks_1 : decode b_M_weeks 1 = .ok (.iload_n 1, 1) := by decide +kernel
theorem d_M_weeks_2 : decode b_M_weeks 2 = .ok (.ldc 7, 2) := by decide +kernel
theorem d_M_weeks_4 : decode b_M_weeks 4 = .ok (.iand, 1) := by decide +kernel
theorem d_M_weeks_5 : decode b_M_weeks 5 = .ok (.sipush 400, 3) := by decide +kernel
theorem d_M_weeks_8 : decode b_M_weeks 8 = .ok (.irem, 1) := by decide +kernel
theorem d_M_weeks_9 : decode b_M_weeks 9 = .ok (.iadd, 1) := by decide +kernel
theorem d_M_weeks_10 : decode b_M_weeks 10 = .ok (.istore_n 2, 1) := by decide +kernel
theorem d_M_weeks_11 : decode b_M_weeks 11 = .ok (.aload_n 0, 1) := by decide +kernel
theorem d_M_weeks_12 : decode b_M_weeks 12 = .ok (.iload_n 2, 1) := by decide +kernel
theorem d_M_weeks_13 : decode b_M_weeks 13 = .ok (.iconst 1, 1) := by decide +kernel
theorem d_M_weeks_14 : decode b_M_weeks 14 = .ok (.iadd, 1) := by decide +kernel
theorem d_M_weeks_15 : decode b_M_weeks 15 = .ok (.invokevirtual 27, 3) := by decide +kernel
theorem d_M_weeks_18 : decode b_M_weeks 18 = .ok (.aload_n 0, 1) := by decide +kernel
theorem d_M_weeks_19 : decode b_M_weeks 19 = .ok (.iload_n 2, 1) := by decide +kernel
theorem d_M_weeks_20 : decode b_M_weeks 20 = .ok (.invokevirtual 27, 3) := by decide +kernel
theorem d_M_weeks_23 : decode b_M_weeks 23 = .ok (.isub, 1) := by decide +kernel
theorem d_M_weeks_24 : decode b_M_weeks 24 = .ok (.bipush 7, 2) := by decide +kernel
theorem d_M_weeks_26 : decode b_M_weeks 26 = .ok (.idiv, 1) := by decide +kernel
theorem d_M_weeks_27 : decode b_M_weeks 27 = .ok (.ireturn, 1) := by decide +kernel
theorem d_M_fromWeek_0 : decode b_M_fromWeek 0 = .ok (.iconst 1, 1) := by decide +kernel
theorem d_M_fromWeek_1 : decode b_M_fromWeek 1 = .ok (.iload_n 1, 1) := by decide +kernel
theorem d_M_fromWeek_2 : decode b_M_fromWeek 2 = .ok (.ldc 7, 2) := by decide +kernel
theorem d_M_fromWeek_4 : decode b_M_fromWeek 4 = .ok (.iand, 1) := by decide +kernel
theorem d_M_fromWeek_5 : decode b_M_fromWeek 5 = .ok (.sipush 400, 3) := by decide +kernel
theorem d_M_fromWeek_8 : decode b_M_fromWeek 8 = .ok (.irem, 1) := by decide +kernel
theorem d_M_fromWeek_9 : decode b_M_fromWeek 9 = .ok (.iadd, 1) := by decide +kernel
theorem d_M_fromWeek_10 : decode b_M_fromWeek 10 = .ok (.istore 4, 2) := by decide +kernel
theorem d_M_fromWeek_12 : decode b_M_fromWeek 12 = .ok (.iconst 1, 1) := by decide +kernel
theorem d_M_fromWeek_13 : decode b_M_fromWeek 13 = .ok (.iload_n 2, 1) := by decide +kernel
theorem d_M_fromWeek_14 : decode b_M_fromWeek 14 = .ok (.ldc 7, 2) := by decide +kernel
theorem d_M_fromWeek_16 : decode b_M_fromWeek 16 = .ok (.iand, 1) := by decide +kernel
theorem d_M_fromWeek_17 : decode b_M_fromWeek 17 = .ok (.bipush 53, 2) := by decide +kernel
theorem d_M_fromWeek_19 : decode b_M_fromWeek 19 = .ok (.irem, 1) := by decide +kernel
theorem d_M_fromWeek_20 : decode b_M_fromWeek 20 = .ok (.iadd, 1) := by decide +kernel
theorem d_M_fromWeek_21 : decode b_M_fromWeek 21 = .ok (.istore 5, 2) := by decide +kernel
theorem d_M_fromWeek_23 : decode b_M_fromWeek 23 = .ok (.iload_n 3, 1) := by decide +kernel
theorem d_M_fromWeek_24 : decode b_M_fromWeek 24 = .ok (.ldc 7, 2) := by decide +kernel
theorem d_M_fromWeek_26 : decode b_M_fromWeek 26 = .ok (.iand, 1) := by decide +kernel
theorem d_M_fromWeek_27 : decode b_M_fromWeek 27 = .ok (.bipush 7, 2) := by decide +kernel
theorem d_M_fromWeek_29 : decode b_M_fromWeek 29 = .ok (.irem, 1) := by decide +kernel
theorem d_M_fromWeek_30 : decode b_M_fromWeek 30 = .ok (.istore 6, 2) := by decide +kernel
theorem d_M_fromWeek_32 : decode b_M_fromWeek 32 = .ok (.aload_n 0, 1) := by decide +kernel
theorem d_M_fromWeek_33 : decode b_M_fromWeek 33 = .ok (.iload 4, 2) := by decide +kernel
theorem d_M_fromWeek_35 : decode b_M_fromWeek 35 = .ok (.invokevirtual 27, 3) := by decide +kernel
theorem d_M_fromWeek_38 : decode b_M_fromWeek 38 = .ok (.bipush 7, 2) := by decide +kernel
theorem d_M_fromWeek_40 : decode b_M_fromWeek 40 = .ok (.iload 5, 2) := by decide +kernel
theorem d_M_fromWeek_42 : decode b_M_fromWeek 42 = .ok (.iconst 1, 1) := by decide +kernel
theorem d_M_fromWeek_43 : decode b_M_fromWeek 43 = .ok (.isub, 1) := by decide +kernel
theorem d_M_fromWeek_44 : decode b_M_fromWeek 44 = .ok (.imul, 1) := by decide +kernel
theorem d_M_fromWeek_45 : decode b_M_fromWeek 45 = .ok (.iadd, 1) := by decide +kernel
theorem d_M_fromWeek_46 : decode b_M_fromWeek 46 = .ok (.iload 6, 2) := by decide +kernel
theorem d_M_fromWeek_48 : decode b_M_fromWeek 48 = .ok (.iadd, 1) := by decide +kernel
theorem d_M_fromWeek_49 : decode b_M_fromWeek 49 = .ok (.istore 7, 2) := by decide +kernel
theorem d_M_fromWeek_51 : decode b_M_fromWeek 51 = .ok (.iload 5, 2) := by decide +kernel
theorem d_M_fromWeek_53 : decode b_M_fromWeek 53 = .ok (.aload_n 0, 1) := by decide +kernel
theorem d_M_fromWeek_54 : decode b_M_fromWeek 54 = .ok (.iload 4, 2) := by decide +kernel
theorem d_M_fromWeek_56 : decode b_M_fromWeek 56 = .ok (.iconst 1, 1) := by decide +kernel
theorem d_M_fromWeek_57 : decode b_M_fromWeek 57 = .ok (.isub, 1) := by decide +kernel
theorem d_M_fromWeek_58 : decode b_M_fromWeek 58 = .ok (.invokevirtual 33, 3) := by decide +kernel
theorem d_M_fromWeek_61 : decode b_M_fromWeek 61 = .ok (.if_icmp .gt 15, 3) := by decide +kernel
theorem d_M_fromWeek_64 : decode b_M_fromWeek 64 = .ok (.iload 7, 2) := by decide +kernel
theorem d_M_fromWeek_66 : decode b_M_fromWeek 66 = .ok (.ifCond .lt 10, 3) := by decide +kernel
theorem d_M_fromWeek_69 : decode b_M_fromWeek 69 = .ok (.iload 7, 2) := by decide +kernel
theorem d_M_fromWeek_71 : decode b_M_fromWeek 71 = .ok (.ldc 8, 2) := by decide +kernel
theorem d_M_fromWeek_73 : decode b_M_fromWeek 73 = .ok (.if_icmp .lt 5, 3) := by decide +kernel
theorem d_M_fromWeek_76 : decode b_M_fromWeek 76 = .ok (.iconst 0, 1) := by decide +kernel
theorem d_M_fromWeek_77 : decode b_M_fromWeek 77 = .ok (.ireturn, 1) := by decide +kernel
theorem d_M_fromWeek_78 : decode b_M_fromWeek 78 = .ok (.aload_n 0, 1) := by decide +kernel
theorem d_M_fromWeek_79 : decode b_M_fromWeek 79 = .ok (.iload 7, 2) := by decide +kernel
theorem d_M_fromWeek_81 : decode b_M_fromWeek 81 = .ok (.putfield 9, 3) := by decide +kernel
theorem d_M_fromWeek_84 : decode b_M_fromWeek 84 = .ok (.iconst 1, 1) := by decide +kernel
theorem d_M_fromWeek_85 : decode b_M_fromWeek 85 = .ok (.ireturn, 1) := by decide +kernel
theorem d_M_dayOfYear_0 : decode b_M_dayOfYear 0 = .ok (.aload_n 0, 1) := by decide +kernel
theorem d_M_dayOfYear_1 : decode b_M_dayOfYear 1 = .ok (.getfield 9, 3) := by decide +kernel
theorem d_M_dayOfYear_4 : decode b_M_dayOfYear 4 = .ok (.aload_n 0, 1) := by decide +kernel
theorem d_M_dayOfYear_5 : decode b_M_dayOfYear 5 = .ok (.invokevirtual 23, 3) := by decide +kernel
theorem d_M_dayOfYear_8 : decode b_M_dayOfYear 8 = .ok (.invokestatic 19, 3) := by decide +kernel
theorem d_M_dayOfYear_11 : decode b_M_dayOfYear 11 = .ok (.isub, 1) := by decide +kernel
theorem d_M_dayOfYear_12 : decode b_M_dayOfYear 12 = .ok (.iconst 1, 1) := by decide +kernel
theorem d_M_dayOfYear_13 : decode b_M_dayOfYear 13 = .ok (.iadd, 1) := by decide +kernel
theorem d_M_dayOfYear_14 : decode b_M_dayOfYear 14 = .ok (.ireturn, 1) := by decide +kernel
theorem d_M_yearOf_0 : decode b_M_yearOf 0 = .ok (.aload_n 0, 1) := by decide +kernel
theorem d_M_yearOf_1 : decode b_M_yearOf 1 = .ok (.invokevirtual 23, 3) := by decide +kernel
theorem d_M_yearOf_4 : decode b_M_yearOf 4 = .ok (.ireturn, 1) := by decide +kernel
theorem d_M_fridays_0 : decode b_M_fridays 0 = .ok (.iconst 1, 1) := by decide +kernel
theorem d_M_fridays_1 : decode b_M_fridays 1 = .ok (.iload_n 1, 1) := by decide +kernel
theorem d_M_fridays_2 : decode b_M_fridays 2 = .ok (.ldc 7, 2) := by decide +kernel
theorem d_M_fridays_4 : decode b_M_fridays 4 = .ok (.iand, 1) := by decide +kernel
theorem d_M_fridays_5 : decode b_M_fridays 5 = .ok (.sipush 400, 3) := by decide +kernel
theorem d_M_fridays_8 : decode b_M_fridays 8 = .ok (.irem, 1) := by decide +kernel
theorem d_M_fridays_9 : decode b_M_fridays 9 = .ok (.iadd, 1) := by decide +kernel
theorem d_M_fridays_10 : decode b_M_fridays 10 = .ok (.istore_n 2, 1) := by decide +kernel
theorem d_M_fridays_11 : decode b_M_fridays 11 = .ok (.iconst 0, 1) := by decide +kernel
theorem d_M_fridays_12 : decode b_M_fridays 12 = .ok (.istore_n 3, 1) := by decide +kernel
theorem d_M_fridays_13 : decode b_M_fridays 13 = .ok (.iload_n 2, 1) := by decide +kernel
theorem d_M_fridays_14 : decode b_M_fridays 14 = .ok (.invokestatic 19, 3) := by decide +kernel
theorem d_M_fridays_17 : decode b_M_fridays 17 = .ok (.istore 4, 2) := by decide +kernel
theorem d_M_fridays_19 : decode b_M_fridays 19 = .ok (.iconst 1, 1) := by decide +kernel
theorem d_M_fridays_20 : decode b_M_fridays 20 = .ok (.istore 5, 2) := by decide +kernel
theorem d_M_fridays_22 : decode b_M_fridays 22 = .ok (.iload 5, 2) := by decide +kernel
theorem d_M_fridays_24 : decode b_M_fridays 24 = .ok (.bipush 12, 2) := by decide +kernel
theorem d_M_fridays_26 : decode b_M_fridays 26 = .ok (.if_icmp .gt 87, 3) := by decide +kernel
theorem d_M_fridays_29 : decode b_M_fridays 29 = .ok (.iload 4, 2) := by decide +kernel
theorem d_M_fridays_31 : decode b_M_fridays 31 = .ok (.bipush 12, 2) := by decide +kernel
theorem d_M_fridays_33 : decode b_M_fridays 33 = .ok (.iadd, 1) := by decide +kernel
theorem d_M_fridays_34 : decode b_M_fridays 34 = .ok (.bipush 7, 2) := by decide +kernel
theorem d_M_fridays_36 : decode b_M_fridays 36 = .ok (.irem, 1) := by decide +kernel
theorem d_M_fridays_37 : decode b_M_fridays 37 = .ok (.iconst 4, 1) := by decide +kernel
theorem d_M_fridays_38 : decode b_M_fridays 38 = .ok (.if_icmp .ne 7, 3) := by decide +kernel
theorem d_M_fridays_41 : decode b_M_fridays 41 = .ok (.iload_n 3, 1) := by decide +kernel
theorem d_M_fridays_42 : decode b_M_fridays 42 = .ok (.iconst 1, 1) := by decide +kernel
theorem d_M_fridays_43 : decode b_M_fridays 43 = .ok (.iadd, 1) := by decide +kernel
theorem d_M_fridays_44 : decode b_M_fridays 44 = .ok (.istore_n 3, 1) := by decide +kernel
theorem d_M_fridays_45 : decode b_M_fridays 45 = .ok (.iload 4, 2) := by decide +kernel
theorem d_M_fridays_47 : decode b_M_fridays 47 = .ok (.iload 5, 2) := by decide +kernel
theorem d_M_fridays_49 : decode b_M_fridays 49 = .ok (.iconst 2, 1) := by decide +kernel
theorem d_M_fridays_50 : decode b_M_fridays 50 = .ok (.if_icmp .ne 20, 3) := by decide +kernel
theorem d_M_fridays_53 : decode b_M_fridays 53 = .ok (.iload_n 2, 1) := by decide +kernel
theorem d_M_fridays_54 : decode b_M_fridays 54 = .ok (.invokestatic 15, 3) := by decide +kernel
theorem d_M_fridays_57 : decode b_M_fridays 57 = .ok (.ifCond .eq 8, 3) := by decide +kernel
theorem d_M_fridays_60 : decode b_M_fridays 60 = .ok (.bipush 29, 2) := by decide +kernel
theorem d_M_fridays_62 : decode b_M_fridays 62 = .ok (.goto 42, 3) := by decide +kernel
theorem d_M_fridays_65 : decode b_M_fridays 65 = .ok (.bipush 28, 2) := by decide +kernel
theorem d_M_fridays_67 : decode b_M_fridays 67 = .ok (.goto 37, 3) := by decide +kernel
theorem d_M_fridays_70 : decode b_M_fridays 70 = .ok (.iload 5, 2) := by decide +kernel
theorem d_M_fridays_72 : decode b_M_fridays 72 = .ok (.iconst 4, 1) := by decide +kernel
theorem d_M_fridays_73 : decode b_M_fridays 73 = .ok (.if_icmp .eq 24, 3) := by decide +kernel
theorem d_M_fridays_76 : decode b_M_fridays 76 = .ok (.iload 5, 2) := by decide +kernel
theorem d_M_fridays_78 : decode b_M_fridays 78 = .ok (.bipush 6, 2) := by decide +kernel
theorem d_M_fridays_80 : decode b_M_fridays 80 = .ok (.if_icmp .eq 17, 3) := by decide +kernel
theorem d_M_fridays_83 : decode b_M_fridays 83 = .ok (.iload 5, 2) := by decide +kernel
theorem d_M_fridays_85 : decode b_M_fridays 85 = .ok (.bipush 9, 2) := by decide +kernel
theorem d_M_fridays_87 : decode b_M_fridays 87 = .ok (.if_icmp .eq 10, 3) := by decide +kernel
theorem d_M_fridays_90 : decode b_M_fridays 90 = .ok (.iload 5, 2) := by decide +kernel
theorem d_M_fridays_92 : decode b_M_fridays 92 = .ok (.bipush 11, 2) := by decide +kernel
theorem d_M_fridays_94 : decode b_M_fridays 94 = .ok (.if_icmp .ne 8, 3) := by decide +kernel
theorem d_M_fridays_97 : decode b_M_fridays 97 = .ok (.bipush 30, 2) := by decide +kernel
theorem d_M_fridays_99 : decode b_M_fridays 99 = .ok (.goto 5, 3) := by decide +kernel
theorem d_M_fridays_102 : decode b_M_fridays 102 = .ok (.bipush 31, 2) := by decide +kernel
theorem d_M_fridays_104 : decode b_M_fridays 104 = .ok (.iadd, 1) := by decide +kernel
theorem d_M_fridays_105 : decode b_M_fridays 105 = .ok (.istore 4, 2) := by decide +kernel
theorem d_M_fridays_107 : decode b_M_fridays 107 = .ok (.iinc 5 1, 3) := by decide +kernel
theorem d_M_fridays_110 : decode b_M_fridays 110 = .ok (.goto (-88), 3) := by decide +kernel
theorem d_M_fridays_113 : decode b_M_fridays 113 = .ok (.iload_n 3, 1) := by decide +kernel
theorem d_M_fridays_114 : decode b_M_fridays 114 = .ok (.ireturn, 1) := by decide +kernel
theorem d_M_easter_0 : decode b_M_easter 0 = .ok (.iconst 1, 1) := by decide +kernel
theorem d_M_easter_1 : decode b_M_easter 1 = .ok (.iload_n 1, 1) := by decide +kernel
theorem d_M_easter_2 : decode b_M_easter 2 = .ok (.ldc 7, 2) := by decide +kernel
theorem d_M_easter_4 : decode b_M_easter 4 = .ok (.iand, 1) := by decide +kernel
theorem d_M_easter_5 : decode b_M_easter 5 = .ok (.sipush 400, 3) := by decide +kernel
theorem d_M_easter_8 : decode b_M_easter 8 = .ok (.irem, 1) := by decide +kernel
theorem d_M_easter_9 : decode b_M_easter 9 = .ok (.iadd, 1) := by decide +kernel
theorem d_M_easter_10 : decode b_M_easter 10 = .ok (.istore_n 2, 1) := by decide +kernel
theorem d_M_easter_11 : decode b_M_easter 11 = .ok (.iload_n 2, 1) := by decide +kernel
theorem d_M_easter_12 : decode b_M_easter 12 = .ok (.bipush 19, 2) := by decide +kernel
theorem d_M_easter_14 : decode b_M_easter 14 = .ok (.irem, 1) := by decide +kernel
theorem d_M_easter_15 : decode b_M_easter 15 = .ok (.iconst 1, 1) := by decide +kernel
theorem d_M_easter_16 : decode b_M_easter 16 = .ok (.iadd, 1) := by decide +kernel
theorem d_M_easter_17 : decode b_M_easter 17 = .ok (.istore_n 3, 1) := by decide +kernel
theorem d_M_easter_18 : decode b_M_easter 18 = .ok (.iload_n 2, 1) := by decide +kernel
theorem d_M_easter_19 : decode b_M_easter 19 = .ok (.bipush 100, 2) := by decide +kernel
theorem d_M_easter_21 : decode b_M_easter 21 = .ok (.idiv, 1) := by decide +kernel
theorem d_M_easter_22 : decode b_M_easter 22 = .ok (.iconst 1, 1) := by decide +kernel
theorem d_M_easter_23 : decode b_M_easter 23 = .ok (.iadd, 1) := by decide +kernel
theorem d_M_easter_24 : decode b_M_easter 24 = .ok (.istore 4, 2) := by decide +kernel
theorem d_M_easter_26 : decode b_M_easter 26 = .ok (.iconst 3, 1) := by decide +kernel
theorem d_M_easter_27 : decode b_M_easter 27 = .ok (.iload 4, 2) := by decide +kernel
theorem d_M_easter_29 : decode b_M_easter 29 = .ok (.imul, 1) := by decide +kernel
theorem d_M_easter_30 : decode b_M_easter 30 = .ok (.iconst 4, 1) := by decide +kernel
theorem d_M_easter_31 : decode b_M_easter 31 = .ok (.idiv, 1) := by decide +kernel
theorem d_M_easter_32 : decode b_M_easter 32 = .ok (.bipush 12, 2) := by decide +kernel
theorem d_M_easter_34 : decode b_M_easter 34 = .ok (.isub, 1) := by decide +kernel
theorem d_M_easter_35 : decode b_M_easter 35 = .ok (.istore 5, 2) := by decide +kernel
theorem d_M_easter_37 : decode b_M_easter 37 = .ok (.bipush 8, 2) := by decide +kernel
theorem d_M_easter_39 : decode b_M_easter 39 = .ok (.iload 4, 2) := by decide +kernel
theorem d_M_easter_41 : decode b_M_easter 41 = .ok (.imul, 1) := by decide +kernel
theorem d_M_easter_42 : decode b_M_easter 42 = .ok (.iconst 5, 1) := by decide +kernel
theorem d_M_easter_43 : decode b_M_easter 43 = .ok (.iadd, 1) := by decide +kernel
theorem d_M_easter_44 : decode b_M_easter 44 = .ok (.bipush 25, 2) := by decide +kernel
theorem d_M_easter_46 : decode b_M_easter 46 = .ok (.idiv, 1) := by decide +kernel
theorem d_M_easter_47 : decode b_M_easter 47 = .ok (.iconst 5, 1) := by decide +kernel
theorem d_M_easter_48 : decode b_M_easter 48 = .ok (.isub, 1) := by decide +kernel
theorem d_M_easter_49 : decode b_M_easter 49 = .ok (.istore 6, 2) := by decide +kernel
theorem d_M_easter_51 : decode b_M_easter 51 = .ok (.iconst 5, 1) := by decide +kernel
theorem d_M_easter_52 : decode b_M_easter 52 = .ok (.iload_n 2, 1) := by decide +kernel
theorem d_M_easter_53 : decode b_M_easter 53 = .ok (.imul, 1) := by decide +kernel
theorem d_M_easter_54 : decode b_M_easter 54 = .ok (.iconst 4, 1) := by decide +kernel
theorem d_M_easter_55 : decode b_M_easter 55 = .ok (.idiv, 1) := by decide +kernel
theorem d_M_easter_56 : decode b_M_easter 56 = .ok (.iload 5, 2) := by decide +kernel
theorem d_M_easter_58 : decode b_M_easter 58 = .ok (.isub, 1) := by decide +kernel
theorem d_M_easter_59 : decode b_M_easter 59 = .ok (.bipush 10, 2) := by decide +kernel
theorem d_M_easter_61 : decode b_M_easter 61 = .ok (.isub, 1) := by decide +kernel
theorem d_M_easter_62 : decode b_M_easter 62 = .ok (.istore 7, 2) := by decide +kernel
theorem d_M_easter_64 : decode b_M_easter 64 = .ok (.bipush 11, 2) := by decide +kernel
theorem d_M_easter_66 : decode b_M_easter 66 = .ok (.iload_n 3, 1) := by decide +kernel
theorem d_M_easter_67 : decode b_M_easter 67 = .ok (.imul, 1) := by decide +kernel
theorem d_M_easter_68 : decode b_M_easter 68 = .ok (.bipush 20, 2) := by decide +kernel
theorem d_M_easter_70 : decode b_M_easter 70 = .ok (.iadd, 1) := by decide +kernel
theorem d_M_easter_71 : decode b_M_easter 71 = .ok (.iload 6, 2) := by decide +kernel
theorem d_M_easter_73 : decode b_M_easter 73 = .ok (.iadd, 1) := by decide +kernel
theorem d_M_easter_74 : decode b_M_easter 74 = .ok (.iload 5, 2) := by decide +kernel
theorem d_M_easter_76 : decode b_M_easter 76 = .ok (.isub, 1) := by decide +kernel
theorem d_M_easter_77 : decode b_M_easter 77 = .ok (.bipush 30, 2) := by decide +kernel
theorem d_M_easter_79 : decode b_M_easter 79 = .ok (.irem, 1) := by decide +kernel
theorem d_M_easter_80 : decode b_M_easter 80 = .ok (.istore 8, 2) := by decide +kernel
theorem d_M_easter_82 : decode b_M_easter 82 = .ok (.iload 8, 2) := by decide +kernel
theorem d_M_easter_84 : decode b_M_easter 84 = .ok (.ifCond .ge 10, 3) := by decide +kernel
theorem d_M_easter_87 : decode b_M_easter 87 = .ok (.iload 8, 2) := by decide +kernel
theorem d_M_easter_89 : decode b_M_easter 89 = .ok (.bipush 30, 2) := by decide +kernel
theorem d_M_easter_91 : decode b_M_easter 91 = .ok (.iadd, 1) := by decide +kernel
theorem d_M_easter_92 : decode b_M_easter 92 = .ok (.istore 8, 2) := by decide +kernel
theorem d_M_easter_94 : decode b_M_easter 94 = .ok (.iload 8, 2) := by decide +kernel
theorem d_M_easter_96 : decode b_M_easter 96 = .ok (.bipush 25, 2) := by decide +kernel
theorem d_M_easter_98 : decode b_M_easter 98 = .ok (.if_icmp .ne 9, 3) := by decide +kernel
theorem d_M_easter_101 : decode b_M_easter 101 = .ok (.iload_n 3, 1) := by decide +kernel
theorem d_M_easter_102 : decode b_M_easter 102 = .ok (.bipush 11, 2) := by decide +kernel
theorem d_M_easter_104 : decode b_M_easter 104 = .ok (.if_icmp .gt 10, 3) := by decide +kernel
theorem d_M_easter_107 : decode b_M_easter 107 = .ok (.iload 8, 2) := by decide +kernel
theorem d_M_easter_109 : decode b_M_easter 109 = .ok (.bipush 24, 2) := by decide +kernel
theorem d_M_easter_111 : decode b_M_easter 111 = .ok (.if_icmp .ne 9, 3) := by decide +kernel
theorem d_M_easter_114 : decode b_M_easter 114 = .ok (.iload 8, 2) := by decide +kernel
theorem d_M_easter_116 : decode b_M_easter 116 = .ok (.iconst 1, 1) := by decide +kernel
theorem d_M_easter_117 : decode b_M_easter 117 = .ok (.iadd, 1) := by decide +kernel
theorem d_M_easter_118 : decode b_M_easter 118 = .ok (.istore 8, 2) := by decide +kernel
theorem d_M_easter_120 : decode b_M_easter 120 = .ok (.bipush 44, 2) := by decide +kernel
theorem d_M_easter_122 : decode b_M_easter 122 = .ok (.iload 8, 2) := by decide +kernel
theorem d_M_easter_124 : decode b_M_easter 124 = .ok (.isub, 1) := by decide +kernel
theorem d_M_easter_125 : decode b_M_easter 125 = .ok (.istore 9, 2) := by decide +kernel
theorem d_M_easter_127 : decode b_M_easter 127 = .ok (.iload 9, 2) := by decide +kernel
theorem d_M_easter_129 : decode b_M_easter 129 = .ok (.bipush 21, 2) := by decide +kernel
theorem d_M_easter_131 : decode b_M_easter 131 = .ok (.if_icmp .ge 10, 3) := by decide +kernel
theorem d_M_easter_134 : decode b_M_easter 134 = .ok (.iload 9, 2) := by decide +kernel
theorem d_M_easter_136 : decode b_M_easter 136 = .ok (.bipush 30, 2) := by decide +kernel
theorem d_M_easter_138 : decode b_M_easter 138 = .ok (.iadd, 1) := by decide +kernel
theorem d_M_easter_139 : decode b_M_easter 139 = .ok (.istore 9, 2) := by decide +kernel
theorem d_M_easter_141 : decode b_M_easter 141 = .ok (.iload 9, 2) := by decide +kernel
theorem d_M_easter_143 : decode b_M_easter 143 = .ok (.bipush 7, 2) := by decide +kernel
theorem d_M_easter_145 : decode b_M_easter 145 = .ok (.iadd, 1) := by decide +kernel
theorem d_M_easter_146 : decode b_M_easter 146 = .ok (.iload 7, 2) := by decide +kernel
theorem d_M_easter_148 : decode b_M_easter 148 = .ok (.iload 9, 2) := by decide +kernel
theorem d_M_easter_150 : decode b_M_easter 150 = .ok (.iadd, 1) := by decide +kernel
theorem d_M_easter_151 : decode b_M_easter 151 = .ok (.bipush 7, 2) := by decide +kernel
theorem d_M_easter_153 : decode b_M_easter 153 = .ok (.irem, 1) := by decide +kernel
theorem d_M_easter_154 : decode b_M_easter 154 = .ok (.isub, 1) := by decide +kernel
theorem d_M_easter_155 : decode b_M_easter 155 = .ok (.ireturn, 1) := by decide +kernel
end
section
theorem d_law_law_0 : decode code 0 = .ok (.new 7, 3) := by decide +kernel
theorem d_law_law_3 : decode code 3 = .ok (.dup, 1) := by decide +kernel
theorem d_law_law_4 : decode code 4 = .ok (.invokespecial 9, 3) := by decide +kernel
theorem d_law_law_7 : decode code 7 = .ok (.astore_n 1, 1) := by decide +kernel
theorem d_law_law_8 : decode code 8 = .ok (.new 10, 3) := by decide +kernel
theorem d_law_law_11 : decode code 11 = .ok (.dup, 1) := by decide +kernel
theorem d_law_law_12 : decode code 12 = .ok (.invokespecial 12, 3) := by decide +kernel
theorem d_law_law_15 : decode code 15 = .ok (.astore_n 2, 1) := by decide +kernel
theorem d_law_law_16 : decode code 16 = .ok (.iconst 0, 1) := by decide +kernel
theorem d_law_law_17 : decode code 17 = .ok (.istore_n 3, 1) := by decide +kernel
theorem d_law_law_18 : decode code 18 = .ok (.iload_n 3, 1) := by decide +kernel
theorem d_law_law_19 : decode code 19 = .ok (.aload_n 0, 1) := by decide +kernel
theorem d_law_law_20 : decode code 20 = .ok (.arraylength, 1) := by decide +kernel
theorem d_law_law_21 : decode code 21 = .ok (.iconst 4, 1) := by decide +kernel
theorem d_law_law_22 : decode code 22 = .ok (.isub, 1) := by decide +kernel
theorem d_law_law_23 : decode code 23 = .ok (.if_icmp .gt 269, 3) := by decide +kernel
theorem d_law_law_26 : decode code 26 = .ok (.aload_n 0, 1) := by decide +kernel
theorem d_law_law_27 : decode code 27 = .ok (.iload_n 3, 1) := by decide +kernel
theorem d_law_law_28 : decode code 28 = .ok (.iaload, 1) := by decide +kernel
theorem d_law_law_29 : decode code 29 = .ok (.bipush 15, 2) := by decide +kernel
theorem d_law_law_31 : decode code 31 = .ok (.iand, 1) := by decide +kernel
theorem d_law_law_32 : decode code 32 = .ok (.tableswitch 254 0 9 #[56, 77, 90, 103, 116, 139, 182, 195, 208, 231], 56) := by decide +kernel
theorem d_law_law_88 : decode code 88 = .ok (.aload_n 1, 1) := by decide +kernel
theorem d_law_law_89 : decode code 89 = .ok (.aload_n 0, 1) := by decide +kernel
theorem d_law_law_90 : decode code 90 = .ok (.iload_n 3, 1) := by decide +kernel
theorem d_law_law_91 : decode code 91 = .ok (.iconst 1, 1) := by decide +kernel
theorem d_law_law_92 : decode code 92 = .ok (.iadd, 1) := by decide +kernel
theorem d_law_law_93 : decode code 93 = .ok (.iaload, 1) := by decide +kernel
theorem d_law_law_94 : decode code 94 = .ok (.invokevirtual 13, 3) := by decide +kernel
theorem d_law_law_97 : decode code 97 = .ok (.aload_n 2, 1) := by decide +kernel
theorem d_law_law_98 : decode code 98 = .ok (.aload_n 0, 1) := by decide +kernel
theorem d_law_law_99 : decode code 99 = .ok (.iload_n 3, 1) := by decide +kernel
theorem d_law_law_100 : decode code 100 = .ok (.iconst 1, 1) := by decide +kernel
theorem d_law_law_101 : decode code 101 = .ok (.iadd, 1) := by decide +kernel
theorem d_law_law_102 : decode code 102 = .ok (.iaload, 1) := by decide +kernel
theorem d_law_law_103 : decode code 103 = .ok (.invokevirtual 17, 3) := by decide +kernel
theorem d_law_law_106 : decode code 106 = .ok (.goto 180, 3) := by decide +kernel
theorem d_law_law_109 : decode code 109 = .ok (.aload_n 1, 1) := by decide +kernel
theorem d_law_law_110 : decode code 110 = .ok (.invokevirtual 18, 3) := by decide +kernel
theorem d_law_law_113 : decode code 113 = .ok (.aload_n 2, 1) := by decide +kernel
theorem d_law_law_114 : decode code 114 = .ok (.invokevirtual 22, 3) := by decide +kernel
theorem d_law_law_117 : decode code 117 = .ok (.if_icmp .eq 169, 3) := by decide +kernel
theorem d_law_law_120 : decode code 120 = .ok (.iconst 0, 1) := by decide +kernel
theorem d_law_law_121 : decode code 121 = .ok (.ireturn, 1) := by decide +kernel
theorem d_law_law_122 : decode code 122 = .ok (.aload_n 1, 1) := by decide +kernel
theorem d_law_law_123 : decode code 123 = .ok (.invokevirtual 23, 3) := by decide +kernel
theorem d_law_law_126 : decode code 126 = .ok (.aload_n 2, 1) := by decide +kernel
theorem d_law_law_127 : decode code 127 = .ok (.invokevirtual 26, 3) := by decide +kernel
theorem d_law_law_130 : decode code 130 = .ok (.if_icmp .eq 156, 3) := by decide +kernel
theorem d_law_law_133 : decode code 133 = .ok (.iconst 0, 1) := by decide +kernel
theorem d_law_law_134 : decode code 134 = .ok (.ireturn, 1) := by decide +kernel
theorem d_law_law_135 : decode code 135 = .ok (.aload_n 1, 1) := by decide +kernel
theorem d_law_law_136 : decode code 136 = .ok (.invokevirtual 27, 3) := by decide +kernel
theorem d_law_law_139 : decode code 139 = .ok (.aload_n 2, 1) := by decide +kernel
theorem d_law_law_140 : decode code 140 = .ok (.invokevirtual 30, 3) := by decide +kernel
theorem d_law_law_143 : decode code 143 = .ok (.if_icmp .eq 143, 3) := by decide +kernel
theorem d_law_law_146 : decode code 146 = .ok (.iconst 0, 1) := by decide +kernel
theorem d_law_law_147 : decode code 147 = .ok (.ireturn, 1) := by decide +kernel
theorem d_law_law_148 : decode code 148 = .ok (.aload_n 1, 1) := by decide +kernel
theorem d_law_law_149 : decode code 149 = .ok (.aload_n 0, 1) := by decide +kernel
theorem d_law_law_150 : decode code 150 = .ok (.iload_n 3, 1) := by decide +kernel
theorem d_law_law_151 : decode code 151 = .ok (.iconst 1, 1) := by decide +kernel
theorem d_law_law_152 : decode code 152 = .ok (.iadd, 1) := by decide +kernel
theorem d_law_law_153 : decode code 153 = .ok (.iaload, 1) := by decide +kernel
theorem d_law_law_154 : decode code 154 = .ok (.invokevirtual 31, 3) := by decide +kernel
theorem d_law_law_157 : decode code 157 = .ok (.aload_n 2, 1) := by decide +kernel
theorem d_law_law_158 : decode code 158 = .ok (.aload_n 0, 1) := by decide +kernel
theorem d_law_law_159 : decode code 159 = .ok (.iload_n 3, 1) := by decide +kernel
theorem d_law_law_160 : decode code 160 = .ok (.iconst 1, 1) := by decide +kernel
theorem d_law_law_161 : decode code 161 = .ok (.iadd, 1) := by decide +kernel
theorem d_law_law_162 : decode code 162 = .ok (.iaload, 1) := by decide +kernel
theorem d_law_law_163 : decode code 163 = .ok (.invokevirtual 35, 3) := by decide +kernel
theorem d_law_law_166 : decode code 166 = .ok (.if_icmp .eq 120, 3) := by decide +kernel
theorem d_law_law_169 : decode code 169 = .ok (.iconst 0, 1) := by decide +kernel
theorem d_law_law_170 : decode code 170 = .ok (.ireturn, 1) := by decide +kernel
theorem d_law_law_171 : decode code 171 = .ok (.aload_n 1, 1) := by decide +kernel
theorem d_law_law_172 : decode code 172 = .ok (.aload_n 0, 1) := by decide +kernel
theorem d_law_law_173 : decode code 173 = .ok (.iload_n 3, 1) := by decide +kernel
theorem d_law_law_174 : decode code 174 = .ok (.iconst 1, 1) := by decide +kernel
theorem d_law_law_175 : decode code 175 = .ok (.iadd, 1) := by decide +kernel
theorem d_law_law_176 : decode code 176 = .ok (.iaload, 1) := by decide +kernel
theorem d_law_law_177 : decode code 177 = .ok (.aload_n 0, 1) := by decide +kernel
theorem d_law_law_178 : decode code 178 = .ok (.iload_n 3, 1) := by decide +kernel
theorem d_law_law_179 : decode code 179 = .ok (.iconst 2, 1) := by decide +kernel
theorem d_law_law_180 : decode code 180 = .ok (.iadd, 1) := by decide +kernel
theorem d_law_law_181 : decode code 181 = .ok (.iaload, 1) := by decide +kernel
theorem d_law_law_182 : decode code 182 = .ok (.aload_n 0, 1) := by decide +kernel
theorem d_law_law_183 : decode code 183 = .ok (.iload_n 3, 1) := by decide +kernel
theorem d_law_law_184 : decode code 184 = .ok (.iconst 3, 1) := by decide +kernel
theorem d_law_law_185 : decode code 185 = .ok (.iadd, 1) := by decide +kernel
theorem d_law_law_186 : decode code 186 = .ok (.iaload, 1) := by decide +kernel
theorem d_law_law_187 : decode code 187 = .ok (.invokevirtual 36, 3) := by decide +kernel
theorem d_law_law_190 : decode code 190 = .ok (.aload_n 2, 1) := by decide +kernel
theorem d_law_law_191 : decode code 191 = .ok (.aload_n 0, 1) := by decide +kernel
theorem d_law_law_192 : decode code 192 = .ok (.iload_n 3, 1) := by decide +kernel
theorem d_law_law_193 : decode code 193 = .ok (.iconst 1, 1) := by decide +kernel
theorem d_law_law_194 : decode code 194 = .ok (.iadd, 1) := by decide +kernel
theorem d_law_law_195 : decode code 195 = .ok (.iaload, 1) := by decide +kernel
theorem d_law_law_196 : decode code 196 = .ok (.aload_n 0, 1) := by decide +kernel
theorem d_law_law_197 : decode code 197 = .ok (.iload_n 3, 1) := by decide +kernel
theorem d_law_law_198 : decode code 198 = .ok (.iconst 2, 1) := by decide +kernel
theorem d_law_law_199 : decode code 199 = .ok (.iadd, 1) := by decide +kernel
theorem d_law_law_200 : decode code 200 = .ok (.iaload, 1) := by decide +kernel
theorem d_law_law_201 : decode code 201 = .ok (.aload_n 0, 1) := by decide +kernel
theorem d_law_law_202 : decode code 202 = .ok (.iload_n 3, 1) := by decide +kernel
theorem d_law_law_203 : decode code 203 = .ok (.iconst 3, 1) := by decide +kernel
theorem d_law_law_204 : decode code 204 = .ok (.iadd, 1) := by decide +kernel
theorem d_law_law_205 : decode code 205 = .ok (.iaload, 1) := by decide +kernel
theorem d_law_law_206 : decode code 206 = .ok (.invokevirtual 40, 3) := by decide +kernel
theorem d_law_law_209 : decode code 209 = .ok (.if_icmp .eq 77, 3) := by decide +kernel
theorem d_law_law_212 : decode code 212 = .ok (.iconst 0, 1) := by decide +kernel
theorem d_law_law_213 : decode code 213 = .ok (.ireturn, 1) := by decide +kernel
theorem d_law_law_214 : decode code 214 = .ok (.aload_n 1, 1) := by decide +kernel
theorem d_law_law_215 : decode code 215 = .ok (.invokevirtual 41, 3) := by decide +kernel
theorem d_law_law_218 : decode code 218 = .ok (.aload_n 2, 1) := by decide +kernel
theorem d_law_law_219 : decode code 219 = .ok (.invokevirtual 44, 3) := by decide +kernel
theorem d_law_law_222 : decode code 222 = .ok (.if_icmp .eq 64, 3) := by decide +kernel
theorem d_law_law_225 : decode code 225 = .ok (.iconst 0, 1) := by decide +kernel
theorem d_law_law_226 : decode code 226 = .ok (.ireturn, 1) := by decide +kernel
theorem d_law_law_227 : decode code 227 = .ok (.aload_n 1, 1) := by decide +kernel
theorem d_law_law_228 : decode code 228 = .ok (.invokevirtual 45, 3) := by decide +kernel
theorem d_law_law_231 : decode code 231 = .ok (.aload_n 2, 1) := by decide +kernel
theorem d_law_law_232 : decode code 232 = .ok (.invokevirtual 48, 3) := by decide +kernel
theorem d_law_law_235 : decode code 235 = .ok (.if_icmp .eq 51, 3) := by decide +kernel
theorem d_law_law_238 : decode code 238 = .ok (.iconst 0, 1) := by decide +kernel
theorem d_law_law_239 : decode code 239 = .ok (.ireturn, 1) := by decide +kernel
theorem d_law_law_240 : decode code 240 = .ok (.aload_n 1, 1) := by decide +kernel
theorem d_law_law_241 : decode code 241 = .ok (.aload_n 0, 1) := by decide +kernel
theorem d_law_law_242 : decode code 242 = .ok (.iload_n 3, 1) := by decide +kernel
theorem d_law_law_243 : decode code 243 = .ok (.iconst 1, 1) := by decide +kernel
theorem d_law_law_244 : decode code 244 = .ok (.iadd, 1) := by decide +kernel
theorem d_law_law_245 : decode code 245 = .ok (.iaload, 1) := by decide +kernel
theorem d_law_law_246 : decode code 246 = .ok (.invokevirtual 49, 3) := by decide +kernel
theorem d_law_law_249 : decode code 249 = .ok (.aload_n 2, 1) := by decide +kernel
theorem d_law_law_250 : decode code 250 = .ok (.aload_n 0, 1) := by decide +kernel
theorem d_law_law_251 : decode code 251 = .ok (.iload_n 3, 1) := by decide +kernel
theorem d_law_law_252 : decode code 252 = .ok (.iconst 1, 1) := by decide +kernel
theorem d_law_law_253 : decode code 253 = .ok (.iadd, 1) := by decide +kernel
theorem d_law_law_254 : decode code 254 = .ok (.iaload, 1) := by decide +kernel
theorem d_law_law_255 : decode code 255 = .ok (.invokevirtual 52, 3) := by decide +kernel
theorem d_law_law_258 : decode code 258 = .ok (.if_icmp .eq 28, 3) := by decide +kernel
theorem d_law_law_261 : decode code 261 = .ok (.iconst 0, 1) := by decide +kernel
theorem d_law_law_262 : decode code 262 = .ok (.ireturn, 1) := by decide +kernel
theorem d_law_law_263 : decode code 263 = .ok (.aload_n 1, 1) := by decide +kernel
theorem d_law_law_264 : decode code 264 = .ok (.aload_n 0, 1) := by decide +kernel
theorem d_law_law_265 : decode code 265 = .ok (.iload_n 3, 1) := by decide +kernel
theorem d_law_law_266 : decode code 266 = .ok (.iconst 1, 1) := by decide +kernel
theorem d_law_law_267 : decode code 267 = .ok (.iadd, 1) := by decide +kernel
theorem d_law_law_268 : decode code 268 = .ok (.iaload, 1) := by decide +kernel
theorem d_law_law_269 : decode code 269 = .ok (.invokevirtual 53, 3) := by decide +kernel
theorem d_law_law_272 : decode code 272 = .ok (.aload_n 2, 1) := by decide +kernel
theorem d_law_law_273 : decode code 273 = .ok (.aload_n 0, 1) := by decide +kernel
theorem d_law_law_274 : decode code 274 = .ok (.iload_n 3, 1) := by decide +kernel
theorem d_law_law_275 : decode code 275 = .ok (.iconst 1, 1) := by decide +kernel
theorem d_law_law_276 : decode code 276 = .ok (.iadd, 1) := by decide +kernel
theorem d_law_law_277 : decode code 277 = .ok (.iaload, 1) := by decide +kernel
theorem d_law_law_278 : decode code 278 = .ok (.invokevirtual 56, 3) := by decide +kernel
theorem d_law_law_281 : decode code 281 = .ok (.if_icmp .eq 5, 3) := by decide +kernel
theorem d_law_law_284 : decode code 284 = .ok (.iconst 0, 1) := by decide +kernel
theorem d_law_law_285 : decode code 285 = .ok (.ireturn, 1) := by decide +kernel
theorem d_law_law_286 : decode code 286 = .ok (.iinc 3 4, 3) := by decide +kernel
theorem d_law_law_289 : decode code 289 = .ok (.goto (-271), 3) := by decide +kernel
theorem d_law_law_292 : decode code 292 = .ok (.iconst 1, 1) := by decide +kernel
theorem d_law_law_293 : decode code 293 = .ok (.ireturn, 1) := by decide +kernel
end
section
/-! PLAIN: the calendar in natural numbers. No program in sight. -/
def wd_wn (x : Int32) : Nat := x.toBitVec.toNat % 2 ^ 31
/-- days before year y -/
def wd_bg (y : Nat) : Nat := 365 * (y - 1) + (y - 1) / 4 - (y - 1) / 100 + (y - 1) / 400
/-- 1 in a leap year, else 0 -/
def wd_lv (y : Nat) : Nat := if y % 4 = 0 ∧ (y % 100 ≠ 0 ∨ y % 400 = 0) then 1 else 0
/-- the Thursday of a day's week -/
def wd_th (o : Nat) : Nat := o - o % 7 + 3
def wd_ce (o : Nat) : Nat := min (o / 36524) 3
def wd_le (o : Nat) : Nat := o - 36524 * wd_ce o
def wd_fo (o : Nat) : Nat := wd_le o / 1461
def wd_l2 (o : Nat) : Nat := wd_le o - 1461 * wd_fo o
/-- the year of a day -/
def wd_yr (o : Nat) : Nat := 100 * wd_ce o + 4 * wd_fo o + min (wd_l2 o / 365) 3 + 1
/-- the first Thursday of a year -/
def wd_fs (y : Nat) : Nat := wd_th (wd_bg y + 3)
/-- the Monday of its week 1 -/
def wd_mo (y : Nat) : Nat := wd_fs y - 3
/-- how many weeks it has -/
def wd_mn (y : Nat) : Nat := (wd_bg (y + 1) - 1 - wd_fs y) / 7 + 1
theorem wd_wn_lt (x : Int32) : wd_wn x < 2147483648 := Nat.mod_lt _ (by decide)
/-- the year that a script's int asks for -/
def wd_yk (k : Int32) : Nat := wd_wn k % 400 + 1
theorem wd_yk_all (k : Int32) : 1 ≤ wd_yk k ∧ wd_yk k ≤ 400 := by
  unfold wd_yk
  omega
theorem wd_ce_all (o : Nat) : 36524 * wd_ce o ≤ o := by
  unfold wd_ce
  omega
theorem wd_le_all (o : Nat) : wd_le o ≤ o := Nat.sub_le _ _
theorem wd_fo_all (o : Nat) : 1461 * wd_fo o ≤ wd_le o := by
  unfold wd_fo
  omega
theorem wd_l2_all (o : Nat) : wd_l2 o ≤ wd_le o := Nat.sub_le _ _
theorem wd_lv_le (y : Nat) : wd_lv y ≤ 1 := by
  unfold wd_lv
  split <;> omega
theorem wd_lv_1 {y : Nat} (h : y % 4 = 0) (h2 : y % 100 ≠ 0 ∨ y % 400 = 0) : wd_lv y = 1 := by
  unfold wd_lv
  rw [if_pos ⟨h, h2⟩]
theorem wd_lv_0a {y : Nat} (h : y % 4 ≠ 0) : wd_lv y = 0 := by
  unfold wd_lv
  rw [if_neg (fun q => h q.1)]
theorem wd_lv_0b {y : Nat} (h : y % 100 = 0) (h2 : y % 400 ≠ 0) : wd_lv y = 0 := by
  unfold wd_lv
  rw [if_neg (fun q => q.2.elim (fun a => a h) h2)]
theorem wd_bg_s {y : Nat} (h : 1 ≤ y) : wd_bg (y + 1) = wd_bg y + 365 + wd_lv y := by
  unfold wd_bg wd_lv
  split
  · omega
  · omega
theorem wd_bg_1 : wd_bg 1 = 0 := rfl
theorem wd_bg_401 : wd_bg 401 = 146097 := rfl
theorem wd_bg_mono {a : Nat} (ha : 1 ≤ a) : ∀ d : Nat, wd_bg a + 365 * d ≤ wd_bg (a + d) := by
  intro d
  induction d with
  | zero => exact Nat.le_refl _
  | succ d ih =>
    have h := wd_bg_s (y := a + d) (by omega)
    have e : a + (d + 1) = a + d + 1 := by omega
    rw [e]
    omega
theorem wd_bg_le {a b : Nat} (ha : 1 ≤ a) (h : a ≤ b) : wd_bg a ≤ wd_bg b := by
  have := wd_bg_mono ha (b - a)
  have e : a + (b - a) = b := by omega
  rw [e] at this
  omega
theorem wd_bg_up {y : Nat} (ha : 1 ≤ y) (h : y ≤ 401) : wd_bg y ≤ 146097 := by
  have := wd_bg_le ha h
  rw [wd_bg_401] at this
  exact this
theorem wd_uniq {y z o : Nat} (hy : 1 ≤ y) (hz : 1 ≤ z) (h1 : wd_bg y ≤ o) (h2 : o < wd_bg (y + 1)) (h3 : wd_bg z ≤ o) (h4 : o < wd_bg (z + 1)) : y = z := by
  rcases Nat.lt_trichotomy y z with h | h | h
  · have := wd_bg_le (a := y + 1) (b := z) (by omega) (by omega)
    omega
  · exact h
  · have := wd_bg_le (a := z + 1) (b := y) (by omega) (by omega)
    omega
theorem wd_bg_in {y : Nat} (h : 1 ≤ y) (h1 : y ≤ 401) (h2 : wd_bg y < 146097) : y ≤ 400 := by
  rcases Nat.lt_or_ge y 401 with q | q
  · omega
  · have e : y = 401 := by omega
    rw [e, wd_bg_401] at h2
    omega
/-- a year cut into centuries, fours and single years -/
theorem wd_cut {c f q r : Nat} (hc : c ≤ 3) (hf : f ≤ 24) (hq : q ≤ 3) (hr : 365 * q ≤ r) (h3 : q < 3 → r < 365 * q + 365) (h4 : r < 1461) (h5 : f = 24 → c < 3 → r < 1460) :
    wd_bg (100 * c + 4 * f + q + 1) ≤ 36524 * c + 1461 * f + r ∧ 36524 * c + 1461 * f + r < wd_bg (100 * c + 4 * f + q + 1 + 1) := by
  have e1 : wd_bg (100 * c + 4 * f + q + 1) = 36524 * c + 1461 * f + 365 * q := by
    unfold wd_bg
    have a1 : (100 * c + 4 * f + q + 1 - 1) / 4 = 25 * c + f := by omega
    have a2 : (100 * c + 4 * f + q + 1 - 1) / 100 = c := by omega
    have a3 : (100 * c + 4 * f + q + 1 - 1) / 400 = 0 := by omega
    rw [a1, a2, a3]
    omega
  have e2 := wd_bg_s (y := 100 * c + 4 * f + q + 1) (by omega)
  rw [e2, e1]
  refine ⟨by omega, ?_⟩
  by_cases hq3 : q = 3
  · by_cases hf24 : f = 24
    · by_cases hc3 : c = 3
      · have : wd_lv (100 * c + 4 * f + q + 1) = 1 := by subst hq3; subst hf24; subst hc3; rfl
        omega
      · have := h5 hf24 (by omega)
        omega
    · have : wd_lv (100 * c + 4 * f + q + 1) = 1 := wd_lv_1 (by omega) (Or.inl (by omega))
      omega
  · have := h3 (by omega)
    omega
theorem wd_yr_all {o : Nat} (h : o < 146097) : wd_bg (wd_yr o) ≤ o ∧ o < wd_bg (wd_yr o + 1) ∧ 1 ≤ wd_yr o ∧ wd_yr o ≤ 400 := by
  have c1 : wd_ce o ≤ 3 := by unfold wd_ce; omega
  have c2 : 36524 * wd_ce o ≤ o := by unfold wd_ce; omega
  have c3 : wd_ce o < 3 → o < 36524 * wd_ce o + 36524 := by unfold wd_ce; omega
  have l1 : o = 36524 * wd_ce o + wd_le o := by unfold wd_le; omega
  have l2 : wd_le o < 36525 := by omega
  have f1 : wd_le o = 1461 * wd_fo o + wd_l2 o := by unfold wd_l2 wd_fo; omega
  have f2 : wd_l2 o < 1461 := by unfold wd_l2 wd_fo; omega
  have f3 : wd_fo o ≤ 24 := by omega
  generalize hq : min (wd_l2 o / 365) 3 = q
  have q1 : q ≤ 3 := by omega
  have q2 : 365 * q ≤ wd_l2 o := by omega
  have q3 : q < 3 → wd_l2 o < 365 * q + 365 := by omega
  have hy : wd_yr o = 100 * wd_ce o + 4 * wd_fo o + q + 1 := by unfold wd_yr; rw [hq]
  have key := wd_cut c1 f3 q1 q2 q3 f2 (fun a b => by have := c3 b; omega)
  rw [hy]
  refine ⟨?_, ?_, by omega, by omega⟩
  · have := key.1
    omega
  · have := key.2
    omega
theorem wd_yr_lo {o : Nat} (h : o < 146097) : wd_bg (wd_yr o) ≤ o := (wd_yr_all h).1
theorem wd_yr_hi {o : Nat} (h : o < 146097) : o < wd_bg (wd_yr o + 1) := (wd_yr_all h).2.1
theorem wd_yr_1 {o : Nat} (h : o < 146097) : 1 ≤ wd_yr o := (wd_yr_all h).2.2.1
theorem wd_yr_400 {o : Nat} (h : o < 146097) : wd_yr o ≤ 400 := (wd_yr_all h).2.2.2
theorem wd_yr_eq {o z : Nat} (h : o < 146097) (hz : 1 ≤ z) (h1 : wd_bg z ≤ o) (h2 : o < wd_bg (z + 1)) : wd_yr o = z :=
  wd_uniq (wd_yr_1 h) hz (wd_yr_lo h) (wd_yr_hi h) h1 h2
theorem wd_th_all (o : Nat) : wd_th o % 7 = 3 ∧ wd_th o ≤ o + 3 ∧ o ≤ wd_th o + 3 ∧ wd_th o + o % 7 = o + 3 := by
  unfold wd_th
  omega
theorem wd_th_lt {o : Nat} (h : o < 146097) : wd_th o < 146097 := by
  unfold wd_th
  omega
theorem wd_fs_all (y : Nat) : wd_fs y % 7 = 3 ∧ wd_bg y ≤ wd_fs y ∧ wd_fs y ≤ wd_bg y + 6 := by
  unfold wd_fs
  have := wd_th_all (wd_bg y + 3)
  omega
theorem wd_fs_3 (y : Nat) : 3 ≤ wd_fs y := by
  have := wd_fs_all y
  omega
theorem wd_fs_mono {a b : Nat} (ha : 1 ≤ a) (h : a ≤ b) : wd_fs a ≤ wd_fs b := by
  have := wd_bg_le ha h
  have := wd_fs_all a
  have := wd_fs_all b
  omega
theorem wd_mo_all (y : Nat) : wd_mo y + 3 = wd_fs y ∧ wd_mo y % 7 = 0 := by
  have := wd_fs_all y
  unfold wd_mo
  omega
theorem wd_mo_401 : wd_mo 401 = 146097 := rfl
theorem wd_mo_le {y : Nat} (h1 : 1 ≤ y) (h : y ≤ 401) : wd_mo y ≤ 146097 := by
  have := wd_fs_mono h1 h
  have := wd_mo_all y
  have := wd_mo_all 401
  have := wd_mo_401
  omega
/-- the year of a day's Thursday, as the reference finds it -/
theorem wd_wy_up {D : Nat} (h : D < 146097) (hm : wd_mo (wd_yr D + 1) ≤ D) : wd_yr (wd_th D) = wd_yr D + 1 := by
  have a1 := wd_yr_lo h
  have a2 := wd_yr_hi h
  have a3 := wd_yr_1 h
  have t := wd_th_all D
  have m1 := wd_mo_all (wd_yr D + 1)
  have f1 := wd_fs_all (wd_yr D + 1)
  have s1 := wd_bg_s (y := wd_yr D + 1) (by omega)
  exact wd_yr_eq (wd_th_lt h) (by omega) (by omega) (by omega)
theorem wd_wy_dn {D : Nat} (h : D < 146097) (hm : D < wd_mo (wd_yr D)) : wd_yr (wd_th D) = wd_yr D - 1 := by
  have a1 := wd_yr_lo h
  have a3 := wd_yr_1 h
  have t := wd_th_all D
  have m1 := wd_mo_all (wd_yr D)
  have f1 := wd_fs_all (wd_yr D)
  have hy : wd_yr D ≠ 1 := by
    intro q
    rw [q] at hm
    have : wd_mo 1 = 0 := rfl
    omega
  have s1 := wd_bg_s (y := wd_yr D - 1) (by omega)
  have e : wd_yr D - 1 + 1 = wd_yr D := by omega
  rw [e] at s1
  exact wd_yr_eq (wd_th_lt h) (by omega) (by omega) (by rw [e]; omega)
theorem wd_wy_eq {D : Nat} (h : D < 146097) (h1 : D < wd_mo (wd_yr D + 1)) (h2 : wd_mo (wd_yr D) ≤ D) : wd_yr (wd_th D) = wd_yr D := by
  have a3 := wd_yr_1 h
  have t := wd_th_all D
  have m1 := wd_mo_all (wd_yr D)
  have f1 := wd_fs_all (wd_yr D)
  have m2 := wd_mo_all (wd_yr D + 1)
  have f2 := wd_fs_all (wd_yr D + 1)
  exact wd_yr_eq (wd_th_lt h) a3 (by omega) (by omega)
/-- the week's number, both ways -/
theorem wd_wk {D z : Nat} (h1 : wd_bg z ≤ wd_th D) : wd_mo z ≤ D ∧ (D - wd_mo z) / 7 = (wd_th D - wd_bg z) / 7 := by
  have t := wd_th_all D
  have m1 := wd_mo_all z
  have f1 := wd_fs_all z
  omega
/-- how many weeks, both ways -/
theorem wd_mn_fs {y : Nat} (h : 1 ≤ y) : wd_fs y + 1 ≤ wd_bg (y + 1) ∧ wd_mo (y + 1) = wd_mo y + 7 * wd_mn y := by
  have s1 := wd_bg_s h
  have m1 := wd_mo_all y
  have f1 := wd_fs_all y
  have m2 := wd_mo_all (y + 1)
  have f2 := wd_fs_all (y + 1)
  unfold wd_mn
  omega
theorem wd_mn_eq {y : Nat} (h : 1 ≤ y) : wd_mo y ≤ wd_mo (y + 1) ∧ (wd_mo (y + 1) - wd_mo y) / 7 = wd_mn y := by
  have := (wd_mn_fs h).2
  omega
theorem wd_mn_le {y : Nat} (h : 1 ≤ y) (h2 : y ≤ 400) : wd_mn y ≤ 20871 := by
  have := (wd_mn_fs h).2
  have := wd_mo_le (y := y + 1) (by omega) (by omega)
  omega
theorem wd_from {y b e : Nat} (h : 1 ≤ y) (h2 : y ≤ 400) (hb : b < wd_mn y) (he : e < 7) : wd_mo y + 7 * b + e < 146097 := by
  have := (wd_mn_fs h).2
  have := wd_mo_le (y := y + 1) (by omega) (by omega)
  omega
/-! Fridays the thirteenth -/
def wd_ml (y m : Nat) : Nat := if m = 2 then (if wd_lv y = 0 then 28 else 29) else if m = 4 ∨ m = 6 ∨ m = 9 ∨ m = 11 then 30 else 31
def wd_fg (y : Nat) : Nat → Nat → Nat → Nat → Nat
  | 0, _, _, c => c
  | n + 1, m, d, c => wd_fg y n (m + 1) (d + wd_ml y m) (if (d + 12) % 7 = 4 then c + 1 else c)
def wd_tP (j : Nat) : Nat := [2, 2, 1, 3, 1, 1, 2].getD j 0
def wd_tL (j : Nat) : Nat := [2, 1, 2, 2, 1, 1, 3].getD j 0
def wd_fr (y : Nat) : Nat := if wd_lv y = 0 then wd_tP (wd_bg y % 7) else wd_tL (wd_bg y % 7)
theorem wd_ml_le (y m : Nat) : wd_ml y m ≤ 31 := by
  unfold wd_ml
  split
  · split <;> omega
  · split <;> omega
set_option maxRecDepth 100000 in
theorem wd_fg_all : ∀ y, y < 400 → wd_fg (y + 1) 12 1 (wd_bg (y + 1)) 0 = wd_fr (y + 1) := by decide +kernel
theorem wd_fg_eq {y : Nat} (h : 1 ≤ y) (h2 : y ≤ 400) : wd_fg y 12 1 (wd_bg y) 0 = wd_fr y := by
  have := wd_fg_all (y - 1) (by omega)
  have e : y - 1 + 1 = y := by omega
  rw [e] at this
  exact this
/-! Easter, in the machine's own ints -/
def wd_eg (y : Int32) : Int32 := y - y / 19 * 19 + 1
def wd_ec (y : Int32) : Int32 := y / 100 + 1
def wd_ex (y : Int32) : Int32 := (3 * wd_ec y) >>> ((2 : Int32) &&& 31) - 12
def wd_ez (y : Int32) : Int32 := (8 * wd_ec y + 5) / 25 - 5
def wd_es (y : Int32) : Int32 := (5 * y) >>> ((2 : Int32) &&& 31) - wd_ex y - 10
def wd_e0 (y : Int32) : Int32 := 11 * wd_eg y + 20 + wd_ez y - wd_ex y
def wd_e1 (y : Int32) : Int32 := wd_e0 y - wd_e0 y / 30 * 30
def wd_e2 (y : Int32) : Int32 := if (wd_e1 y = 25 ∧ 11 < wd_eg y) ∨ wd_e1 y = 24 then wd_e1 y + 1 else wd_e1 y
def wd_ef (y : Int32) : Int32 := if 23 < wd_e2 y then 74 - wd_e2 y else 44 - wd_e2 y
def wd_ea (y : Int32) : Int32 := wd_ef y + 7 - (wd_es y + wd_ef y - (wd_es y + wd_ef y) / 7 * 7)
set_option maxRecDepth 100000 in
theorem wd_ex_all : ∀ y, y < 400 → 3 * wd_ec (nI (y + 1)) / 4 - 12 = wd_ex (nI (y + 1)) := by decide +kernel
set_option maxRecDepth 100000 in
theorem wd_es_all : ∀ y, y < 400 → 5 * nI (y + 1) / 4 - wd_ex (nI (y + 1)) - 10 = wd_es (nI (y + 1)) := by decide +kernel
set_option maxRecDepth 100000 in
theorem wd_e1_all : ∀ y, y < 400 → 0 ≤ wd_e1 (nI (y + 1)) := by decide +kernel
set_option maxRecDepth 100000 in
theorem wd_ef_all : ∀ y, y < 400 → (if 21 ≤ 44 - wd_e2 (nI (y + 1)) then 44 - wd_e2 (nI (y + 1)) else 44 - wd_e2 (nI (y + 1)) + 30) = wd_ef (nI (y + 1)) := by decide +kernel
theorem wd_ex_eq {y : Nat} (h : 1 ≤ y) (h2 : y ≤ 400) : 3 * wd_ec (nI y) / 4 - 12 = wd_ex (nI y) := by
  have := wd_ex_all (y - 1) (by omega)
  rwa [show y - 1 + 1 = y by omega] at this
theorem wd_es_eq {y : Nat} (h : 1 ≤ y) (h2 : y ≤ 400) : 5 * nI y / 4 - wd_ex (nI y) - 10 = wd_es (nI y) := by
  have := wd_es_all (y - 1) (by omega)
  rwa [show y - 1 + 1 = y by omega] at this
theorem wd_e1_eq {y : Nat} (h : 1 ≤ y) (h2 : y ≤ 400) : 0 ≤ wd_e1 (nI y) := by
  have := wd_e1_all (y - 1) (by omega)
  rwa [show y - 1 + 1 = y by omega] at this
theorem wd_ef_eq {y : Nat} (h : 1 ≤ y) (h2 : y ≤ 400) : (if 21 ≤ 44 - wd_e2 (nI y) then 44 - wd_e2 (nI y) else 44 - wd_e2 (nI y) + 30) = wd_ef (nI y) := by
  have := wd_ef_all (y - 1) (by omega)
  rwa [show y - 1 + 1 = y by omega] at this
/-! a week's day, asked for by script -/
def wd_fwr (k w : Int32) : Nat := if wd_wn w % 53 < wd_mn (wd_yk k) then 1 else 0
def wd_fwd (D : Nat) (k w d : Int32) : Nat := if wd_wn w % 53 < wd_mn (wd_yk k) then wd_mo (wd_yk k) + 7 * (wd_wn w % 53) + wd_wn d % 7 else D
theorem wd_fwd_lt {D : Nat} (hD : D < 146097) (k w d : Int32) : wd_fwd D k w d < 146097 := by
  unfold wd_fwd
  split
  · exact wd_from (wd_yk_all k).1 (wd_yk_all k).2 (by assumption) (Nat.mod_lt _ (by decide))
  · exact hD
theorem wd_wn_nI {n : Nat} (h : n < 2 ^ 31) : wd_wn (nI n) = n := by
  unfold wd_wn
  rw [pk_tn (by omega)]
  exact Nat.mod_eq_of_lt h
theorem wd_yk_nI {y : Nat} (h : 1 ≤ y) (h2 : y ≤ 400) : wd_yk (nI (y - 1)) = y := by
  unfold wd_yk
  rw [wd_wn_nI (by omega)]
  omega
/-- the law's loop stops -/
theorem wd_stop {i L : Nat} (hi : i < 2 ^ 30) (hL : L < 2 ^ 30) : nI L - nI 4 < nI i ↔ L < i + 4 := by
  rw [Int32.lt_iff_toInt_lt, pk_sub_toInt hL (by decide), nI_toInt (by omega)]
  omega
end
section
section NV
variable {p : Program} {l : Launch} {e : Env} {R : Room} {s : State} {m : MethodId} {args : Array Value} {below : List Frame} {meth : Method} {c : Code} {H : Heap} {locs : List Loc} {cells slots : Nat} {Q : State → Prop}
variable {cc : ByteArray} {pc : Nat} {ls : Array Slot} {rest : List Value}
theorem nv_iadd (hx : p.tables.exec = Jvm.exec) (hb : c.code = cc) {a b : Nat} (hdg : decode cc pc = .ok (.iadd, 1))  (k : W p l e R s m args below meth c H locs cells slots Q (F0 m (pc + 1) ls (.int (nI (a + b)) :: rest))) : W p l e R s m args below meth c H locs cells slots Q (F0 m pc ls (.int (nI b) :: .int (nI a) :: rest)) := lv_iadd hx hb hdg (by rw [nI_add]; exact k)
theorem nv_isub (hx : p.tables.exec = Jvm.exec) (hb : c.code = cc) {a b : Nat} (hdg : decode cc pc = .ok (.isub, 1)) (h : b ≤ a) (k : W p l e R s m args below meth c H locs cells slots Q (F0 m (pc + 1) ls (.int (nI (a - b)) :: rest))) : W p l e R s m args below meth c H locs cells slots Q (F0 m pc ls (.int (nI b) :: .int (nI a) :: rest)) := lv_isub hx hb hdg (by rw [pk_sub h]; exact k)
theorem nv_imul (hx : p.tables.exec = Jvm.exec) (hb : c.code = cc) {a b : Nat} (hdg : decode cc pc = .ok (.imul, 1))  (k : W p l e R s m args below meth c H locs cells slots Q (F0 m (pc + 1) ls (.int (nI (a * b)) :: rest))) : W p l e R s m args below meth c H locs cells slots Q (F0 m pc ls (.int (nI b) :: .int (nI a) :: rest)) := lv_imul hx hb hdg (by rw [pk_mul]; exact k)
theorem nv_idiv (hx : p.tables.exec = Jvm.exec) (hb : c.code = cc) {a b : Nat} (hdg : decode cc pc = .ok (.idiv, 1)) (ha : a < 2 ^ 31) (h0 : 0 < b) (h1 : b < 2 ^ 31) (k : W p l e R s m args below meth c H locs cells slots Q (F0 m (pc + 1) ls (.int (nI (a / b)) :: rest))) : W p l e R s m args below meth c H locs cells slots Q (F0 m pc ls (.int (nI b) :: .int (nI a) :: rest)) := lv_idiv hx hb hdg (nI_ne0 h0 h1) (by rw [pk_div ha h0 h1]; exact k)
theorem nv_irem (hx : p.tables.exec = Jvm.exec) (hb : c.code = cc) {a b : Nat} (hdg : decode cc pc = .ok (.irem, 1)) (ha : a < 2 ^ 31) (h0 : 0 < b) (h1 : b < 2 ^ 31) (k : W p l e R s m args below meth c H locs cells slots Q (F0 m (pc + 1) ls (.int (nI (a % b)) :: rest))) : W p l e R s m args below meth c H locs cells slots Q (F0 m pc ls (.int (nI b) :: .int (nI a) :: rest)) := lv_irem hx hb hdg (nI_ne0 h0 h1) (by rw [pk_rem ha h0 h1]; exact k)
theorem nv_ishr2 (hx : p.tables.exec = Jvm.exec) (hb : c.code = cc) {a : Nat} (hdg : decode cc pc = .ok (.ishr, 1)) (ha : a < 2 ^ 31) (k : W p l e R s m args below meth c H locs cells slots Q (F0 m (pc + 1) ls (.int (nI (a / 4)) :: rest))) : W p l e R s m args below meth c H locs cells slots Q (F0 m pc ls (.int (nI 2) :: .int (nI a) :: rest)) := lv_ishr hx hb hdg (by rw [pk_shrN ha (nI 2 &&& 31) 2 (by decide)]; exact k)
theorem nv_iand3 (hx : p.tables.exec = Jvm.exec) (hb : c.code = cc) {a : Nat} (hdg : decode cc pc = .ok (.iand, 1)) (ha : a < 2 ^ 32) (k : W p l e R s m args below meth c H locs cells slots Q (F0 m (pc + 1) ls (.int (nI (a % 4)) :: rest))) : W p l e R s m args below meth c H locs cells slots Q (F0 m pc ls (.int (nI 3) :: .int (nI a) :: rest)) := lv_iand hx hb hdg (by rw [pk_andN ha (m := nI 3) 2 (by decide)]; exact k)
theorem nv_iandM (hx : p.tables.exec = Jvm.exec) (hb : c.code = cc) {x : Int32} (hdg : decode cc pc = .ok (.iand, 1)) (k : W p l e R s m args below meth c H locs cells slots Q (F0 m (pc + 1) ls (.int (nI (wd_wn x)) :: rest))) : W p l e R s m args below meth c H locs cells slots Q (F0 m pc ls (.int (nI 2147483647) :: .int x :: rest)) := lv_iand hx hb hdg (by rw [pk_and x (m := nI 2147483647) 31 (by decide)]; exact k)
theorem nv_iand15 (hx : p.tables.exec = Jvm.exec) (hb : c.code = cc) {x : Int32} (hdg : decode cc pc = .ok (.iand, 1)) (k : ∀ j : Nat, j < 16 → W p l e R s m args below meth c H locs cells slots Q (F0 m (pc + 1) ls (.int (nI j) :: rest))) : W p l e R s m args below meth c H locs cells slots Q (F0 m pc ls (.int (nI 15) :: .int x :: rest)) := by
  obtain ⟨j, hj, hh⟩ := pk_andE x (m := nI 15) 4 (by decide)
  exact lv_iand hx hb hdg (by rw [hh]; exact k j hj)
theorem nv_top {a : Nat} (k : ∀ b : Nat, b = a → W p l e R s m args below meth c H locs cells slots Q (F0 m pc ls (.int (nI b) :: rest))) : W p l e R s m args below meth c H locs cells slots Q (F0 m pc ls (.int (nI a) :: rest)) := k a rfl
theorem nv_to {a : Nat} (b : Nat) (h : a = b) (k : W p l e R s m args below meth c H locs cells slots Q (F0 m pc ls (.int (nI b) :: rest))) : W p l e R s m args below meth c H locs cells slots Q (F0 m pc ls (.int (nI a) :: rest)) := by subst h; exact k
theorem nv_toi {a : Int32} (b : Int32) (h : a = b) (k : W p l e R s m args below meth c H locs cells slots Q (F0 m pc ls (.int b :: rest))) : W p l e R s m args below meth c H locs cells slots Q (F0 m pc ls (.int a :: rest)) := by subst h; exact k
theorem nv_icmp_eq (hx : p.tables.exec = Jvm.exec) (hb : c.code = cc) {a b : Nat} {off : Int} {tgt : Nat} (hdg : decode cc pc = .ok (.if_icmp .eq off, 3)) (ht : (pc : Int) + off = (tgt : Int)) (ha : a < 2 ^ 31) (h1 : b < 2 ^ 31) (kt : a = b → W p l e R s m args below meth c H locs cells slots Q (F0 m tgt ls rest)) (kf : ¬ (a = b) → W p l e R s m args below meth c H locs cells slots Q (F0 m (pc + 3) ls rest)) : W p l e R s m args below meth c H locs cells slots Q (F0 m pc ls (.int (nI b) :: .int (nI a) :: rest)) := lv_icmp_eq hx hb hdg ht (fun h => kt ((nI_eq ha h1).mp h)) (fun h => kf (fun q => h ((nI_eq ha h1).mpr q)))
theorem nv_icmp_ne (hx : p.tables.exec = Jvm.exec) (hb : c.code = cc) {a b : Nat} {off : Int} {tgt : Nat} (hdg : decode cc pc = .ok (.if_icmp .ne off, 3)) (ht : (pc : Int) + off = (tgt : Int)) (ha : a < 2 ^ 31) (h1 : b < 2 ^ 31) (kt : a ≠ b → W p l e R s m args below meth c H locs cells slots Q (F0 m tgt ls rest)) (kf : ¬ (a ≠ b) → W p l e R s m args below meth c H locs cells slots Q (F0 m (pc + 3) ls rest)) : W p l e R s m args below meth c H locs cells slots Q (F0 m pc ls (.int (nI b) :: .int (nI a) :: rest)) := lv_icmp_ne hx hb hdg ht (fun h => kt (fun q => h ((nI_eq ha h1).mpr q))) (fun h => kf (fun q => q ((nI_eq ha h1).mp h)))
theorem nv_icmp_lt (hx : p.tables.exec = Jvm.exec) (hb : c.code = cc) {a b : Nat} {off : Int} {tgt : Nat} (hdg : decode cc pc = .ok (.if_icmp .lt off, 3)) (ht : (pc : Int) + off = (tgt : Int)) (ha : a < 2 ^ 31) (h1 : b < 2 ^ 31) (kt : a < b → W p l e R s m args below meth c H locs cells slots Q (F0 m tgt ls rest)) (kf : ¬ (a < b) → W p l e R s m args below meth c H locs cells slots Q (F0 m (pc + 3) ls rest)) : W p l e R s m args below meth c H locs cells slots Q (F0 m pc ls (.int (nI b) :: .int (nI a) :: rest)) := lv_icmp_lt hx hb hdg ht (fun h => kt ((nI_ltI ha h1).mp h)) (fun h => kf (fun q => h ((nI_ltI ha h1).mpr q)))
theorem nv_icmp_ge (hx : p.tables.exec = Jvm.exec) (hb : c.code = cc) {a b : Nat} {off : Int} {tgt : Nat} (hdg : decode cc pc = .ok (.if_icmp .ge off, 3)) (ht : (pc : Int) + off = (tgt : Int)) (ha : a < 2 ^ 31) (h1 : b < 2 ^ 31) (kt : b ≤ a → W p l e R s m args below meth c H locs cells slots Q (F0 m tgt ls rest)) (kf : ¬ (b ≤ a) → W p l e R s m args below meth c H locs cells slots Q (F0 m (pc + 3) ls rest)) : W p l e R s m args below meth c H locs cells slots Q (F0 m pc ls (.int (nI b) :: .int (nI a) :: rest)) := lv_icmp_ge hx hb hdg ht (fun h => kt ((nI_leI h1 ha).mp h)) (fun h => kf (fun q => h ((nI_leI h1 ha).mpr q)))
theorem nv_icmp_gt (hx : p.tables.exec = Jvm.exec) (hb : c.code = cc) {a b : Nat} {off : Int} {tgt : Nat} (hdg : decode cc pc = .ok (.if_icmp .gt off, 3)) (ht : (pc : Int) + off = (tgt : Int)) (ha : a < 2 ^ 31) (h1 : b < 2 ^ 31) (kt : b < a → W p l e R s m args below meth c H locs cells slots Q (F0 m tgt ls rest)) (kf : ¬ (b < a) → W p l e R s m args below meth c H locs cells slots Q (F0 m (pc + 3) ls rest)) : W p l e R s m args below meth c H locs cells slots Q (F0 m pc ls (.int (nI b) :: .int (nI a) :: rest)) := lv_icmp_gt hx hb hdg ht (fun h => kt ((nI_ltI h1 ha).mp h)) (fun h => kf (fun q => h ((nI_ltI h1 ha).mpr q)))
theorem nv_icmp_le (hx : p.tables.exec = Jvm.exec) (hb : c.code = cc) {a b : Nat} {off : Int} {tgt : Nat} (hdg : decode cc pc = .ok (.if_icmp .le off, 3)) (ht : (pc : Int) + off = (tgt : Int)) (ha : a < 2 ^ 31) (h1 : b < 2 ^ 31) (kt : a ≤ b → W p l e R s m args below meth c H locs cells slots Q (F0 m tgt ls rest)) (kf : ¬ (a ≤ b) → W p l e R s m args below meth c H locs cells slots Q (F0 m (pc + 3) ls rest)) : W p l e R s m args below meth c H locs cells slots Q (F0 m pc ls (.int (nI b) :: .int (nI a) :: rest)) := lv_icmp_le hx hb hdg ht (fun h => kt ((nI_leI ha h1).mp h)) (fun h => kf (fun q => h ((nI_leI ha h1).mpr q)))
theorem nv_0iff {a : Nat} (ha : a < 2 ^ 31) : nI a = 0 ↔ a = 0 := by rw [← nI_0]; exact nI_eq ha (by decide)
theorem nv_if_eq (hx : p.tables.exec = Jvm.exec) (hb : c.code = cc) {a : Nat} {off : Int} {tgt : Nat} (hdg : decode cc pc = .ok (.ifCond .eq off, 3)) (ht : (pc : Int) + off = (tgt : Int)) (ha : a < 2 ^ 31) (kt : a = 0 → W p l e R s m args below meth c H locs cells slots Q (F0 m tgt ls rest)) (kf : ¬ (a = 0) → W p l e R s m args below meth c H locs cells slots Q (F0 m (pc + 3) ls rest)) : W p l e R s m args below meth c H locs cells slots Q (F0 m pc ls (.int (nI a) :: rest)) := lv_if_eq hx hb hdg ht (fun h => kt ((nv_0iff ha).mp h)) (fun h => kf (fun q => h ((nv_0iff ha).mpr q)))
theorem nv_if_ne (hx : p.tables.exec = Jvm.exec) (hb : c.code = cc) {a : Nat} {off : Int} {tgt : Nat} (hdg : decode cc pc = .ok (.ifCond .ne off, 3)) (ht : (pc : Int) + off = (tgt : Int)) (ha : a < 2 ^ 31) (kt : a ≠ 0 → W p l e R s m args below meth c H locs cells slots Q (F0 m tgt ls rest)) (kf : ¬ (a ≠ 0) → W p l e R s m args below meth c H locs cells slots Q (F0 m (pc + 3) ls rest)) : W p l e R s m args below meth c H locs cells slots Q (F0 m pc ls (.int (nI a) :: rest)) := lv_if_ne hx hb hdg ht (fun h => kt (fun q => h ((nv_0iff ha).mpr q))) (fun h => kf (fun q => q ((nv_0iff ha).mp h)))
theorem nv_if_lt0 (hx : p.tables.exec = Jvm.exec) (hb : c.code = cc) {a : Nat} {off : Int} {tgt : Nat} (hdg : decode cc pc = .ok (.ifCond .lt off, 3)) (ht : (pc : Int) + off = (tgt : Int)) (ha : a < 2 ^ 31) (kf : W p l e R s m args below meth c H locs cells slots Q (F0 m (pc + 3) ls rest)) : W p l e R s m args below meth c H locs cells slots Q (F0 m pc ls (.int (nI a) :: rest)) := lv_if_lt hx hb hdg ht (fun h => absurd h (nI_pos ha)) (fun _ => kf)
theorem nv_sel (hx : p.tables.exec = Jvm.exec) (hb : c.code = cc) {b A B : Nat} {o1 o3 nA nB : Int} {t2 tj : Nat} (d1 : decode cc pc = .ok (.ifCond .eq o1, 3)) (h1 : (pc : Int) + o1 = (t2 : Int)) (hbb : b < 2 ^ 31) (d2 : decode cc (pc + 3) = .ok (.sipush nA, 3)) (hA : (Int16.ofInt nA).toInt32 = nI A) (d3 : decode cc (pc + 3 + 3) = .ok (.goto o3, 3)) (h3 : ((pc + 3 + 3 : Nat) : Int) + o3 = (tj : Int)) (d4 : decode cc t2 = .ok (.sipush nB, 3)) (hB : (Int16.ofInt nB).toInt32 = nI B) (hj : t2 + 3 = tj) (k : ∀ v : Nat, ((b = 0 ∧ v = B) ∨ (b ≠ 0 ∧ v = A)) → W p l e R s m args below meth c H locs cells slots Q (F0 m tj ls (.int (nI v) :: rest))) : W p l e R s m args below meth c H locs cells slots Q (F0 m pc ls (.int (nI b) :: rest)) := by
  refine nv_if_eq hx hb d1 h1 hbb (fun h => ?_) (fun h => ?_)
  · refine lv_sipush hx hb d4 hB ?_
    rw [hj]
    exact k B (Or.inl ⟨h, rfl⟩)
  · refine lv_sipush hx hb d2 hA ?_
    exact lv_goto hx hb d3 h3 (k A (Or.inr ⟨h, rfl⟩))
theorem nv_min {own : String} {nL index : Nat} (S : CallFix p m c cc nL s args gT own) (hl : ls.size = nL) (h1 : Cond.methodLink own index Lib.Math.min.name ∈ gT) (hframes : 1 ≤ R.frames) (hlocals : (rest.map fun v => v.category).sum + 13 ≤ R.locals) (hc : cells ≤ R.cells) (hs : slots ≤ R.slots) {a b : Nat} (ha : a < 2 ^ 31) (hb1 : b < 2 ^ 31) (hdg : decode cc pc = .ok (.invokestatic index, 3)) (k : W p l e R s m args below meth c H locs cells slots Q (F0 m (pc + 3) ls (.int (nI (min a b)) :: rest))) : W p l e R s m args below meth c H locs cells slots Q (F0 m pc ls (.int (nI b) :: .int (nI a) :: rest)) := by
  obtain ⟨hx, hb, hml, hown, hts⟩ := S
  refine va_mmin hx hb (hml.trans hl.symm) hown (hts _ h1) (hts _ tm_41) (hts _ tm_3) (hts _ tm_42) hframes hlocals hc hs hdg ?_
  have h : (if nI b < nI a then nI b else nI a) = nI (min a b) := by
    by_cases q : b < a
    · rw [if_pos ((nI_ltI hb1 ha).mpr q), Nat.min_eq_right (Nat.le_of_lt q)]
    · rw [if_neg (fun z => q ((nI_ltI hb1 ha).mp z)), Nat.min_eq_left (Nat.not_lt.mp q)]
  rw [h]
  exact k
theorem nv_callS {own : String} {nL index maxL n : Nat} {y : MethodName} {bytes : ByteArray} {ret : Option FieldType} {rm : Room} {As st0 : List Value} {r : Int32} (S : CallFix p m c cc nL s args gT own) (hM : Met l y (Cond.code y bytes maxL ret :: gT) rm (fun v _ => v = As.toArray) (QcRead r) 0 0 (fun _ => False)) (hG : GoodIn gT (wsS own index y (Cond.code y bytes maxL ret :: gT)))
    (hd : y.cls = own ∧ y.cls ≠ "java/lang/invoke/MethodHandle" ∧ y.cls ≠ "java/lang/invoke/VarHandle" ∧ (parseMethodDescriptor y.desc).map (fun d => d.parameters.length) = some n) (hrc : rm.cells = 0) (hrs : rm.slots = 0) (hR : rm.frames + 1 ≤ R.frames ∧ 8 + (maxL + 11) + rm.locals ≤ R.locals)
    (hn : As.length = n) (hsize : ls.size = nL) (hst : st0 = As.reverse ++ rest) (hW : (rest.map fun v => v.category).sum ≤ 8) (hdg : decode cc pc = .ok (.invokestatic index, 3)) (hf : cells + 0 ≤ R.cells ∧ slots + 0 ≤ R.slots)
    (k : W p l e R s m args below meth c H locs cells slots Q (F0 m (pc + 3) ls (.int r :: rest))) : W p l e R s m args below meth c H locs cells slots Q (F0 m pc ls st0) := by
  subst hst
  exact W.callR (W.runS S hM (cwS n S.2.2.2.2 hG rfl hrc hrs hd hR) preEq rfl hn hsize rfl (lv_room hW) hdg hf) k
theorem nv_callV {own C : String} {nL index maxL n : Nat} {y : MethodName} {bytes : ByteArray} {ret : Option FieldType} {rm : Room} {As st0 : List Value} {r : Int32} {b : Nat} {Pc : Array Value → State → Prop} (S : CallFix p m c cc nL s args gT own) (hM : Met l y (Cond.code y bytes maxL ret :: gT) rm Pc (QcRead r) 0 0 (fun _ => False)) (hp : PreV s H C b Pc As) (hG : GoodIn gT (wsV own index C y (Cond.code y bytes maxL ret :: gT)))
    (hd : y.cls = C ∧ y.cls ≠ "java/lang/invoke/MethodHandle" ∧ y.cls ≠ "java/lang/invoke/VarHandle" ∧ (parseMethodDescriptor y.desc).map (fun d => d.parameters.length) = some n) (hrc : rm.cells = 0) (hrs : rm.slots = 0) (hR : rm.frames + 1 ≤ R.frames ∧ 8 + (maxL + 11) + rm.locals ≤ R.locals)
    (hn : As.length = n) (hsize : ls.size = nL) (hst : st0 = As.reverse ++ .ref b :: rest) (hW : (rest.map fun v => v.category).sum ≤ 8) (hdg : decode cc pc = .ok (.invokevirtual index, 3)) (hf : cells + 0 ≤ R.cells ∧ slots + 0 ≤ R.slots)
    (k : W p l e R s m args below meth c H locs cells slots Q (F0 m (pc + 3) ls (.int r :: rest))) : W p l e R s m args below meth c H locs cells slots Q (F0 m pc ls st0) := by
  subst hst
  exact W.callR (W.runV S hM (cwV n S.2.2.2.2 hG rfl hrc hrs hd hR) hp rfl hn hsize rfl (lv_room hW) hdg hf) k
theorem nv_iret {v r : Int32} (hx : p.tables.exec = Jvm.exec) (hb : c.code = cc) (hr : meth.sig.returnType = some .int) (hlocks : meth.locks = false) (h : v = r) (hdg : decode cc pc = .ok (.ireturn, 1)) : W p l e R s m args below meth c s.heap [] 0 0 (MQ below (QcRead r) args s 0 0 (fun _ => False)) (F0 m pc ls [.int v]) := by
  subst h
  exact W.iret hx hb hr (fun t ht _ => ⟨rfl, ht⟩) (fun q h => absurd h List.not_mem_nil) hdg hlocks
theorem nv_zret {v r : Int32} (hx : p.tables.exec = Jvm.exec) (hb : c.code = cc) (hr : meth.sig.returnType = some .boolean) (hlocks : meth.locks = false) (hn : narrow .boolean (.int v) = .int v) (h : v = r) (hdg : decode cc pc = .ok (.ireturn, 1)) : W p l e R s m args below meth c s.heap [] 0 0 (MQ below (QcRead r) args s 0 0 (fun _ => False)) (F0 m pc ls [.int v]) := by
  subst h
  exact W.zret hx hb hr hn (fun t ht _ => ⟨rfl, ht⟩) (fun q h => absurd h List.not_mem_nil) hdg hlocks
end NV
theorem pu_met {l : Launch} {y : MethodName} {cc : ByteArray} {maxL : Nat} {ret : Option FieldType} {rm : Room} (av : List Value) {r : Int32} (hy : plainName y.cls = true) (hl : (lg_sl av).length ≤ maxL)
    (body : ∀ (p : Program) (e : Env) (s : State) (m : MethodId) (below : List Frame) (meth : Method) (c : Code) (ls : Array Slot), CallFix p m c cc maxL s av.toArray gT y.cls → meth.sig.returnType = ret → meth.locks = false → lv_has ls maxL (lv_args 0 av) → W p l e rm s m av.toArray below meth c s.heap [] 0 0 (MQ below (QcRead r) av.toArray s 0 0 (fun _ => False)) (F0 m 0 ls [])) :
    Met l y (Cond.code y cc maxL ret :: gT) rm (fun v _ => v = av.toArray) (QcRead r) 0 0 (fun _ => False) := by
  refine Met.ofW (cc := cc) (maxL := maxL) (ret := ret) hy rfl ?_
  intro p e s m args below meth c s₁ B hml hv
  subst hv
  have hts := atoms_spec (ws := Cond.code y cc maxL ret :: gT) B.pre
  rw [lg_entry_eq]
  exact body p e s m below meth c _ ⟨B.exec, B.bytes, hml, findClass_of_methodNamed B.named, fun w hw => hts w (List.mem_cons_of_mem _ hw)⟩ B.returns B.notSynchronized (lv_entry av hl)
/-- the start of a method of an object whose one field is nI D -/
def PcO (dC : Nat → ClassId) (dI : Nat → Nat → Nat) (ci h0 D : Nat) (av : List Value) : Array Value → State → Prop := va_Pc (.ref h0 :: av) (fun U => va_P (dC, dI) classes [(h0, .inr (ci, [.int (nI D)]))] U.heap ∧ va_K (dC, dI) classes [] U)
theorem pcO_blind (dC : Nat → ClassId) (dI : Nat → Nat → Nat) (ci h0 D : Nat) (av : List Value) : FrameBlind (PcO dC dI ci h0 D av) := by
  intro a U g mk q
  obtain ⟨q0, qP, qK⟩ := q
  exact ⟨q0, qP, va_K.moved (u := U) (U := U.calling g mk a) (Vm.Alike.refl U.vm) qK⟩
theorem pcO_pre {dC : Nat → ClassId} {dI : Nat → Nat → Nat} {ci h0 D : Nat} {s : State} {H : Heap} {ws : va_W} {q : vw_C} (av : List Value) (hK : va_K (dC, dI) classes [] s) (hP : va_P (dC, dI) classes ws H) (q0 : Nat) (he : ws[q0]? = some (h0, .inr (ci, [.int (nI D)]))) (hc : classes[ci]? = some q) : PreV s H q.1 h0 (PcO dC dI ci h0 D av) av := by
  refine ⟨pcO_blind dC dI ci h0 D av, va_recv hK hP hc he, fun U hU hW => ⟨rfl, ?_, va_K.moved hW.alike hK⟩⟩
  rw [hU]
  exact hP.sub [q0] (by simp [he])
theorem ob_met {l : Launch} {y : MethodName} {cc : ByteArray} {maxL : Nat} {ret : Option FieldType} {rm : Room} {dC : Nat → ClassId} {dI : Nat → Nat → Nat} {ci h0 D : Nat} (av : List Value) {r : Int32} (hy : plainName y.cls = true) (hl : (lg_sl (.ref h0 :: av)).length ≤ maxL)
    (body : ∀ (p : Program) (e : Env) (s : State) (m : MethodId) (below : List Frame) (meth : Method) (c : Code) (ls : Array Slot), CallFix p m c cc maxL s (Value.ref h0 :: av).toArray gT y.cls → meth.sig.returnType = ret → meth.locks = false → va_P (dC, dI) classes [(h0, .inr (ci, [.int (nI D)]))] s.heap → va_K (dC, dI) classes [] s → lv_has ls maxL (lv_args 0 (.ref h0 :: av)) → W p l e rm s m (Value.ref h0 :: av).toArray below meth c s.heap [] 0 0 (MQ below (QcRead r) (Value.ref h0 :: av).toArray s 0 0 (fun _ => False)) (F0 m 0 ls [])) :
    Met l y (Cond.code y cc maxL ret :: gT) rm (PcO dC dI ci h0 D av) (QcRead r) 0 0 (fun _ => False) := by
  refine Met.ofW (cc := cc) (maxL := maxL) (ret := ret) hy rfl ?_
  intro p e s m args below meth c s₁ B hml hv
  obtain ⟨rfl, hP, hK⟩ := hv
  have hts := atoms_spec (ws := Cond.code y cc maxL ret :: gT) B.pre
  rw [lg_entry_eq]
  exact body p e s m below meth c _ ⟨B.exec, B.bytes, hml, findClass_of_methodNamed B.named, fun w hw => hts w (List.mem_cons_of_mem _ hw)⟩ B.returns B.notSynchronized hP hK (lv_entry (.ref h0 :: av) hl)
theorem q_D_get {p : Program} {l : Launch} {e : Env} {R : Room} {s : State} {m : MethodId} {args : Array Value} {below : List Frame} {meth : Method} {c : Code} {H : Heap} {locs : List Loc} {cells slots : Nat} {Q : State → Prop} {cc : ByteArray} {pc nL : Nat} {ls : Array Slot} {rest : List Value} {dC : Nat → ClassId} {dI : Nat → Nat → Nat} {h0 D : Nat} (S : CallFix p m c cc nL s args gT R_D) (hK : va_K (dC, dI) classes [] s) (hP : va_P (dC, dI) classes [(h0, .inr (0, [.int (nI D)]))] H) (hdg : decode cc pc = .ok (.getfield 33, 3)) (k : W p l e R s m args below meth c H locs cells slots Q (F0 m (pc + 3) ls (.int (nI D) :: rest))) : W p l e R s m args below meth c H locs cells slots Q (F0 m pc ls (.ref h0 :: rest)) := by
  obtain ⟨hx, hb, hml, hown, hts⟩ := S
  exact va_get (D := (dC, dI)) (ci := 0) (v := .int (nI D)) (C := R_D) (T := F_D) (N := 1) hx hb hts in_D hown hK hP 0 rfl rfl 0 (by decide) (hts _ tm_12) (fun _ h9 => h9) rfl hdg k
theorem q_M_get {p : Program} {l : Launch} {e : Env} {R : Room} {s : State} {m : MethodId} {args : Array Value} {below : List Frame} {meth : Method} {c : Code} {H : Heap} {locs : List Loc} {cells slots : Nat} {Q : State → Prop} {cc : ByteArray} {pc nL : Nat} {ls : Array Slot} {rest : List Value} {dC : Nat → ClassId} {dI : Nat → Nat → Nat} {h0 D : Nat} (S : CallFix p m c cc nL s args gT R_M) (hK : va_K (dC, dI) classes [] s) (hP : va_P (dC, dI) classes [(h0, .inr (1, [.int (nI D)]))] H) (hdg : decode cc pc = .ok (.getfield 9, 3)) (k : W p l e R s m args below meth c H locs cells slots Q (F0 m (pc + 3) ls (.int (nI D) :: rest))) : W p l e R s m args below meth c H locs cells slots Q (F0 m pc ls (.ref h0 :: rest)) := by
  obtain ⟨hx, hb, hml, hown, hts⟩ := S
  exact va_get (D := (dC, dI)) (ci := 1) (v := .int (nI D)) (C := R_M) (T := F_M) (N := 1) hx hb hts in_M hown hK hP 0 rfl rfl 0 (by decide) (hts _ tm_93) (fun _ h9 => h9) rfl hdg k
end
section
set_option maxHeartbeats 4000000 in
set_option maxRecDepth 100000 in
/-- within(v, n) -/
theorem c_D_within (l : Launch) (x : Int32) (n : Nat) (g0 : 0 < n) (g1 : n < 2 ^ 31) : Met l y_D_within (Cond.code y_D_within b_D_within 2 (some .int) :: gT) ({ frames := 0, cells := 0, slots := 0, locals := 0 } : Room) (fun v _ => v = ([.int x, .int (nI n)] : List Value).toArray) (QcRead (nI (wd_wn x % n))) 0 0 (fun _ => False) := by
  refine pu_met [.int x, .int (nI n)] (by decide) (Nat.le_of_ble_eq_true rfl) ?_
  intro p e s m below meth c ls S hr hlocks hl
  have S : CallFix p m c b_D_within 2 s ([.int x, .int (nI n)] : List Value).toArray gT R_D := S
  obtain ⟨hx, hb, hml, hown, hts⟩ := id S
  have hl : lv_has ls 2 [(0, .int x), (1, .int (nI n))] := hl
  have gx := wd_wn_lt x
  refine lv_iload_n (pc := 0) hx hb d_D_within_0 rfl (lv_at hl 0 rfl) ?_
  refine lv_ldc (pc := 1) (v := nI 2147483647) hx hb hown (hts _ tm_24) d_D_within_1 ?_
  refine nv_iandM (pc := 3) hx hb d_D_within_3 ?_
  refine lv_iload_n (pc := 4) hx hb d_D_within_4 rfl (lv_at hl 1 rfl) ?_
  refine nv_irem (pc := 5) hx hb d_D_within_5 (by omega) (by omega) (by omega) ?_
  exact nv_iret (pc := 6) hx hb hr hlocks rfl d_D_within_6
theorem q_D_within {p : Program} {l : Launch} {e : Env} {R : Room} {s : State} {m : MethodId} {args : Array Value} {below : List Frame} {meth : Method} {c : Code} {H : Heap} {locs : List Loc} {cells slots : Nat} {Q : State → Prop} {cc : ByteArray} {pc nL : Nat} {ls : Array Slot} {rest : List Value} (S : CallFix p m c cc nL s args gT R_D) (x : Int32) (n : Nat) (g0 : 0 < n) (g1 : n < 2 ^ 31) (hR1 : 0 + 1 ≤ R.frames) (hR2 : 8 + (2 + 11) + 0 ≤ R.locals) (hsize : ls.size = nL) (hW : (rest.map fun v => v.category).sum ≤ 8) (hdg : decode cc pc = .ok (.invokestatic 30, 3)) (hf : cells + 0 ≤ R.cells ∧ slots + 0 ≤ R.slots) (kk : W p l e R s m args below meth c H locs cells slots Q (F0 m (pc + 3) ls (.int (nI (wd_wn x % n)) :: rest))) : W p l e R s m args below meth c H locs cells slots Q (F0 m pc ls (.int (nI n) :: .int x :: rest)) :=
  nv_callS (n := 2) S (c_D_within l x n g0 g1) (goodS tm_21 tm_22 tm_1 tm_23) (by decide +kernel) rfl rfl ⟨hR1, hR2⟩ rfl hsize rfl hW hdg hf kk
set_option maxHeartbeats 4000000 in
set_option maxRecDepth 100000 in
/-- isLeap(year) -/
theorem c_D_isLeap (l : Launch) (y : Nat) (g0 : 1 ≤ y) (g1 : y ≤ 400) : Met l y_D_isLeap (Cond.code y_D_isLeap b_D_isLeap 1 (some .boolean) :: gT) ({ frames := 0, cells := 0, slots := 0, locals := 0 } : Room) (fun v _ => v = ([.int (nI y)] : List Value).toArray) (QcRead (nI (wd_lv y))) 0 0 (fun _ => False) := by
  refine pu_met [.int (nI y)] (by decide) (Nat.le_of_ble_eq_true rfl) ?_
  intro p e s m below meth c ls S hr hlocks hl
  have S : CallFix p m c b_D_isLeap 1 s ([.int (nI y)] : List Value).toArray gT R_D := S
  obtain ⟨hx, hb, hml, hown, hts⟩ := id S
  have hl : lv_has ls 1 [(0, .int (nI y))] := hl
  refine lv_iload_n (pc := 0) hx hb d_D_isLeap_0 rfl (lv_at hl 0 rfl) ?_
  refine lv_iconst (pc := 1) (v := nI 3) hx hb d_D_isLeap_1 (by decide) ?_
  refine nv_iand3 (pc := 2) hx hb d_D_isLeap_2 (by omega) ?_
  refine nv_if_ne (pc := 3) (tgt := 24) hx hb d_D_isLeap_3 (by decide) (by omega) (fun ha => ?_) (fun ha => ?_)
  · refine lv_iconst (pc := 24) (v := nI 0) hx hb d_D_isLeap_24 (by decide) ?_
    exact nv_zret (pc := 25) hx hb hr hlocks rfl (by rw [wd_lv_0a ha]) d_D_isLeap_25
  · refine lv_iload_n (pc := 6) hx hb d_D_isLeap_6 rfl (lv_at hl 0 rfl) ?_
    refine lv_bipush (pc := 7) (v := nI 100) hx hb d_D_isLeap_7 (by decide) ?_
    refine nv_irem (pc := 9) hx hb d_D_isLeap_9 (by omega) (by omega) (by omega) ?_
    refine nv_if_ne (pc := 10) (tgt := 20) hx hb d_D_isLeap_10 (by decide) (by omega) (fun hq => ?_) (fun hq => ?_)
    · refine lv_iconst (pc := 20) (v := nI 1) hx hb d_D_isLeap_20 (by decide) ?_
      refine lv_goto (pc := 21) (tgt := 25) hx hb d_D_isLeap_21 (by decide) ?_
      exact nv_zret (pc := 25) hx hb hr hlocks rfl (by rw [wd_lv_1 (by omega) (Or.inl hq)]) d_D_isLeap_25
    · refine lv_iload_n (pc := 13) hx hb d_D_isLeap_13 rfl (lv_at hl 0 rfl) ?_
      refine lv_sipush (pc := 14) (v := nI 400) hx hb d_D_isLeap_14 (by decide) ?_
      refine nv_icmp_ne (pc := 17) (tgt := 24) hx hb d_D_isLeap_17 (by decide) (by omega) (by omega) (fun he => ?_) (fun he => ?_)
      · refine lv_iconst (pc := 24) (v := nI 0) hx hb d_D_isLeap_24 (by decide) ?_
        exact nv_zret (pc := 25) hx hb hr hlocks rfl (by rw [wd_lv_0b (by omega) (by omega)]) d_D_isLeap_25
      · refine lv_iconst (pc := 20) (v := nI 1) hx hb d_D_isLeap_20 (by decide) ?_
        refine lv_goto (pc := 21) (tgt := 25) hx hb d_D_isLeap_21 (by decide) ?_
        exact nv_zret (pc := 25) hx hb hr hlocks rfl (by rw [wd_lv_1 (by omega) (Or.inr (by omega))]) d_D_isLeap_25
theorem q_D_isLeap {p : Program} {l : Launch} {e : Env} {R : Room} {s : State} {m : MethodId} {args : Array Value} {below : List Frame} {meth : Method} {c : Code} {H : Heap} {locs : List Loc} {cells slots : Nat} {Q : State → Prop} {cc : ByteArray} {pc nL : Nat} {ls : Array Slot} {rest : List Value} (S : CallFix p m c cc nL s args gT R_D) (y : Nat) (g0 : 1 ≤ y) (g1 : y ≤ 400) (hR1 : 0 + 1 ≤ R.frames) (hR2 : 8 + (1 + 11) + 0 ≤ R.locals) (hsize : ls.size = nL) (hW : (rest.map fun v => v.category).sum ≤ 8) (hdg : decode cc pc = .ok (.invokestatic 43, 3)) (hf : cells + 0 ≤ R.cells ∧ slots + 0 ≤ R.slots) (kk : W p l e R s m args below meth c H locs cells slots Q (F0 m (pc + 3) ls (.int (nI (wd_lv y)) :: rest))) : W p l e R s m args below meth c H locs cells slots Q (F0 m pc ls (.int (nI y) :: rest)) :=
  nv_callS (n := 1) S (c_D_isLeap l y g0 g1) (goodS tm_76 tm_77 tm_1 tm_78) (by decide +kernel) rfl rfl ⟨hR1, hR2⟩ rfl hsize rfl hW hdg hf kk
set_option maxHeartbeats 4000000 in
set_option maxRecDepth 100000 in
/-- begin(year) -/
theorem c_D_begin (l : Launch) (y : Nat) (g0 : 1 ≤ y) (g1 : y ≤ 401) : Met l y_D_begin (Cond.code y_D_begin b_D_begin 2 (some .int) :: gT) ({ frames := 0, cells := 0, slots := 0, locals := 0 } : Room) (fun v _ => v = ([.int (nI y)] : List Value).toArray) (QcRead (nI (wd_bg y))) 0 0 (fun _ => False) := by
  refine pu_met [.int (nI y)] (by decide) (Nat.le_of_ble_eq_true rfl) ?_
  intro p e s m below meth c ls S hr hlocks hl
  have S : CallFix p m c b_D_begin 2 s ([.int (nI y)] : List Value).toArray gT R_D := S
  obtain ⟨hx, hb, hml, hown, hts⟩ := id S
  have hl : lv_has ls 2 [(0, .int (nI y))] := hl
  refine lv_iload_n (pc := 0) hx hb d_D_begin_0 rfl (lv_at hl 0 rfl) ?_
  refine lv_iconst (pc := 1) (v := nI 1) hx hb d_D_begin_1 (by decide) ?_
  refine nv_isub (pc := 2) hx hb d_D_begin_2 (by omega) ?_
  refine lv_istore_n (pc := 3) (lv' := [(1, .int (nI (y - 1))), (0, .int (nI y))]) hx hb d_D_begin_3 rfl hl (by decide) rfl (fun ls hl => ?_)
  refine lv_sipush (pc := 4) (v := nI 365) hx hb d_D_begin_4 (by decide) ?_
  refine lv_iload_n (pc := 7) hx hb d_D_begin_7 rfl (lv_at hl 0 rfl) ?_
  refine nv_imul (pc := 8) hx hb d_D_begin_8 ?_
  refine lv_iload_n (pc := 9) hx hb d_D_begin_9 rfl (lv_at hl 0 rfl) ?_
  refine lv_iconst (pc := 10) (v := nI 2) hx hb d_D_begin_10 (by decide) ?_
  refine nv_ishr2 (pc := 11) hx hb d_D_begin_11 (by omega) ?_
  refine nv_iadd (pc := 12) hx hb d_D_begin_12 ?_
  refine lv_iload_n (pc := 13) hx hb d_D_begin_13 rfl (lv_at hl 0 rfl) ?_
  refine lv_bipush (pc := 14) (v := nI 100) hx hb d_D_begin_14 (by decide) ?_
  refine nv_idiv (pc := 16) hx hb d_D_begin_16 (by omega) (by omega) (by omega) ?_
  refine nv_isub (pc := 17) hx hb d_D_begin_17 (by omega) ?_
  refine lv_iload_n (pc := 18) hx hb d_D_begin_18 rfl (lv_at hl 0 rfl) ?_
  refine lv_sipush (pc := 19) (v := nI 400) hx hb d_D_begin_19 (by decide) ?_
  refine nv_idiv (pc := 22) hx hb d_D_begin_22 (by omega) (by omega) (by omega) ?_
  refine nv_iadd (pc := 23) hx hb d_D_begin_23 ?_
  exact nv_iret (pc := 24) hx hb hr hlocks rfl d_D_begin_24
theorem q_D_begin {p : Program} {l : Launch} {e : Env} {R : Room} {s : State} {m : MethodId} {args : Array Value} {below : List Frame} {meth : Method} {c : Code} {H : Heap} {locs : List Loc} {cells slots : Nat} {Q : State → Prop} {cc : ByteArray} {pc nL : Nat} {ls : Array Slot} {rest : List Value} (S : CallFix p m c cc nL s args gT R_D) (y : Nat) (g0 : 1 ≤ y) (g1 : y ≤ 401) (hR1 : 0 + 1 ≤ R.frames) (hR2 : 8 + (2 + 11) + 0 ≤ R.locals) (hsize : ls.size = nL) (hW : (rest.map fun v => v.category).sum ≤ 8) (hdg : decode cc pc = .ok (.invokestatic 19, 3)) (hf : cells + 0 ≤ R.cells ∧ slots + 0 ≤ R.slots) (kk : W p l e R s m args below meth c H locs cells slots Q (F0 m (pc + 3) ls (.int (nI (wd_bg y)) :: rest))) : W p l e R s m args below meth c H locs cells slots Q (F0 m pc ls (.int (nI y) :: rest)) :=
  nv_callS (n := 1) S (c_D_begin l y g0 g1) (goodS tm_47 tm_48 tm_1 tm_49) (by decide +kernel) rfl rfl ⟨hR1, hR2⟩ rfl hsize rfl hW hdg hf kk
set_option maxHeartbeats 4000000 in
set_option maxRecDepth 100000 in
/-- thursday(of) -/
theorem c_D_thursday (l : Launch) (o : Nat) (g1 : o < 200000) : Met l y_D_thursday (Cond.code y_D_thursday b_D_thursday 1 (some .int) :: gT) ({ frames := 0, cells := 0, slots := 0, locals := 0 } : Room) (fun v _ => v = ([.int (nI o)] : List Value).toArray) (QcRead (nI (wd_th o))) 0 0 (fun _ => False) := by
  refine pu_met [.int (nI o)] (by decide) (Nat.le_of_ble_eq_true rfl) ?_
  intro p e s m below meth c ls S hr hlocks hl
  have S : CallFix p m c b_D_thursday 1 s ([.int (nI o)] : List Value).toArray gT R_D := S
  obtain ⟨hx, hb, hml, hown, hts⟩ := id S
  have hl : lv_has ls 1 [(0, .int (nI o))] := hl
  refine lv_iload_n (pc := 0) hx hb d_D_thursday_0 rfl (lv_at hl 0 rfl) ?_
  refine lv_iload_n (pc := 1) hx hb d_D_thursday_1 rfl (lv_at hl 0 rfl) ?_
  refine lv_bipush (pc := 2) (v := nI 7) hx hb d_D_thursday_2 (by decide) ?_
  refine nv_irem (pc := 4) hx hb d_D_thursday_4 (by omega) (by omega) (by omega) ?_
  refine nv_isub (pc := 5) hx hb d_D_thursday_5 (by omega) ?_
  refine lv_iconst (pc := 6) (v := nI 3) hx hb d_D_thursday_6 (by decide) ?_
  refine nv_iadd (pc := 7) hx hb d_D_thursday_7 ?_
  exact nv_iret (pc := 8) hx hb hr hlocks rfl d_D_thursday_8
theorem q_D_thursday {p : Program} {l : Launch} {e : Env} {R : Room} {s : State} {m : MethodId} {args : Array Value} {below : List Frame} {meth : Method} {c : Code} {H : Heap} {locs : List Loc} {cells slots : Nat} {Q : State → Prop} {cc : ByteArray} {pc nL : Nat} {ls : Array Slot} {rest : List Value} (S : CallFix p m c cc nL s args gT R_D) (o : Nat) (g1 : o < 200000) (hR1 : 0 + 1 ≤ R.frames) (hR2 : 8 + (1 + 11) + 0 ≤ R.locals) (hsize : ls.size = nL) (hW : (rest.map fun v => v.category).sum ≤ 8) (hdg : decode cc pc = .ok (.invokestatic 23, 3)) (hf : cells + 0 ≤ R.cells ∧ slots + 0 ≤ R.slots) (kk : W p l e R s m args below meth c H locs cells slots Q (F0 m (pc + 3) ls (.int (nI (wd_th o)) :: rest))) : W p l e R s m args below meth c H locs cells slots Q (F0 m pc ls (.int (nI o) :: rest)) :=
  nv_callS (n := 1) S (c_D_thursday l o g1) (goodS tm_33 tm_34 tm_1 tm_35) (by decide +kernel) rfl rfl ⟨hR1, hR2⟩ rfl hsize rfl hW hdg hf kk
set_option maxHeartbeats 4000000 in
set_option maxRecDepth 100000 in
/-- year(of) -/
theorem c_D_year (l : Launch) (o : Nat) (g1 : o < 146097) : Met l y_D_year (Cond.code y_D_year b_D_year 4 (some .int) :: gT) ({ frames := 1, cells := 0, slots := 0, locals := 14 } : Room) (fun v _ => v = ([.int (nI o)] : List Value).toArray) (QcRead (nI (wd_yr o))) 0 0 (fun _ => False) := by
  refine pu_met [.int (nI o)] (by decide) (Nat.le_of_ble_eq_true rfl) ?_
  intro p e s m below meth c ls S hr hlocks hl
  have S : CallFix p m c b_D_year 4 s ([.int (nI o)] : List Value).toArray gT R_D := S
  obtain ⟨hx, hb, hml, hown, hts⟩ := id S
  have hl : lv_has ls 4 [(0, .int (nI o))] := hl
  have g2 := wd_ce_all o
  have g3 := wd_le_all o
  have g4 := wd_fo_all o
  have g5 := wd_l2_all o
  refine lv_iload_n (pc := 0) hx hb d_D_year_0 rfl (lv_at hl 0 rfl) ?_
  refine lv_ldc (pc := 1) (v := nI 36524) hx hb hown (hts _ tm_39) d_D_year_1 ?_
  refine nv_idiv (pc := 3) hx hb d_D_year_3 (by omega) (by omega) (by omega) ?_
  refine lv_iconst (pc := 4) (v := nI 3) hx hb d_D_year_4 (by decide) ?_
  refine nv_min (pc := 5) S hl.1 tm_40 (Nat.le_of_ble_eq_true rfl) (Nat.le_of_ble_eq_true rfl) (Nat.le_of_ble_eq_true rfl) (Nat.le_of_ble_eq_true rfl) (by omega) (by omega) d_D_year_5 ?_
  refine nv_to (wd_ce o) (by rfl) ?_
  refine lv_istore_n (pc := 8) (lv' := [(1, .int (nI (wd_ce o))), (0, .int (nI o))]) hx hb d_D_year_8 rfl hl (by decide) rfl (fun ls hl => ?_)
  refine lv_iload_n (pc := 9) hx hb d_D_year_9 rfl (lv_at hl 1 rfl) ?_
  refine lv_ldc (pc := 10) (v := nI 36524) hx hb hown (hts _ tm_39) d_D_year_10 ?_
  refine lv_iload_n (pc := 12) hx hb d_D_year_12 rfl (lv_at hl 0 rfl) ?_
  refine nv_imul (pc := 13) hx hb d_D_year_13 ?_
  refine nv_isub (pc := 14) hx hb d_D_year_14 (by omega) ?_
  refine nv_to (wd_le o) (by rfl) ?_
  refine lv_istore_n (pc := 15) (lv' := [(2, .int (nI (wd_le o))), (1, .int (nI (wd_ce o))), (0, .int (nI o))]) hx hb d_D_year_15 rfl hl (by decide) rfl (fun ls hl => ?_)
  refine lv_iload_n (pc := 16) hx hb d_D_year_16 rfl (lv_at hl 0 rfl) ?_
  refine lv_sipush (pc := 17) (v := nI 1461) hx hb d_D_year_17 (by decide) ?_
  refine nv_idiv (pc := 20) hx hb d_D_year_20 (by omega) (by omega) (by omega) ?_
  refine nv_to (wd_fo o) (by rfl) ?_
  refine lv_istore_n (pc := 21) (lv' := [(3, .int (nI (wd_fo o))), (2, .int (nI (wd_le o))), (1, .int (nI (wd_ce o))), (0, .int (nI o))]) hx hb d_D_year_21 rfl hl (by decide) rfl (fun ls hl => ?_)
  refine lv_iload_n (pc := 22) hx hb d_D_year_22 rfl (lv_at hl 1 rfl) ?_
  refine lv_sipush (pc := 23) (v := nI 1461) hx hb d_D_year_23 (by decide) ?_
  refine lv_iload_n (pc := 26) hx hb d_D_year_26 rfl (lv_at hl 0 rfl) ?_
  refine nv_imul (pc := 27) hx hb d_D_year_27 ?_
  refine nv_isub (pc := 28) hx hb d_D_year_28 (by omega) ?_
  refine nv_to (wd_l2 o) (by rfl) ?_
  refine lv_istore_n (pc := 29) (lv' := [(2, .int (nI (wd_l2 o))), (3, .int (nI (wd_fo o))), (1, .int (nI (wd_ce o))), (0, .int (nI o))]) hx hb d_D_year_29 rfl hl (by decide) rfl (fun ls hl => ?_)
  refine lv_bipush (pc := 30) (v := nI 100) hx hb d_D_year_30 (by decide) ?_
  refine lv_iload_n (pc := 32) hx hb d_D_year_32 rfl (lv_at hl 2 rfl) ?_
  refine nv_imul (pc := 33) hx hb d_D_year_33 ?_
  refine lv_iconst (pc := 34) (v := nI 4) hx hb d_D_year_34 (by decide) ?_
  refine lv_iload_n (pc := 35) hx hb d_D_year_35 rfl (lv_at hl 1 rfl) ?_
  refine nv_imul (pc := 36) hx hb d_D_year_36 ?_
  refine nv_iadd (pc := 37) hx hb d_D_year_37 ?_
  refine lv_iload_n (pc := 38) hx hb d_D_year_38 rfl (lv_at hl 0 rfl) ?_
  refine lv_sipush (pc := 39) (v := nI 365) hx hb d_D_year_39 (by decide) ?_
  refine nv_idiv (pc := 42) hx hb d_D_year_42 (by omega) (by omega) (by omega) ?_
  refine lv_iconst (pc := 43) (v := nI 3) hx hb d_D_year_43 (by decide) ?_
  refine nv_min (pc := 44) S hl.1 tm_40 (Nat.le_of_ble_eq_true rfl) (Nat.le_of_ble_eq_true rfl) (Nat.le_of_ble_eq_true rfl) (Nat.le_of_ble_eq_true rfl) (by omega) (by omega) d_D_year_44 ?_
  refine nv_iadd (pc := 47) hx hb d_D_year_47 ?_
  refine lv_iconst (pc := 48) (v := nI 1) hx hb d_D_year_48 (by decide) ?_
  refine nv_iadd (pc := 49) hx hb d_D_year_49 ?_
  exact nv_iret (pc := 50) hx hb hr hlocks rfl d_D_year_50
theorem q_D_year {p : Program} {l : Launch} {e : Env} {R : Room} {s : State} {m : MethodId} {args : Array Value} {below : List Frame} {meth : Method} {c : Code} {H : Heap} {locs : List Loc} {cells slots : Nat} {Q : State → Prop} {cc : ByteArray} {pc nL : Nat} {ls : Array Slot} {rest : List Value} (S : CallFix p m c cc nL s args gT R_D) (o : Nat) (g1 : o < 146097) (hR1 : 1 + 1 ≤ R.frames) (hR2 : 8 + (4 + 11) + 14 ≤ R.locals) (hsize : ls.size = nL) (hW : (rest.map fun v => v.category).sum ≤ 8) (hdg : decode cc pc = .ok (.invokestatic 37, 3)) (hf : cells + 0 ≤ R.cells ∧ slots + 0 ≤ R.slots) (kk : W p l e R s m args below meth c H locs cells slots Q (F0 m (pc + 3) ls (.int (nI (wd_yr o)) :: rest))) : W p l e R s m args below meth c H locs cells slots Q (F0 m pc ls (.int (nI o) :: rest)) :=
  nv_callS (n := 1) S (c_D_year l o g1) (goodS tm_36 tm_37 tm_1 tm_38) (by decide +kernel) rfl rfl ⟨hR1, hR2⟩ rfl hsize rfl hW hdg hf kk
set_option maxHeartbeats 4000000 in
set_option maxRecDepth 100000 in
/-- first(year) -/
theorem c_D_first (l : Launch) (y : Nat) (g0 : 1 ≤ y) (g1 : y ≤ 401) : Met l y_D_first (Cond.code y_D_first b_D_first 1 (some .int) :: gT) ({ frames := 1, cells := 0, slots := 0, locals := 21 } : Room) (fun v _ => v = ([.int (nI y)] : List Value).toArray) (QcRead (nI (wd_fs y))) 0 0 (fun _ => False) := by
  refine pu_met [.int (nI y)] (by decide) (Nat.le_of_ble_eq_true rfl) ?_
  intro p e s m below meth c ls S hr hlocks hl
  have S : CallFix p m c b_D_first 1 s ([.int (nI y)] : List Value).toArray gT R_D := S
  obtain ⟨hx, hb, hml, hown, hts⟩ := id S
  have hl : lv_has ls 1 [(0, .int (nI y))] := hl
  have g2 := wd_bg_up g0 g1
  refine lv_iload_n (pc := 0) hx hb d_D_first_0 rfl (lv_at hl 0 rfl) ?_
  refine q_D_begin (pc := 1) S y g0 g1 (Nat.le_of_ble_eq_true rfl) (Nat.le_of_ble_eq_true rfl) hl.1 (Nat.le_of_ble_eq_true rfl) d_D_first_1 ⟨Nat.le_of_ble_eq_true rfl, Nat.le_of_ble_eq_true rfl⟩ ?_
  refine lv_iconst (pc := 4) (v := nI 3) hx hb d_D_first_4 (by decide) ?_
  refine nv_iadd (pc := 5) hx hb d_D_first_5 ?_
  refine q_D_thursday (pc := 6) S (wd_bg y + 3) (by omega) (Nat.le_of_ble_eq_true rfl) (Nat.le_of_ble_eq_true rfl) hl.1 (Nat.le_of_ble_eq_true rfl) d_D_first_6 ⟨Nat.le_of_ble_eq_true rfl, Nat.le_of_ble_eq_true rfl⟩ ?_
  exact nv_iret (pc := 9) hx hb hr hlocks rfl d_D_first_9
theorem q_D_first {p : Program} {l : Launch} {e : Env} {R : Room} {s : State} {m : MethodId} {args : Array Value} {below : List Frame} {meth : Method} {c : Code} {H : Heap} {locs : List Loc} {cells slots : Nat} {Q : State → Prop} {cc : ByteArray} {pc nL : Nat} {ls : Array Slot} {rest : List Value} (S : CallFix p m c cc nL s args gT R_D) (y : Nat) (g0 : 1 ≤ y) (g1 : y ≤ 401) (hR1 : 1 + 1 ≤ R.frames) (hR2 : 8 + (1 + 11) + 21 ≤ R.locals) (hsize : ls.size = nL) (hW : (rest.map fun v => v.category).sum ≤ 8) (hdg : decode cc pc = .ok (.invokestatic 26, 3)) (hf : cells + 0 ≤ R.cells ∧ slots + 0 ≤ R.slots) (kk : W p l e R s m args below meth c H locs cells slots Q (F0 m (pc + 3) ls (.int (nI (wd_fs y)) :: rest))) : W p l e R s m args below meth c H locs cells slots Q (F0 m pc ls (.int (nI y) :: rest)) :=
  nv_callS (n := 1) S (c_D_first l y g0 g1) (goodS tm_57 tm_58 tm_1 tm_59) (by decide +kernel) rfl rfl ⟨hR1, hR2⟩ rfl hsize rfl hW hdg hf kk
set_option maxHeartbeats 4000000 in
set_option maxRecDepth 100000 in
/-- many(year) -/
theorem c_D_many (l : Launch) (y : Nat) (g0 : 1 ≤ y) (g1 : y ≤ 400) : Met l y_D_many (Cond.code y_D_many b_D_many 1 (some .int) :: gT) ({ frames := 2, cells := 0, slots := 0, locals := 41 } : Room) (fun v _ => v = ([.int (nI y)] : List Value).toArray) (QcRead (nI (wd_mn y))) 0 0 (fun _ => False) := by
  refine pu_met [.int (nI y)] (by decide) (Nat.le_of_ble_eq_true rfl) ?_
  intro p e s m below meth c ls S hr hlocks hl
  have S : CallFix p m c b_D_many 1 s ([.int (nI y)] : List Value).toArray gT R_D := S
  obtain ⟨hx, hb, hml, hown, hts⟩ := id S
  have hl : lv_has ls 1 [(0, .int (nI y))] := hl
  have g2 := wd_bg_up (y := y + 1) (by omega) (by omega)
  have g3 := (wd_mn_fs g0).1
  refine lv_iload_n (pc := 0) hx hb d_D_many_0 rfl (lv_at hl 0 rfl) ?_
  refine lv_iconst (pc := 1) (v := nI 1) hx hb d_D_many_1 (by decide) ?_
  refine nv_iadd (pc := 2) hx hb d_D_many_2 ?_
  refine q_D_begin (pc := 3) S (y + 1) (by omega) (by omega) (Nat.le_of_ble_eq_true rfl) (Nat.le_of_ble_eq_true rfl) hl.1 (Nat.le_of_ble_eq_true rfl) d_D_many_3 ⟨Nat.le_of_ble_eq_true rfl, Nat.le_of_ble_eq_true rfl⟩ ?_
  refine lv_iconst (pc := 6) (v := nI 1) hx hb d_D_many_6 (by decide) ?_
  refine nv_isub (pc := 7) hx hb d_D_many_7 (by omega) ?_
  refine lv_iload_n (pc := 8) hx hb d_D_many_8 rfl (lv_at hl 0 rfl) ?_
  refine q_D_first (pc := 9) S y g0 (by omega) (Nat.le_of_ble_eq_true rfl) (Nat.le_of_ble_eq_true rfl) hl.1 (Nat.le_of_ble_eq_true rfl) d_D_many_9 ⟨Nat.le_of_ble_eq_true rfl, Nat.le_of_ble_eq_true rfl⟩ ?_
  refine nv_isub (pc := 12) hx hb d_D_many_12 (by omega) ?_
  refine lv_bipush (pc := 13) (v := nI 7) hx hb d_D_many_13 (by decide) ?_
  refine nv_idiv (pc := 15) hx hb d_D_many_15 (by omega) (by omega) (by omega) ?_
  refine lv_iconst (pc := 16) (v := nI 1) hx hb d_D_many_16 (by decide) ?_
  refine nv_iadd (pc := 17) hx hb d_D_many_17 ?_
  exact nv_iret (pc := 18) hx hb hr hlocks rfl d_D_many_18
theorem q_D_many {p : Program} {l : Launch} {e : Env} {R : Room} {s : State} {m : MethodId} {args : Array Value} {below : List Frame} {meth : Method} {c : Code} {H : Heap} {locs : List Loc} {cells slots : Nat} {Q : State → Prop} {cc : ByteArray} {pc nL : Nat} {ls : Array Slot} {rest : List Value} (S : CallFix p m c cc nL s args gT R_D) (y : Nat) (g0 : 1 ≤ y) (g1 : y ≤ 400) (hR1 : 2 + 1 ≤ R.frames) (hR2 : 8 + (1 + 11) + 41 ≤ R.locals) (hsize : ls.size = nL) (hW : (rest.map fun v => v.category).sum ≤ 8) (hdg : decode cc pc = .ok (.invokestatic 40, 3)) (hf : cells + 0 ≤ R.cells ∧ slots + 0 ≤ R.slots) (kk : W p l e R s m args below meth c H locs cells slots Q (F0 m (pc + 3) ls (.int (nI (wd_mn y)) :: rest))) : W p l e R s m args below meth c H locs cells slots Q (F0 m pc ls (.int (nI y) :: rest)) :=
  nv_callS (n := 1) S (c_D_many l y g0 g1) (goodS tm_54 tm_55 tm_1 tm_56) (by decide +kernel) rfl rfl ⟨hR1, hR2⟩ rfl hsize rfl hW hdg hf kk
end
section
set_option maxHeartbeats 4000000 in
set_option maxRecDepth 100000 in
/-- weekday() -/
theorem c_D_weekday (l : Launch) (dC : Nat → ClassId) (dI : Nat → Nat → Nat) (h0 D : Nat) (hD : D < 146097) : Met l y_D_weekday (Cond.code y_D_weekday b_D_weekday 1 (some .int) :: gT) ({ frames := 0, cells := 0, slots := 0, locals := 0 } : Room) (PcO dC dI 0 h0 D []) (QcRead (nI (D % 7 + 1))) 0 0 (fun _ => False) := by
  refine ob_met [] (by decide) (Nat.le_of_ble_eq_true rfl) ?_
  intro p e s m below meth c ls S hr hlocks hP hK hl
  have S : CallFix p m c b_D_weekday 1 s ([.ref h0] : List Value).toArray gT R_D := S
  obtain ⟨hx, hb, hml, hown, hts⟩ := id S
  have hl : lv_has ls 1 [(0, .ref h0)] := hl
  refine lv_aload_n (pc := 0) hx hb d_D_weekday_0 rfl (lv_at hl 0 rfl) ?_
  refine q_D_get (pc := 1) S hK hP d_D_weekday_1 ?_
  refine lv_bipush (pc := 4) (v := nI 7) hx hb d_D_weekday_4 (by decide) ?_
  refine nv_irem (pc := 6) hx hb d_D_weekday_6 (by omega) (by omega) (by omega) ?_
  refine lv_iconst (pc := 7) (v := nI 1) hx hb d_D_weekday_7 (by decide) ?_
  refine nv_iadd (pc := 8) hx hb d_D_weekday_8 ?_
  exact nv_iret (pc := 9) hx hb hr hlocks rfl d_D_weekday_9
set_option maxHeartbeats 4000000 in
set_option maxRecDepth 100000 in
/-- weekYear() -/
theorem c_D_weekYear (l : Launch) (dC : Nat → ClassId) (dI : Nat → Nat → Nat) (h0 D : Nat) (hD : D < 146097) : Met l y_D_weekYear (Cond.code y_D_weekYear b_D_weekYear 1 (some .int) :: gT) ({ frames := 2, cells := 0, slots := 0, locals := 37 } : Room) (PcO dC dI 0 h0 D []) (QcRead (nI (wd_yr (wd_th D)))) 0 0 (fun _ => False) := by
  refine ob_met [] (by decide) (Nat.le_of_ble_eq_true rfl) ?_
  intro p e s m below meth c ls S hr hlocks hP hK hl
  have S : CallFix p m c b_D_weekYear 1 s ([.ref h0] : List Value).toArray gT R_D := S
  obtain ⟨hx, hb, hml, hown, hts⟩ := id S
  have hl : lv_has ls 1 [(0, .ref h0)] := hl
  refine lv_aload_n (pc := 0) hx hb d_D_weekYear_0 rfl (lv_at hl 0 rfl) ?_
  refine q_D_get (pc := 1) S hK hP d_D_weekYear_1 ?_
  refine q_D_thursday (pc := 4) S D (by omega) (Nat.le_of_ble_eq_true rfl) (Nat.le_of_ble_eq_true rfl) hl.1 (Nat.le_of_ble_eq_true rfl) d_D_weekYear_4 ⟨Nat.le_of_ble_eq_true rfl, Nat.le_of_ble_eq_true rfl⟩ ?_
  refine q_D_year (pc := 7) S (wd_th D) (wd_th_lt hD) (Nat.le_of_ble_eq_true rfl) (Nat.le_of_ble_eq_true rfl) hl.1 (Nat.le_of_ble_eq_true rfl) d_D_weekYear_7 ⟨Nat.le_of_ble_eq_true rfl, Nat.le_of_ble_eq_true rfl⟩ ?_
  exact nv_iret (pc := 10) hx hb hr hlocks rfl d_D_weekYear_10
set_option maxHeartbeats 4000000 in
set_option maxRecDepth 100000 in
/-- week() -/
theorem c_D_week (l : Launch) (dC : Nat → ClassId) (dI : Nat → Nat → Nat) (h0 D : Nat) (hD : D < 146097) : Met l y_D_week (Cond.code y_D_week b_D_week 2 (some .int) :: gT) ({ frames := 2, cells := 0, slots := 0, locals := 37 } : Room) (PcO dC dI 0 h0 D []) (QcRead (nI ((wd_th D - wd_bg (wd_yr (wd_th D))) / 7 + 1))) 0 0 (fun _ => False) := by
  refine ob_met [] (by decide) (Nat.le_of_ble_eq_true rfl) ?_
  intro p e s m below meth c ls S hr hlocks hP hK hl
  have S : CallFix p m c b_D_week 2 s ([.ref h0] : List Value).toArray gT R_D := S
  obtain ⟨hx, hb, hml, hown, hts⟩ := id S
  have hl : lv_has ls 2 [(0, .ref h0)] := hl
  have g2 := wd_th_lt hD
  have g3 := wd_yr_lo g2
  refine lv_aload_n (pc := 0) hx hb d_D_week_0 rfl (lv_at hl 0 rfl) ?_
  refine q_D_get (pc := 1) S hK hP d_D_week_1 ?_
  refine q_D_thursday (pc := 4) S D (by omega) (Nat.le_of_ble_eq_true rfl) (Nat.le_of_ble_eq_true rfl) hl.1 (Nat.le_of_ble_eq_true rfl) d_D_week_4 ⟨Nat.le_of_ble_eq_true rfl, Nat.le_of_ble_eq_true rfl⟩ ?_
  refine lv_istore_n (pc := 7) (lv' := [(1, .int (nI (wd_th D))), (0, .ref h0)]) hx hb d_D_week_7 rfl hl (by decide) rfl (fun ls hl => ?_)
  refine lv_iload_n (pc := 8) hx hb d_D_week_8 rfl (lv_at hl 0 rfl) ?_
  refine lv_iload_n (pc := 9) hx hb d_D_week_9 rfl (lv_at hl 0 rfl) ?_
  refine q_D_year (pc := 10) S (wd_th D) g2 (Nat.le_of_ble_eq_true rfl) (Nat.le_of_ble_eq_true rfl) hl.1 (Nat.le_of_ble_eq_true rfl) d_D_week_10 ⟨Nat.le_of_ble_eq_true rfl, Nat.le_of_ble_eq_true rfl⟩ ?_
  have g4 := wd_yr_1 g2
  have g5 := wd_yr_400 g2
  refine q_D_begin (pc := 13) S (wd_yr (wd_th D)) g4 (by omega) (Nat.le_of_ble_eq_true rfl) (Nat.le_of_ble_eq_true rfl) hl.1 (Nat.le_of_ble_eq_true rfl) d_D_week_13 ⟨Nat.le_of_ble_eq_true rfl, Nat.le_of_ble_eq_true rfl⟩ ?_
  refine nv_isub (pc := 16) hx hb d_D_week_16 (by omega) ?_
  refine lv_bipush (pc := 17) (v := nI 7) hx hb d_D_week_17 (by decide) ?_
  refine nv_idiv (pc := 19) hx hb d_D_week_19 (by omega) (by omega) (by omega) ?_
  refine lv_iconst (pc := 20) (v := nI 1) hx hb d_D_week_20 (by decide) ?_
  refine nv_iadd (pc := 21) hx hb d_D_week_21 ?_
  exact nv_iret (pc := 22) hx hb hr hlocks rfl d_D_week_22
set_option maxHeartbeats 4000000 in
set_option maxRecDepth 100000 in
/-- weeks(k) -/
theorem c_D_weeks (l : Launch) (dC : Nat → ClassId) (dI : Nat → Nat → Nat) (h0 D : Nat) (k : Int32) : Met l y_D_weeks (Cond.code y_D_weeks b_D_weeks 2 (some .int) :: gT) ({ frames := 3, cells := 0, slots := 0, locals := 61 } : Room) (PcO dC dI 0 h0 D [.int k]) (QcRead (nI (wd_mn (wd_yk k)))) 0 0 (fun _ => False) := by
  refine ob_met [.int k] (by decide) (Nat.le_of_ble_eq_true rfl) ?_
  intro p e s m below meth c ls S hr hlocks hP hK hl
  have S : CallFix p m c b_D_weeks 2 s ([.ref h0, .int k] : List Value).toArray gT R_D := S
  obtain ⟨hx, hb, hml, hown, hts⟩ := id S
  have hl : lv_has ls 2 [(0, .ref h0), (1, .int k)] := hl
  have g2 := wd_yk_all k
  refine lv_iload_n (pc := 0) hx hb d_D_weeks_0 rfl (lv_at hl 1 rfl) ?_
  refine lv_sipush (pc := 1) (v := nI 400) hx hb d_D_weeks_1 (by decide) ?_
  refine q_D_within (pc := 4) S k 400 (by decide) (by decide) (Nat.le_of_ble_eq_true rfl) (Nat.le_of_ble_eq_true rfl) hl.1 (Nat.le_of_ble_eq_true rfl) d_D_weeks_4 ⟨Nat.le_of_ble_eq_true rfl, Nat.le_of_ble_eq_true rfl⟩ ?_
  refine lv_iconst (pc := 7) (v := nI 1) hx hb d_D_weeks_7 (by decide) ?_
  refine nv_iadd (pc := 8) hx hb d_D_weeks_8 ?_
  refine nv_to (wd_yk k) (by rfl) ?_
  refine q_D_many (pc := 9) S (wd_yk k) g2.1 g2.2 (Nat.le_of_ble_eq_true rfl) (Nat.le_of_ble_eq_true rfl) hl.1 (Nat.le_of_ble_eq_true rfl) d_D_weeks_9 ⟨Nat.le_of_ble_eq_true rfl, Nat.le_of_ble_eq_true rfl⟩ ?_
  exact nv_iret (pc := 12) hx hb hr hlocks rfl d_D_weeks_12
set_option maxHeartbeats 4000000 in
set_option maxRecDepth 100000 in
/-- dayOfYear() -/
theorem c_D_dayOfYear (l : Launch) (dC : Nat → ClassId) (dI : Nat → Nat → Nat) (h0 D : Nat) (hD : D < 146097) : Met l y_D_dayOfYear (Cond.code y_D_dayOfYear b_D_dayOfYear 1 (some .int) :: gT) ({ frames := 2, cells := 0, slots := 0, locals := 37 } : Room) (PcO dC dI 0 h0 D []) (QcRead (nI (D - wd_bg (wd_yr D) + 1))) 0 0 (fun _ => False) := by
  refine ob_met [] (by decide) (Nat.le_of_ble_eq_true rfl) ?_
  intro p e s m below meth c ls S hr hlocks hP hK hl
  have S : CallFix p m c b_D_dayOfYear 1 s ([.ref h0] : List Value).toArray gT R_D := S
  obtain ⟨hx, hb, hml, hown, hts⟩ := id S
  have hl : lv_has ls 1 [(0, .ref h0)] := hl
  have g3 := wd_yr_lo hD
  have g4 := wd_yr_1 hD
  have g5 := wd_yr_400 hD
  refine lv_aload_n (pc := 0) hx hb d_D_dayOfYear_0 rfl (lv_at hl 0 rfl) ?_
  refine q_D_get (pc := 1) S hK hP d_D_dayOfYear_1 ?_
  refine lv_aload_n (pc := 4) hx hb d_D_dayOfYear_4 rfl (lv_at hl 0 rfl) ?_
  refine q_D_get (pc := 5) S hK hP d_D_dayOfYear_5 ?_
  refine q_D_year (pc := 8) S D hD (Nat.le_of_ble_eq_true rfl) (Nat.le_of_ble_eq_true rfl) hl.1 (Nat.le_of_ble_eq_true rfl) d_D_dayOfYear_8 ⟨Nat.le_of_ble_eq_true rfl, Nat.le_of_ble_eq_true rfl⟩ ?_
  refine q_D_begin (pc := 11) S (wd_yr D) g4 (by omega) (Nat.le_of_ble_eq_true rfl) (Nat.le_of_ble_eq_true rfl) hl.1 (Nat.le_of_ble_eq_true rfl) d_D_dayOfYear_11 ⟨Nat.le_of_ble_eq_true rfl, Nat.le_of_ble_eq_true rfl⟩ ?_
  refine nv_isub (pc := 14) hx hb d_D_dayOfYear_14 (by omega) ?_
  refine lv_iconst (pc := 15) (v := nI 1) hx hb d_D_dayOfYear_15 (by decide) ?_
  refine nv_iadd (pc := 16) hx hb d_D_dayOfYear_16 ?_
  exact nv_iret (pc := 17) hx hb hr hlocks rfl d_D_dayOfYear_17
set_option maxHeartbeats 4000000 in
set_option maxRecDepth 100000 in
/-- yearOf() -/
theorem c_D_yearOf (l : Launch) (dC : Nat → ClassId) (dI : Nat → Nat → Nat) (h0 D : Nat) (hD : D < 146097) : Met l y_D_yearOf (Cond.code y_D_yearOf b_D_yearOf 1 (some .int) :: gT) ({ frames := 2, cells := 0, slots := 0, locals := 37 } : Room) (PcO dC dI 0 h0 D []) (QcRead (nI (wd_yr D))) 0 0 (fun _ => False) := by
  refine ob_met [] (by decide) (Nat.le_of_ble_eq_true rfl) ?_
  intro p e s m below meth c ls S hr hlocks hP hK hl
  have S : CallFix p m c b_D_yearOf 1 s ([.ref h0] : List Value).toArray gT R_D := S
  obtain ⟨hx, hb, hml, hown, hts⟩ := id S
  have hl : lv_has ls 1 [(0, .ref h0)] := hl
  refine lv_aload_n (pc := 0) hx hb d_D_yearOf_0 rfl (lv_at hl 0 rfl) ?_
  refine q_D_get (pc := 1) S hK hP d_D_yearOf_1 ?_
  refine q_D_year (pc := 4) S D hD (Nat.le_of_ble_eq_true rfl) (Nat.le_of_ble_eq_true rfl) hl.1 (Nat.le_of_ble_eq_true rfl) d_D_yearOf_4 ⟨Nat.le_of_ble_eq_true rfl, Nat.le_of_ble_eq_true rfl⟩ ?_
  exact nv_iret (pc := 7) hx hb hr hlocks rfl d_D_yearOf_7
end
section
set_option maxHeartbeats 4000000 in
set_option maxRecDepth 100000 in
/-- easter(k) -/
theorem c_D_easter (l : Launch) (dC : Nat → ClassId) (dI : Nat → Nat → Nat) (h0 D : Nat) (k : Int32) : Met l y_D_easter (Cond.code y_D_easter b_D_easter 10 (some .int) :: gT) ({ frames := 1, cells := 0, slots := 0, locals := 21 } : Room) (PcO dC dI 0 h0 D [.int k]) (QcRead (wd_ea (nI (wd_yk k)))) 0 0 (fun _ => False) := by
  refine ob_met [.int k] (by decide) (Nat.le_of_ble_eq_true rfl) ?_
  intro p e s m below meth c ls S hr hlocks hP hK hl
  have S : CallFix p m c b_D_easter 10 s ([.ref h0, .int k] : List Value).toArray gT R_D := S
  obtain ⟨hx, hb, hml, hown, hts⟩ := id S
  have hl : lv_has ls 10 [(0, .ref h0), (1, .int k)] := hl
  refine lv_iload_n (pc := 0) hx hb d_D_easter_0 rfl (lv_at hl 1 rfl) ?_
  refine lv_sipush (pc := 1) (v := nI 400) hx hb d_D_easter_1 (by decide) ?_
  refine q_D_within (pc := 4) S k 400 (by decide) (by decide) (Nat.le_of_ble_eq_true rfl) (Nat.le_of_ble_eq_true rfl) hl.1 (Nat.le_of_ble_eq_true rfl) d_D_easter_4 ⟨Nat.le_of_ble_eq_true rfl, Nat.le_of_ble_eq_true rfl⟩ ?_
  refine lv_iconst (pc := 7) (v := nI 1) hx hb d_D_easter_7 (by decide) ?_
  refine nv_iadd (pc := 8) hx hb d_D_easter_8 ?_
  refine nv_to (wd_yk k) (by rfl) ?_
  generalize wd_yk k = y
  refine lv_istore_n (pc := 9) (lv' := [(2, .int (nI y)), (0, .ref h0), (1, .int k)]) hx hb d_D_easter_9 rfl hl (by decide) rfl (fun ls hl => ?_)
  refine lv_iload_n (pc := 10) hx hb d_D_easter_10 rfl (lv_at hl 0 rfl) ?_
  refine lv_bipush (pc := 11) (v := (19 : Int32)) hx hb d_D_easter_11 (by decide) ?_
  refine lv_irem (pc := 13) hx hb d_D_easter_13 (by decide) ?_
  refine lv_iconst (pc := 14) (v := (1 : Int32)) hx hb d_D_easter_14 (by decide) ?_
  refine lv_iadd (pc := 15) hx hb d_D_easter_15 ?_
  refine nv_toi (wd_eg (nI y)) rfl ?_
  refine lv_istore_n (pc := 16) (lv' := [(3, .int (wd_eg (nI y))), (2, .int (nI y)), (0, .ref h0), (1, .int k)]) hx hb d_D_easter_16 rfl hl (by decide) rfl (fun ls hl => ?_)
  refine lv_iload_n (pc := 17) hx hb d_D_easter_17 rfl (lv_at hl 1 rfl) ?_
  refine lv_bipush (pc := 18) (v := (100 : Int32)) hx hb d_D_easter_18 (by decide) ?_
  refine lv_idiv (pc := 20) hx hb d_D_easter_20 (by decide) ?_
  refine lv_iconst (pc := 21) (v := (1 : Int32)) hx hb d_D_easter_21 (by decide) ?_
  refine lv_iadd (pc := 22) hx hb d_D_easter_22 ?_
  refine nv_toi (wd_ec (nI y)) rfl ?_
  refine lv_istore (pc := 23) (lv' := [(4, .int (wd_ec (nI y))), (3, .int (wd_eg (nI y))), (2, .int (nI y)), (0, .ref h0), (1, .int k)]) hx hb d_D_easter_23 hl (by decide) rfl (fun ls hl => ?_)
  refine lv_iconst (pc := 25) (v := (3 : Int32)) hx hb d_D_easter_25 (by decide) ?_
  refine lv_iload (pc := 26) hx hb d_D_easter_26 (lv_at hl 0 rfl) ?_
  refine lv_imul (pc := 28) hx hb d_D_easter_28 ?_
  refine lv_iconst (pc := 29) (v := (2 : Int32)) hx hb d_D_easter_29 (by decide) ?_
  refine lv_ishr (pc := 30) hx hb d_D_easter_30 ?_
  refine lv_bipush (pc := 31) (v := (12 : Int32)) hx hb d_D_easter_31 (by decide) ?_
  refine lv_isub (pc := 33) hx hb d_D_easter_33 ?_
  refine nv_toi (wd_ex (nI y)) rfl ?_
  refine lv_istore (pc := 34) (lv' := [(5, .int (wd_ex (nI y))), (4, .int (wd_ec (nI y))), (3, .int (wd_eg (nI y))), (2, .int (nI y)), (0, .ref h0), (1, .int k)]) hx hb d_D_easter_34 hl (by decide) rfl (fun ls hl => ?_)
  refine lv_bipush (pc := 36) (v := (8 : Int32)) hx hb d_D_easter_36 (by decide) ?_
  refine lv_iload (pc := 38) hx hb d_D_easter_38 (lv_at hl 1 rfl) ?_
  refine lv_imul (pc := 40) hx hb d_D_easter_40 ?_
  refine lv_iconst (pc := 41) (v := (5 : Int32)) hx hb d_D_easter_41 (by decide) ?_
  refine lv_iadd (pc := 42) hx hb d_D_easter_42 ?_
  refine lv_bipush (pc := 43) (v := (25 : Int32)) hx hb d_D_easter_43 (by decide) ?_
  refine lv_idiv (pc := 45) hx hb d_D_easter_45 (by decide) ?_
  refine lv_iconst (pc := 46) (v := (5 : Int32)) hx hb d_D_easter_46 (by decide) ?_
  refine lv_isub (pc := 47) hx hb d_D_easter_47 ?_
  refine nv_toi (wd_ez (nI y)) rfl ?_
  refine lv_istore (pc := 48) (lv' := [(6, .int (wd_ez (nI y))), (5, .int (wd_ex (nI y))), (4, .int (wd_ec (nI y))), (3, .int (wd_eg (nI y))), (2, .int (nI y)), (0, .ref h0), (1, .int k)]) hx hb d_D_easter_48 hl (by decide) rfl (fun ls hl => ?_)
  refine lv_iconst (pc := 50) (v := (5 : Int32)) hx hb d_D_easter_50 (by decide) ?_
  refine lv_iload_n (pc := 51) hx hb d_D_easter_51 rfl (lv_at hl 4 rfl) ?_
  refine lv_imul (pc := 52) hx hb d_D_easter_52 ?_
  refine lv_iconst (pc := 53) (v := (2 : Int32)) hx hb d_D_easter_53 (by decide) ?_
  refine lv_ishr (pc := 54) hx hb d_D_easter_54 ?_
  refine lv_iload (pc := 55) hx hb d_D_easter_55 (lv_at hl 1 rfl) ?_
  refine lv_isub (pc := 57) hx hb d_D_easter_57 ?_
  refine lv_bipush (pc := 58) (v := (10 : Int32)) hx hb d_D_easter_58 (by decide) ?_
  refine lv_isub (pc := 60) hx hb d_D_easter_60 ?_
  refine nv_toi (wd_es (nI y)) rfl ?_
  refine lv_istore (pc := 61) (lv' := [(7, .int (wd_es (nI y))), (6, .int (wd_ez (nI y))), (5, .int (wd_ex (nI y))), (4, .int (wd_ec (nI y))), (3, .int (wd_eg (nI y))), (2, .int (nI y)), (0, .ref h0), (1, .int k)]) hx hb d_D_easter_61 hl (by decide) rfl (fun ls hl => ?_)
  refine lv_bipush (pc := 63) (v := (11 : Int32)) hx hb d_D_easter_63 (by decide) ?_
  refine lv_iload_n (pc := 65) hx hb d_D_easter_65 rfl (lv_at hl 4 rfl) ?_
  refine lv_imul (pc := 66) hx hb d_D_easter_66 ?_
  refine lv_bipush (pc := 67) (v := (20 : Int32)) hx hb d_D_easter_67 (by decide) ?_
  refine lv_iadd (pc := 69) hx hb d_D_easter_69 ?_
  refine lv_iload (pc := 70) hx hb d_D_easter_70 (lv_at hl 1 rfl) ?_
  refine lv_iadd (pc := 72) hx hb d_D_easter_72 ?_
  refine lv_iload (pc := 73) hx hb d_D_easter_73 (lv_at hl 2 rfl) ?_
  refine lv_isub (pc := 75) hx hb d_D_easter_75 ?_
  refine nv_toi (wd_e0 (nI y)) rfl ?_
  refine lv_bipush (pc := 76) (v := (30 : Int32)) hx hb d_D_easter_76 (by decide) ?_
  refine lv_irem (pc := 78) hx hb d_D_easter_78 (by decide) ?_
  refine nv_toi (wd_e1 (nI y)) rfl ?_
  refine lv_istore (pc := 79) (lv' := [(8, .int (wd_e1 (nI y))), (7, .int (wd_es (nI y))), (6, .int (wd_ez (nI y))), (5, .int (wd_ex (nI y))), (4, .int (wd_ec (nI y))), (3, .int (wd_eg (nI y))), (2, .int (nI y)), (0, .ref h0), (1, .int k)]) hx hb d_D_easter_79 hl (by decide) rfl (fun ls hl => ?_)
  refine lv_iload (pc := 81) hx hb d_D_easter_81 (lv_at hl 0 rfl) ?_
  refine lv_bipush (pc := 83) (v := (25 : Int32)) hx hb d_D_easter_83 (by decide) ?_
  refine lv_icmp_ne (pc := 85) (tgt := 94) hx hb d_D_easter_85 (by decide) (fun h1 => ?_) (fun h1 => ?_)
  · refine lv_iload (pc := 94) hx hb d_D_easter_94 (lv_at hl 0 rfl) ?_
    refine lv_bipush (pc := 96) (v := (24 : Int32)) hx hb d_D_easter_96 (by decide) ?_
    refine lv_icmp_ne (pc := 98) (tgt := 104) hx hb d_D_easter_98 (by decide) (fun h2 => ?_) (fun h2 => ?_)
    · rw [show wd_e1 (nI y) = wd_e2 (nI y) from (by unfold wd_e2; rw [if_neg (fun q => q.elim (fun z => h1 z.1) h2)])] at hl
      refine lv_iload (pc := 104) hx hb d_D_easter_104 (lv_at hl 0 rfl) ?_
      refine lv_bipush (pc := 106) (v := (23 : Int32)) hx hb d_D_easter_106 (by decide) ?_
      refine lv_icmp_le (pc := 108) (tgt := 119) hx hb d_D_easter_108 (by decide) (fun hf => ?_) (fun hf => ?_)
      · refine lv_bipush (pc := 119) (v := (44 : Int32)) hx hb d_D_easter_119 (by decide) ?_
        refine lv_iload (pc := 121) hx hb d_D_easter_121 (lv_at hl 0 rfl) ?_
        refine lv_isub (pc := 123) hx hb d_D_easter_123 ?_
        refine nv_toi (wd_ef (nI y)) (by unfold wd_ef; rw [if_neg (Int32.not_lt.mpr hf)]) ?_
        refine lv_istore (pc := 124) (lv' := [(9, .int (wd_ef (nI y))), (8, .int (wd_e2 (nI y))), (7, .int (wd_es (nI y))), (6, .int (wd_ez (nI y))), (5, .int (wd_ex (nI y))), (4, .int (wd_ec (nI y))), (3, .int (wd_eg (nI y))), (2, .int (nI y)), (0, .ref h0), (1, .int k)]) hx hb d_D_easter_124 hl (by decide) rfl (fun ls hl => ?_)
        refine lv_iload (pc := 126) hx hb d_D_easter_126 (lv_at hl 0 rfl) ?_
        refine lv_bipush (pc := 128) (v := (7 : Int32)) hx hb d_D_easter_128 (by decide) ?_
        refine lv_iadd (pc := 130) hx hb d_D_easter_130 ?_
        refine lv_iload (pc := 131) hx hb d_D_easter_131 (lv_at hl 2 rfl) ?_
        refine lv_iload (pc := 133) hx hb d_D_easter_133 (lv_at hl 0 rfl) ?_
        refine lv_iadd (pc := 135) hx hb d_D_easter_135 ?_
        refine lv_bipush (pc := 136) (v := (7 : Int32)) hx hb d_D_easter_136 (by decide) ?_
        refine lv_irem (pc := 138) hx hb d_D_easter_138 (by decide) ?_
        refine lv_isub (pc := 139) hx hb d_D_easter_139 ?_
        exact nv_iret (pc := 140) hx hb hr hlocks rfl d_D_easter_140
      · refine lv_bipush (pc := 111) (v := (74 : Int32)) hx hb d_D_easter_111 (by decide) ?_
        refine lv_iload (pc := 113) hx hb d_D_easter_113 (lv_at hl 0 rfl) ?_
        refine lv_isub (pc := 115) hx hb d_D_easter_115 ?_
        refine lv_goto (pc := 116) (tgt := 124) hx hb d_D_easter_116 (by decide) ?_
        refine nv_toi (wd_ef (nI y)) (by unfold wd_ef; rw [if_pos (Int32.not_le.mp hf)]) ?_
        refine lv_istore (pc := 124) (lv' := [(9, .int (wd_ef (nI y))), (8, .int (wd_e2 (nI y))), (7, .int (wd_es (nI y))), (6, .int (wd_ez (nI y))), (5, .int (wd_ex (nI y))), (4, .int (wd_ec (nI y))), (3, .int (wd_eg (nI y))), (2, .int (nI y)), (0, .ref h0), (1, .int k)]) hx hb d_D_easter_124 hl (by decide) rfl (fun ls hl => ?_)
        refine lv_iload (pc := 126) hx hb d_D_easter_126 (lv_at hl 0 rfl) ?_
        refine lv_bipush (pc := 128) (v := (7 : Int32)) hx hb d_D_easter_128 (by decide) ?_
        refine lv_iadd (pc := 130) hx hb d_D_easter_130 ?_
        refine lv_iload (pc := 131) hx hb d_D_easter_131 (lv_at hl 2 rfl) ?_
        refine lv_iload (pc := 133) hx hb d_D_easter_133 (lv_at hl 0 rfl) ?_
        refine lv_iadd (pc := 135) hx hb d_D_easter_135 ?_
        refine lv_bipush (pc := 136) (v := (7 : Int32)) hx hb d_D_easter_136 (by decide) ?_
        refine lv_irem (pc := 138) hx hb d_D_easter_138 (by decide) ?_
        refine lv_isub (pc := 139) hx hb d_D_easter_139 ?_
        exact nv_iret (pc := 140) hx hb hr hlocks rfl d_D_easter_140
    · refine lv_iinc (pc := 101) (v := wd_e1 (nI y) + 1) (lv' := [(8, .int (wd_e1 (nI y) + 1)), (7, .int (wd_es (nI y))), (6, .int (wd_ez (nI y))), (5, .int (wd_ex (nI y))), (4, .int (wd_ec (nI y))), (3, .int (wd_eg (nI y))), (2, .int (nI y)), (0, .ref h0), (1, .int k)]) hx hb d_D_easter_101 hl (k := 0) rfl rfl (by decide) rfl (fun ls hl => ?_)
      rw [show wd_e1 (nI y) + 1 = wd_e2 (nI y) from (by unfold wd_e2; rw [if_pos (Or.inr h2)])] at hl
      refine lv_iload (pc := 104) hx hb d_D_easter_104 (lv_at hl 0 rfl) ?_
      refine lv_bipush (pc := 106) (v := (23 : Int32)) hx hb d_D_easter_106 (by decide) ?_
      refine lv_icmp_le (pc := 108) (tgt := 119) hx hb d_D_easter_108 (by decide) (fun hf => ?_) (fun hf => ?_)
      · refine lv_bipush (pc := 119) (v := (44 : Int32)) hx hb d_D_easter_119 (by decide) ?_
        refine lv_iload (pc := 121) hx hb d_D_easter_121 (lv_at hl 0 rfl) ?_
        refine lv_isub (pc := 123) hx hb d_D_easter_123 ?_
        refine nv_toi (wd_ef (nI y)) (by unfold wd_ef; rw [if_neg (Int32.not_lt.mpr hf)]) ?_
        refine lv_istore (pc := 124) (lv' := [(9, .int (wd_ef (nI y))), (8, .int (wd_e2 (nI y))), (7, .int (wd_es (nI y))), (6, .int (wd_ez (nI y))), (5, .int (wd_ex (nI y))), (4, .int (wd_ec (nI y))), (3, .int (wd_eg (nI y))), (2, .int (nI y)), (0, .ref h0), (1, .int k)]) hx hb d_D_easter_124 hl (by decide) rfl (fun ls hl => ?_)
        refine lv_iload (pc := 126) hx hb d_D_easter_126 (lv_at hl 0 rfl) ?_
        refine lv_bipush (pc := 128) (v := (7 : Int32)) hx hb d_D_easter_128 (by decide) ?_
        refine lv_iadd (pc := 130) hx hb d_D_easter_130 ?_
        refine lv_iload (pc := 131) hx hb d_D_easter_131 (lv_at hl 2 rfl) ?_
        refine lv_iload (pc := 133) hx hb d_D_easter_133 (lv_at hl 0 rfl) ?_
        refine lv_iadd (pc := 135) hx hb d_D_easter_135 ?_
        refine lv_bipush (pc := 136) (v := (7 : Int32)) hx hb d_D_easter_136 (by decide) ?_
        refine lv_irem (pc := 138) hx hb d_D_easter_138 (by decide) ?_
        refine lv_isub (pc := 139) hx hb d_D_easter_139 ?_
        exact nv_iret (pc := 140) hx hb hr hlocks rfl d_D_easter_140
      · refine lv_bipush (pc := 111) (v := (74 : Int32)) hx hb d_D_easter_111 (by decide) ?_
        refine lv_iload (pc := 113) hx hb d_D_easter_113 (lv_at hl 0 rfl) ?_
        refine lv_isub (pc := 115) hx hb d_D_easter_115 ?_
        refine lv_goto (pc := 116) (tgt := 124) hx hb d_D_easter_116 (by decide) ?_
        refine nv_toi (wd_ef (nI y)) (by unfold wd_ef; rw [if_pos (Int32.not_le.mp hf)]) ?_
        refine lv_istore (pc := 124) (lv' := [(9, .int (wd_ef (nI y))), (8, .int (wd_e2 (nI y))), (7, .int (wd_es (nI y))), (6, .int (wd_ez (nI y))), (5, .int (wd_ex (nI y))), (4, .int (wd_ec (nI y))), (3, .int (wd_eg (nI y))), (2, .int (nI y)), (0, .ref h0), (1, .int k)]) hx hb d_D_easter_124 hl (by decide) rfl (fun ls hl => ?_)
        refine lv_iload (pc := 126) hx hb d_D_easter_126 (lv_at hl 0 rfl) ?_
        refine lv_bipush (pc := 128) (v := (7 : Int32)) hx hb d_D_easter_128 (by decide) ?_
        refine lv_iadd (pc := 130) hx hb d_D_easter_130 ?_
        refine lv_iload (pc := 131) hx hb d_D_easter_131 (lv_at hl 2 rfl) ?_
        refine lv_iload (pc := 133) hx hb d_D_easter_133 (lv_at hl 0 rfl) ?_
        refine lv_iadd (pc := 135) hx hb d_D_easter_135 ?_
        refine lv_bipush (pc := 136) (v := (7 : Int32)) hx hb d_D_easter_136 (by decide) ?_
        refine lv_irem (pc := 138) hx hb d_D_easter_138 (by decide) ?_
        refine lv_isub (pc := 139) hx hb d_D_easter_139 ?_
        exact nv_iret (pc := 140) hx hb hr hlocks rfl d_D_easter_140
  · refine lv_iload_n (pc := 88) hx hb d_D_easter_88 rfl (lv_at hl 5 rfl) ?_
    refine lv_bipush (pc := 89) (v := (11 : Int32)) hx hb d_D_easter_89 (by decide) ?_
    refine lv_icmp_gt (pc := 91) (tgt := 101) hx hb d_D_easter_91 (by decide) (fun h3 => ?_) (fun h3 => ?_)
    · refine lv_iinc (pc := 101) (v := wd_e1 (nI y) + 1) (lv' := [(8, .int (wd_e1 (nI y) + 1)), (7, .int (wd_es (nI y))), (6, .int (wd_ez (nI y))), (5, .int (wd_ex (nI y))), (4, .int (wd_ec (nI y))), (3, .int (wd_eg (nI y))), (2, .int (nI y)), (0, .ref h0), (1, .int k)]) hx hb d_D_easter_101 hl (k := 0) rfl rfl (by decide) rfl (fun ls hl => ?_)
      rw [show wd_e1 (nI y) + 1 = wd_e2 (nI y) from (by unfold wd_e2; rw [if_pos (Or.inl ⟨h1, h3⟩)])] at hl
      refine lv_iload (pc := 104) hx hb d_D_easter_104 (lv_at hl 0 rfl) ?_
      refine lv_bipush (pc := 106) (v := (23 : Int32)) hx hb d_D_easter_106 (by decide) ?_
      refine lv_icmp_le (pc := 108) (tgt := 119) hx hb d_D_easter_108 (by decide) (fun hf => ?_) (fun hf => ?_)
      · refine lv_bipush (pc := 119) (v := (44 : Int32)) hx hb d_D_easter_119 (by decide) ?_
        refine lv_iload (pc := 121) hx hb d_D_easter_121 (lv_at hl 0 rfl) ?_
        refine lv_isub (pc := 123) hx hb d_D_easter_123 ?_
        refine nv_toi (wd_ef (nI y)) (by unfold wd_ef; rw [if_neg (Int32.not_lt.mpr hf)]) ?_
        refine lv_istore (pc := 124) (lv' := [(9, .int (wd_ef (nI y))), (8, .int (wd_e2 (nI y))), (7, .int (wd_es (nI y))), (6, .int (wd_ez (nI y))), (5, .int (wd_ex (nI y))), (4, .int (wd_ec (nI y))), (3, .int (wd_eg (nI y))), (2, .int (nI y)), (0, .ref h0), (1, .int k)]) hx hb d_D_easter_124 hl (by decide) rfl (fun ls hl => ?_)
        refine lv_iload (pc := 126) hx hb d_D_easter_126 (lv_at hl 0 rfl) ?_
        refine lv_bipush (pc := 128) (v := (7 : Int32)) hx hb d_D_easter_128 (by decide) ?_
        refine lv_iadd (pc := 130) hx hb d_D_easter_130 ?_
        refine lv_iload (pc := 131) hx hb d_D_easter_131 (lv_at hl 2 rfl) ?_
        refine lv_iload (pc := 133) hx hb d_D_easter_133 (lv_at hl 0 rfl) ?_
        refine lv_iadd (pc := 135) hx hb d_D_easter_135 ?_
        refine lv_bipush (pc := 136) (v := (7 : Int32)) hx hb d_D_easter_136 (by decide) ?_
        refine lv_irem (pc := 138) hx hb d_D_easter_138 (by decide) ?_
        refine lv_isub (pc := 139) hx hb d_D_easter_139 ?_
        exact nv_iret (pc := 140) hx hb hr hlocks rfl d_D_easter_140
      · refine lv_bipush (pc := 111) (v := (74 : Int32)) hx hb d_D_easter_111 (by decide) ?_
        refine lv_iload (pc := 113) hx hb d_D_easter_113 (lv_at hl 0 rfl) ?_
        refine lv_isub (pc := 115) hx hb d_D_easter_115 ?_
        refine lv_goto (pc := 116) (tgt := 124) hx hb d_D_easter_116 (by decide) ?_
        refine nv_toi (wd_ef (nI y)) (by unfold wd_ef; rw [if_pos (Int32.not_le.mp hf)]) ?_
        refine lv_istore (pc := 124) (lv' := [(9, .int (wd_ef (nI y))), (8, .int (wd_e2 (nI y))), (7, .int (wd_es (nI y))), (6, .int (wd_ez (nI y))), (5, .int (wd_ex (nI y))), (4, .int (wd_ec (nI y))), (3, .int (wd_eg (nI y))), (2, .int (nI y)), (0, .ref h0), (1, .int k)]) hx hb d_D_easter_124 hl (by decide) rfl (fun ls hl => ?_)
        refine lv_iload (pc := 126) hx hb d_D_easter_126 (lv_at hl 0 rfl) ?_
        refine lv_bipush (pc := 128) (v := (7 : Int32)) hx hb d_D_easter_128 (by decide) ?_
        refine lv_iadd (pc := 130) hx hb d_D_easter_130 ?_
        refine lv_iload (pc := 131) hx hb d_D_easter_131 (lv_at hl 2 rfl) ?_
        refine lv_iload (pc := 133) hx hb d_D_easter_133 (lv_at hl 0 rfl) ?_
        refine lv_iadd (pc := 135) hx hb d_D_easter_135 ?_
        refine lv_bipush (pc := 136) (v := (7 : Int32)) hx hb d_D_easter_136 (by decide) ?_
        refine lv_irem (pc := 138) hx hb d_D_easter_138 (by decide) ?_
        refine lv_isub (pc := 139) hx hb d_D_easter_139 ?_
        exact nv_iret (pc := 140) hx hb hr hlocks rfl d_D_easter_140
    · refine lv_iload (pc := 94) hx hb d_D_easter_94 (lv_at hl 0 rfl) ?_
      refine lv_bipush (pc := 96) (v := (24 : Int32)) hx hb d_D_easter_96 (by decide) ?_
      refine lv_icmp_ne (pc := 98) (tgt := 104) hx hb d_D_easter_98 (by decide) (fun h2 => ?_) (fun h2 => ?_)
      · rw [show wd_e1 (nI y) = wd_e2 (nI y) from (by unfold wd_e2; rw [if_neg (fun q => q.elim (fun z => h3 z.2) h2)])] at hl
        refine lv_iload (pc := 104) hx hb d_D_easter_104 (lv_at hl 0 rfl) ?_
        refine lv_bipush (pc := 106) (v := (23 : Int32)) hx hb d_D_easter_106 (by decide) ?_
        refine lv_icmp_le (pc := 108) (tgt := 119) hx hb d_D_easter_108 (by decide) (fun hf => ?_) (fun hf => ?_)
        · refine lv_bipush (pc := 119) (v := (44 : Int32)) hx hb d_D_easter_119 (by decide) ?_
          refine lv_iload (pc := 121) hx hb d_D_easter_121 (lv_at hl 0 rfl) ?_
          refine lv_isub (pc := 123) hx hb d_D_easter_123 ?_
          refine nv_toi (wd_ef (nI y)) (by unfold wd_ef; rw [if_neg (Int32.not_lt.mpr hf)]) ?_
          refine lv_istore (pc := 124) (lv' := [(9, .int (wd_ef (nI y))), (8, .int (wd_e2 (nI y))), (7, .int (wd_es (nI y))), (6, .int (wd_ez (nI y))), (5, .int (wd_ex (nI y))), (4, .int (wd_ec (nI y))), (3, .int (wd_eg (nI y))), (2, .int (nI y)), (0, .ref h0), (1, .int k)]) hx hb d_D_easter_124 hl (by decide) rfl (fun ls hl => ?_)
          refine lv_iload (pc := 126) hx hb d_D_easter_126 (lv_at hl 0 rfl) ?_
          refine lv_bipush (pc := 128) (v := (7 : Int32)) hx hb d_D_easter_128 (by decide) ?_
          refine lv_iadd (pc := 130) hx hb d_D_easter_130 ?_
          refine lv_iload (pc := 131) hx hb d_D_easter_131 (lv_at hl 2 rfl) ?_
          refine lv_iload (pc := 133) hx hb d_D_easter_133 (lv_at hl 0 rfl) ?_
          refine lv_iadd (pc := 135) hx hb d_D_easter_135 ?_
          refine lv_bipush (pc := 136) (v := (7 : Int32)) hx hb d_D_easter_136 (by decide) ?_
          refine lv_irem (pc := 138) hx hb d_D_easter_138 (by decide) ?_
          refine lv_isub (pc := 139) hx hb d_D_easter_139 ?_
          exact nv_iret (pc := 140) hx hb hr hlocks rfl d_D_easter_140
        · refine lv_bipush (pc := 111) (v := (74 : Int32)) hx hb d_D_easter_111 (by decide) ?_
          refine lv_iload (pc := 113) hx hb d_D_easter_113 (lv_at hl 0 rfl) ?_
          refine lv_isub (pc := 115) hx hb d_D_easter_115 ?_
          refine lv_goto (pc := 116) (tgt := 124) hx hb d_D_easter_116 (by decide) ?_
          refine nv_toi (wd_ef (nI y)) (by unfold wd_ef; rw [if_pos (Int32.not_le.mp hf)]) ?_
          refine lv_istore (pc := 124) (lv' := [(9, .int (wd_ef (nI y))), (8, .int (wd_e2 (nI y))), (7, .int (wd_es (nI y))), (6, .int (wd_ez (nI y))), (5, .int (wd_ex (nI y))), (4, .int (wd_ec (nI y))), (3, .int (wd_eg (nI y))), (2, .int (nI y)), (0, .ref h0), (1, .int k)]) hx hb d_D_easter_124 hl (by decide) rfl (fun ls hl => ?_)
          refine lv_iload (pc := 126) hx hb d_D_easter_126 (lv_at hl 0 rfl) ?_
          refine lv_bipush (pc := 128) (v := (7 : Int32)) hx hb d_D_easter_128 (by decide) ?_
          refine lv_iadd (pc := 130) hx hb d_D_easter_130 ?_
          refine lv_iload (pc := 131) hx hb d_D_easter_131 (lv_at hl 2 rfl) ?_
          refine lv_iload (pc := 133) hx hb d_D_easter_133 (lv_at hl 0 rfl) ?_
          refine lv_iadd (pc := 135) hx hb d_D_easter_135 ?_
          refine lv_bipush (pc := 136) (v := (7 : Int32)) hx hb d_D_easter_136 (by decide) ?_
          refine lv_irem (pc := 138) hx hb d_D_easter_138 (by decide) ?_
          refine lv_isub (pc := 139) hx hb d_D_easter_139 ?_
          exact nv_iret (pc := 140) hx hb hr hlocks rfl d_D_easter_140
      · refine lv_iinc (pc := 101) (v := wd_e1 (nI y) + 1) (lv' := [(8, .int (wd_e1 (nI y) + 1)), (7, .int (wd_es (nI y))), (6, .int (wd_ez (nI y))), (5, .int (wd_ex (nI y))), (4, .int (wd_ec (nI y))), (3, .int (wd_eg (nI y))), (2, .int (nI y)), (0, .ref h0), (1, .int k)]) hx hb d_D_easter_101 hl (k := 0) rfl rfl (by decide) rfl (fun ls hl => ?_)
        rw [show wd_e1 (nI y) + 1 = wd_e2 (nI y) from (by unfold wd_e2; rw [if_pos (Or.inr h2)])] at hl
        refine lv_iload (pc := 104) hx hb d_D_easter_104 (lv_at hl 0 rfl) ?_
        refine lv_bipush (pc := 106) (v := (23 : Int32)) hx hb d_D_easter_106 (by decide) ?_
        refine lv_icmp_le (pc := 108) (tgt := 119) hx hb d_D_easter_108 (by decide) (fun hf => ?_) (fun hf => ?_)
        · refine lv_bipush (pc := 119) (v := (44 : Int32)) hx hb d_D_easter_119 (by decide) ?_
          refine lv_iload (pc := 121) hx hb d_D_easter_121 (lv_at hl 0 rfl) ?_
          refine lv_isub (pc := 123) hx hb d_D_easter_123 ?_
          refine nv_toi (wd_ef (nI y)) (by unfold wd_ef; rw [if_neg (Int32.not_lt.mpr hf)]) ?_
          refine lv_istore (pc := 124) (lv' := [(9, .int (wd_ef (nI y))), (8, .int (wd_e2 (nI y))), (7, .int (wd_es (nI y))), (6, .int (wd_ez (nI y))), (5, .int (wd_ex (nI y))), (4, .int (wd_ec (nI y))), (3, .int (wd_eg (nI y))), (2, .int (nI y)), (0, .ref h0), (1, .int k)]) hx hb d_D_easter_124 hl (by decide) rfl (fun ls hl => ?_)
          refine lv_iload (pc := 126) hx hb d_D_easter_126 (lv_at hl 0 rfl) ?_
          refine lv_bipush (pc := 128) (v := (7 : Int32)) hx hb d_D_easter_128 (by decide) ?_
          refine lv_iadd (pc := 130) hx hb d_D_easter_130 ?_
          refine lv_iload (pc := 131) hx hb d_D_easter_131 (lv_at hl 2 rfl) ?_
          refine lv_iload (pc := 133) hx hb d_D_easter_133 (lv_at hl 0 rfl) ?_
          refine lv_iadd (pc := 135) hx hb d_D_easter_135 ?_
          refine lv_bipush (pc := 136) (v := (7 : Int32)) hx hb d_D_easter_136 (by decide) ?_
          refine lv_irem (pc := 138) hx hb d_D_easter_138 (by decide) ?_
          refine lv_isub (pc := 139) hx hb d_D_easter_139 ?_
          exact nv_iret (pc := 140) hx hb hr hlocks rfl d_D_easter_140
        · refine lv_bipush (pc := 111) (v := (74 : Int32)) hx hb d_D_easter_111 (by decide) ?_
          refine lv_iload (pc := 113) hx hb d_D_easter_113 (lv_at hl 0 rfl) ?_
          refine lv_isub (pc := 115) hx hb d_D_easter_115 ?_
          refine lv_goto (pc := 116) (tgt := 124) hx hb d_D_easter_116 (by decide) ?_
          refine nv_toi (wd_ef (nI y)) (by unfold wd_ef; rw [if_pos (Int32.not_le.mp hf)]) ?_
          refine lv_istore (pc := 124) (lv' := [(9, .int (wd_ef (nI y))), (8, .int (wd_e2 (nI y))), (7, .int (wd_es (nI y))), (6, .int (wd_ez (nI y))), (5, .int (wd_ex (nI y))), (4, .int (wd_ec (nI y))), (3, .int (wd_eg (nI y))), (2, .int (nI y)), (0, .ref h0), (1, .int k)]) hx hb d_D_easter_124 hl (by decide) rfl (fun ls hl => ?_)
          refine lv_iload (pc := 126) hx hb d_D_easter_126 (lv_at hl 0 rfl) ?_
          refine lv_bipush (pc := 128) (v := (7 : Int32)) hx hb d_D_easter_128 (by decide) ?_
          refine lv_iadd (pc := 130) hx hb d_D_easter_130 ?_
          refine lv_iload (pc := 131) hx hb d_D_easter_131 (lv_at hl 2 rfl) ?_
          refine lv_iload (pc := 133) hx hb d_D_easter_133 (lv_at hl 0 rfl) ?_
          refine lv_iadd (pc := 135) hx hb d_D_easter_135 ?_
          refine lv_bipush (pc := 136) (v := (7 : Int32)) hx hb d_D_easter_136 (by decide) ?_
          refine lv_irem (pc := 138) hx hb d_D_easter_138 (by decide) ?_
          refine lv_isub (pc := 139) hx hb d_D_easter_139 ?_
          exact nv_iret (pc := 140) hx hb hr hlocks rfl d_D_easter_140
end
section
set_option maxHeartbeats 4000000 in
set_option maxRecDepth 100000 in
/-- leap(y) -/
theorem c_M_leap (l : Launch) (y : Nat) (g1 : y ≤ 1000) : Met l y_M_leap (Cond.code y_M_leap b_M_leap 1 (some .boolean) :: gT) ({ frames := 0, cells := 0, slots := 0, locals := 0 } : Room) (fun v _ => v = ([.int (nI y)] : List Value).toArray) (QcRead (nI (wd_lv y))) 0 0 (fun _ => False) := by
  refine pu_met [.int (nI y)] (by decide) (Nat.le_of_ble_eq_true rfl) ?_
  intro p e s m below meth c ls S hr hlocks hl
  have S : CallFix p m c b_M_leap 1 s ([.int (nI y)] : List Value).toArray gT R_M := S
  obtain ⟨hx, hb, hml, hown, hts⟩ := id S
  have hl : lv_has ls 1 [(0, .int (nI y))] := hl
  refine lv_iload_n (pc := 0) hx hb d_M_leap_0 rfl (lv_at hl 0 rfl) ?_
  refine lv_iconst (pc := 1) (v := nI 4) hx hb d_M_leap_1 (by decide) ?_
  refine nv_irem (pc := 2) hx hb d_M_leap_2 (by omega) (by omega) (by omega) ?_
  refine nv_if_ne (pc := 3) (tgt := 25) hx hb d_M_leap_3 (by decide) (by omega) (fun ha => ?_) (fun ha => ?_)
  · refine lv_iconst (pc := 25) (v := nI 0) hx hb d_M_leap_25 (by decide) ?_
    exact nv_zret (pc := 26) hx hb hr hlocks rfl (by rw [wd_lv_0a ha]) d_M_leap_26
  · refine lv_iload_n (pc := 6) hx hb d_M_leap_6 rfl (lv_at hl 0 rfl) ?_
    refine lv_bipush (pc := 7) (v := nI 100) hx hb d_M_leap_7 (by decide) ?_
    refine nv_irem (pc := 9) hx hb d_M_leap_9 (by omega) (by omega) (by omega) ?_
    refine nv_if_ne (pc := 10) (tgt := 21) hx hb d_M_leap_10 (by decide) (by omega) (fun hq => ?_) (fun hq => ?_)
    · refine lv_iconst (pc := 21) (v := nI 1) hx hb d_M_leap_21 (by decide) ?_
      refine lv_goto (pc := 22) (tgt := 26) hx hb d_M_leap_22 (by decide) ?_
      exact nv_zret (pc := 26) hx hb hr hlocks rfl (by rw [wd_lv_1 (by omega) (Or.inl hq)]) d_M_leap_26
    · refine lv_iload_n (pc := 13) hx hb d_M_leap_13 rfl (lv_at hl 0 rfl) ?_
      refine lv_sipush (pc := 14) (v := nI 400) hx hb d_M_leap_14 (by decide) ?_
      refine nv_irem (pc := 17) hx hb d_M_leap_17 (by omega) (by omega) (by omega) ?_
      refine nv_if_ne (pc := 18) (tgt := 25) hx hb d_M_leap_18 (by decide) (by omega) (fun he => ?_) (fun he => ?_)
      · refine lv_iconst (pc := 25) (v := nI 0) hx hb d_M_leap_25 (by decide) ?_
        exact nv_zret (pc := 26) hx hb hr hlocks rfl (by rw [wd_lv_0b (by omega) (by omega)]) d_M_leap_26
      · refine lv_iconst (pc := 21) (v := nI 1) hx hb d_M_leap_21 (by decide) ?_
        refine lv_goto (pc := 22) (tgt := 26) hx hb d_M_leap_22 (by decide) ?_
        exact nv_zret (pc := 26) hx hb hr hlocks rfl (by rw [wd_lv_1 (by omega) (Or.inr (by omega))]) d_M_leap_26
theorem q_M_leap {p : Program} {l : Launch} {e : Env} {R : Room} {s : State} {m : MethodId} {args : Array Value} {below : List Frame} {meth : Method} {c : Code} {H : Heap} {locs : List Loc} {cells slots : Nat} {Q : State → Prop} {cc : ByteArray} {pc nL : Nat} {ls : Array Slot} {rest : List Value} (S : CallFix p m c cc nL s args gT R_M) (y : Nat) (g1 : y ≤ 1000) (hR1 : 0 + 1 ≤ R.frames) (hR2 : 8 + (1 + 11) + 0 ≤ R.locals) (hsize : ls.size = nL) (hW : (rest.map fun v => v.category).sum ≤ 8) (hdg : decode cc pc = .ok (.invokestatic 15, 3)) (hf : cells + 0 ≤ R.cells ∧ slots + 0 ≤ R.slots) (kk : W p l e R s m args below meth c H locs cells slots Q (F0 m (pc + 3) ls (.int (nI (wd_lv y)) :: rest))) : W p l e R s m args below meth c H locs cells slots Q (F0 m pc ls (.int (nI y) :: rest)) :=
  nv_callS (n := 1) S (c_M_leap l y g1) (goodS tm_115 tm_116 tm_2 tm_117) (by decide +kernel) rfl rfl ⟨hR1, hR2⟩ rfl hsize rfl hW hdg hf kk
set_option maxHeartbeats 4000000 in
set_option maxRecDepth 100000 in
/-- before0(y): the loop adds up the years -/
theorem c_M_before0 (l : Launch) (y : Nat) (g0 : 1 ≤ y) (g1 : y ≤ 401) : Met l y_M_before0 (Cond.code y_M_before0 b_M_before0 3 (some .int) :: gT) ({ frames := 1, cells := 0, slots := 0, locals := 20 } : Room) (fun v _ => v = ([.int (nI y)] : List Value).toArray) (QcRead (nI (wd_bg y))) 0 0 (fun _ => False) := by
  refine pu_met [.int (nI y)] (by decide) (Nat.le_of_ble_eq_true rfl) ?_
  intro p e s m below meth c ls S hr hlocks hl
  have S : CallFix p m c b_M_before0 3 s ([.int (nI y)] : List Value).toArray gT R_M := S
  obtain ⟨hx, hb, hml, hown, hts⟩ := id S
  have hl : lv_has ls 3 [(0, .int (nI y))] := hl
  have loop : ∀ (n k d : Nat), 1 ≤ k → k ≤ y → y + 1 ≤ k + n → d = wd_bg k → ∀ (ls : Array Slot), lv_has ls 3 [(2, .int (nI k)), (1, .int (nI d)), (0, .int (nI y))] → W p l e ({ frames := 1, cells := 0, slots := 0, locals := 20 } : Room) s m ([.int (nI y)] : List Value).toArray below meth c s.heap [] 0 0 (MQ below (QcRead (nI (wd_bg y))) ([.int (nI y)] : List Value).toArray s 0 0 (fun _ => False)) (F0 m 4 ls []) := by
    intro n
    induction n with
    | zero =>
      intro k d i1 i2 i3
      exact absurd i3 (by omega)
    | succ n ih =>
      intro k d i1 i2 i3 i4 ls hl
      have j1 := wd_lv_le k
      have j2 := wd_bg_s i1
      refine lv_iload_n (pc := 4) hx hb d_M_before0_4 rfl (lv_at hl 0 rfl) ?_
      refine lv_iload_n (pc := 5) hx hb d_M_before0_5 rfl (lv_at hl 2 rfl) ?_
      refine nv_icmp_ge (pc := 6) (tgt := 34) hx hb d_M_before0_6 (by decide) (by omega) (by omega) (fun hc => ?_) (fun hc => ?_)
      · refine lv_iload_n (pc := 34) hx hb d_M_before0_34 rfl (lv_at hl 1 rfl) ?_
        exact nv_iret (pc := 35) hx hb hr hlocks (by rw [i4, show k = y by omega]) d_M_before0_35
      · refine lv_iload_n (pc := 9) hx hb d_M_before0_9 rfl (lv_at hl 1 rfl) ?_
        refine lv_iload_n (pc := 10) hx hb d_M_before0_10 rfl (lv_at hl 0 rfl) ?_
        refine q_M_leap (pc := 11) S k (by omega) (Nat.le_of_ble_eq_true rfl) (Nat.le_of_ble_eq_true rfl) hl.1 (Nat.le_of_ble_eq_true rfl) d_M_before0_11 ⟨Nat.le_of_ble_eq_true rfl, Nat.le_of_ble_eq_true rfl⟩ ?_
        refine nv_sel (pc := 14) (A := 366) (B := 365) (t2 := 23) (tj := 26) hx hb d_M_before0_14 (by decide) (by omega) d_M_before0_17 (by decide) d_M_before0_20 (by decide) d_M_before0_23 (by decide) rfl (fun v h_v => ?_)
        refine nv_iadd (pc := 26) hx hb d_M_before0_26 ?_
        refine lv_istore_n (pc := 27) (lv' := [(1, .int (nI (d + v))), (2, .int (nI k)), (0, .int (nI y))]) hx hb d_M_before0_27 rfl hl (by decide) rfl (fun ls hl => ?_)
        refine lv_iinc (pc := 28) (v := nI (k + 1)) (lv' := [(2, .int (nI (k + 1))), (1, .int (nI (d + v))), (0, .int (nI y))]) hx hb d_M_before0_28 hl (k := 1) rfl (by rw [← nI_add]; rfl) (by decide) rfl (fun ls hl => ?_)
        refine lv_goto (pc := 31) (tgt := 4) hx hb d_M_before0_31 (by decide) ?_
        exact ih (k + 1) (d + v) (by omega) (by omega) (by omega) (by omega) ls (lv_sub hl [0, 1, 2] rfl)
  refine lv_iconst (pc := 0) (v := nI 0) hx hb d_M_before0_0 (by decide) ?_
  refine lv_istore_n (pc := 1) (lv' := [(1, .int (nI 0)), (0, .int (nI y))]) hx hb d_M_before0_1 rfl hl (by decide) rfl (fun ls hl => ?_)
  refine lv_iconst (pc := 2) (v := nI 1) hx hb d_M_before0_2 (by decide) ?_
  refine lv_istore_n (pc := 3) (lv' := [(2, .int (nI 1)), (1, .int (nI 0)), (0, .int (nI y))]) hx hb d_M_before0_3 rfl hl (by decide) rfl (fun ls hl => ?_)
  exact loop (y + 1) 1 0 (Nat.le_refl 1) g0 (by omega) rfl ls (lv_sub hl [0, 1, 2] rfl)
theorem q_M_before0 {p : Program} {l : Launch} {e : Env} {R : Room} {s : State} {m : MethodId} {args : Array Value} {below : List Frame} {meth : Method} {c : Code} {H : Heap} {locs : List Loc} {cells slots : Nat} {Q : State → Prop} {cc : ByteArray} {pc nL : Nat} {ls : Array Slot} {rest : List Value} (S : CallFix p m c cc nL s args gT R_M) (y : Nat) (g0 : 1 ≤ y) (g1 : y ≤ 401) (hR1 : 1 + 1 ≤ R.frames) (hR2 : 8 + (3 + 11) + 20 ≤ R.locals) (hsize : ls.size = nL) (hW : (rest.map fun v => v.category).sum ≤ 8) (hdg : decode cc pc = .ok (.invokestatic 19, 3)) (hf : cells + 0 ≤ R.cells ∧ slots + 0 ≤ R.slots) (kk : W p l e R s m args below meth c H locs cells slots Q (F0 m (pc + 3) ls (.int (nI (wd_bg y)) :: rest))) : W p l e R s m args below meth c H locs cells slots Q (F0 m pc ls (.int (nI y) :: rest)) :=
  nv_callS (n := 1) S (c_M_before0 l y g0 g1) (goodS tm_122 tm_123 tm_2 tm_124) (by decide +kernel) rfl rfl ⟨hR1, hR2⟩ rfl hsize rfl hW hdg hf kk
set_option maxHeartbeats 4000000 in
set_option maxRecDepth 100000 in
/-- year(): the loop takes years off the day -/
theorem c_M_year (l : Launch) (dC : Nat → ClassId) (dI : Nat → Nat → Nat) (h0 D : Nat) (hD : D < 146097) : Met l y_M_year (Cond.code y_M_year b_M_year 3 (some .int) :: gT) ({ frames := 1, cells := 0, slots := 0, locals := 20 } : Room) (PcO dC dI 1 h0 D []) (QcRead (nI (wd_yr D))) 0 0 (fun _ => False) := by
  refine ob_met [] (by decide) (Nat.le_of_ble_eq_true rfl) ?_
  intro p e s m below meth c ls S hr hlocks hP hK hl
  have S : CallFix p m c b_M_year 3 s ([.ref h0] : List Value).toArray gT R_M := S
  obtain ⟨hx, hb, hml, hown, hts⟩ := id S
  have hl : lv_has ls 3 [(0, .ref h0)] := hl
  have loop : ∀ (n y d : Nat), 1 ≤ y → y ≤ 401 → 402 ≤ y + n → d + wd_bg y = D → ∀ (ls : Array Slot), lv_has ls 3 [(2, .int (nI d)), (1, .int (nI y)), (0, .ref h0)] → W p l e ({ frames := 1, cells := 0, slots := 0, locals := 20 } : Room) s m ([.ref h0] : List Value).toArray below meth c s.heap [] 0 0 (MQ below (QcRead (nI (wd_yr D))) ([.ref h0] : List Value).toArray s 0 0 (fun _ => False)) (F0 m 7 ls []) := by
    intro n
    induction n with
    | zero =>
      intro y d i1 i2 i3
      exact absurd i3 (by omega)
    | succ n ih =>
      intro y d i1 i2 i3 i4 ls hl
      have j1 := wd_lv_le y
      have j2 := wd_bg_s i1
      have j3 := wd_bg_in i1 i2 (by omega)
      refine lv_iload_n (pc := 7) hx hb d_M_year_7 rfl (lv_at hl 0 rfl) ?_
      refine lv_iload_n (pc := 8) hx hb d_M_year_8 rfl (lv_at hl 1 rfl) ?_
      refine q_M_leap (pc := 9) S y (by omega) (Nat.le_of_ble_eq_true rfl) (Nat.le_of_ble_eq_true rfl) hl.1 (Nat.le_of_ble_eq_true rfl) d_M_year_9 ⟨Nat.le_of_ble_eq_true rfl, Nat.le_of_ble_eq_true rfl⟩ ?_
      refine nv_sel (pc := 12) (A := 366) (B := 365) (t2 := 21) (tj := 24) hx hb d_M_year_12 (by decide) (by omega) d_M_year_15 (by decide) d_M_year_18 (by decide) d_M_year_21 (by decide) rfl (fun v h_v => ?_)
      refine nv_icmp_lt (pc := 24) (tgt := 53) hx hb d_M_year_24 (by decide) (by omega) (by omega) (fun hc => ?_) (fun hc => ?_)
      · refine lv_iload_n (pc := 53) hx hb d_M_year_53 rfl (lv_at hl 1 rfl) ?_
        exact nv_iret (pc := 54) hx hb hr hlocks (by rw [wd_yr_eq hD i1 (by omega) (by omega)]) d_M_year_54
      · refine lv_iload_n (pc := 27) hx hb d_M_year_27 rfl (lv_at hl 0 rfl) ?_
        refine lv_iload_n (pc := 28) hx hb d_M_year_28 rfl (lv_at hl 1 rfl) ?_
        refine q_M_leap (pc := 29) S y (by omega) (Nat.le_of_ble_eq_true rfl) (Nat.le_of_ble_eq_true rfl) hl.1 (Nat.le_of_ble_eq_true rfl) d_M_year_29 ⟨Nat.le_of_ble_eq_true rfl, Nat.le_of_ble_eq_true rfl⟩ ?_
        refine nv_sel (pc := 32) (A := 366) (B := 365) (t2 := 41) (tj := 44) hx hb d_M_year_32 (by decide) (by omega) d_M_year_35 (by decide) d_M_year_38 (by decide) d_M_year_41 (by decide) rfl (fun u h_u => ?_)
        refine nv_isub (pc := 44) hx hb d_M_year_44 (by omega) ?_
        refine lv_istore_n (pc := 45) (lv' := [(2, .int (nI (d - u))), (1, .int (nI y)), (0, .ref h0)]) hx hb d_M_year_45 rfl hl (by decide) rfl (fun ls hl => ?_)
        refine lv_iload_n (pc := 46) hx hb d_M_year_46 rfl (lv_at hl 1 rfl) ?_
        refine lv_iconst (pc := 47) (v := nI 1) hx hb d_M_year_47 (by decide) ?_
        refine nv_iadd (pc := 48) hx hb d_M_year_48 ?_
        refine lv_istore_n (pc := 49) (lv' := [(1, .int (nI (y + 1))), (2, .int (nI (d - u))), (0, .ref h0)]) hx hb d_M_year_49 rfl hl (by decide) rfl (fun ls hl => ?_)
        refine lv_goto (pc := 50) (tgt := 7) hx hb d_M_year_50 (by decide) ?_
        exact ih (y + 1) (d - u) (by omega) (by omega) (by omega) (by omega) ls (lv_sub hl [1, 0, 2] rfl)
  refine lv_iconst (pc := 0) (v := nI 1) hx hb d_M_year_0 (by decide) ?_
  refine lv_istore_n (pc := 1) (lv' := [(1, .int (nI 1)), (0, .ref h0)]) hx hb d_M_year_1 rfl hl (by decide) rfl (fun ls hl => ?_)
  refine lv_aload_n (pc := 2) hx hb d_M_year_2 rfl (lv_at hl 1 rfl) ?_
  refine q_M_get (pc := 3) S hK hP d_M_year_3 ?_
  refine lv_istore_n (pc := 6) (lv' := [(2, .int (nI D)), (1, .int (nI 1)), (0, .ref h0)]) hx hb d_M_year_6 rfl hl (by decide) rfl (fun ls hl => ?_)
  exact loop 401 1 D (Nat.le_refl 1) (by decide) (by decide) rfl ls (lv_sub hl [0, 1, 2] rfl)
theorem q_M_year {p : Program} {l : Launch} {e : Env} {R : Room} {s : State} {m : MethodId} {args : Array Value} {below : List Frame} {meth : Method} {c : Code} {H : Heap} {locs : List Loc} {cells slots : Nat} {Q : State → Prop} {cc : ByteArray} {pc nL : Nat} {ls : Array Slot} {rest : List Value} {dC : Nat → ClassId} {dI : Nat → Nat → Nat} {h0 D : Nat} {ws : va_W} (S : CallFix p m c cc nL s args gT R_M) (hK : va_K (dC, dI) classes [] s) (hP : va_P (dC, dI) classes ws H) (j : Nat) (he : ws[j]? = some (h0, .inr (1, [.int (nI D)]))) (hD : D < 146097) (hR1 : 1 + 1 ≤ R.frames) (hR2 : 8 + (3 + 11) + 20 ≤ R.locals) (hsize : ls.size = nL) (hW : (rest.map fun v => v.category).sum ≤ 8) (hdg : decode cc pc = .ok (.invokevirtual 23, 3)) (hf : cells + 0 ≤ R.cells ∧ slots + 0 ≤ R.slots) (kk : W p l e R s m args below meth c H locs cells slots Q (F0 m (pc + 3) ls (.int (nI (wd_yr D)) :: rest))) : W p l e R s m args below meth c H locs cells slots Q (F0 m pc ls (.ref h0 :: rest)) :=
  nv_callV (n := 0) S (c_M_year l dC dI h0 D hD) (pcO_pre [] hK hP j he rfl) (goodV tm_111 tm_113 tm_s0 tm_2 tm_114) (by decide +kernel) rfl rfl ⟨hR1, hR2⟩ rfl hsize rfl hW hdg hf kk
set_option maxHeartbeats 4000000 in
set_option maxRecDepth 100000 in
/-- monday(y): the loop looks for a Thursday -/
theorem c_M_monday (l : Launch) (dC : Nat → ClassId) (dI : Nat → Nat → Nat) (h0 D : Nat) (y : Nat) (g0 : 1 ≤ y) (g1 : y ≤ 401) : Met l y_M_monday (Cond.code y_M_monday b_M_monday 3 (some .int) :: gT) ({ frames := 2, cells := 0, slots := 0, locals := 42 } : Room) (PcO dC dI 1 h0 D [.int (nI y)]) (QcRead (nI (wd_mo y))) 0 0 (fun _ => False) := by
  refine ob_met [.int (nI y)] (by decide) (Nat.le_of_ble_eq_true rfl) ?_
  intro p e s m below meth c ls S hr hlocks hP hK hl
  have S : CallFix p m c b_M_monday 3 s ([.ref h0, .int (nI y)] : List Value).toArray gT R_M := S
  obtain ⟨hx, hb, hml, hown, hts⟩ := id S
  have hl : lv_has ls 3 [(0, .ref h0), (1, .int (nI y))] := hl
  have g2 := wd_bg_up g0 g1
  have g3 := wd_fs_all y
  have g4 := wd_mo_all y
  have loop : ∀ (n d : Nat), wd_bg y ≤ d → d ≤ wd_fs y → wd_fs y + 1 ≤ d + n → ∀ (ls : Array Slot), lv_has ls 3 [(2, .int (nI d)), (0, .ref h0), (1, .int (nI y))] → W p l e ({ frames := 2, cells := 0, slots := 0, locals := 42 } : Room) s m ([.ref h0, .int (nI y)] : List Value).toArray below meth c s.heap [] 0 0 (MQ below (QcRead (nI (wd_mo y))) ([.ref h0, .int (nI y)] : List Value).toArray s 0 0 (fun _ => False)) (F0 m 5 ls []) := by
    intro n
    induction n with
    | zero =>
      intro d i1 i2 i3
      exact absurd i3 (by omega)
    | succ n ih =>
      intro d i1 i2 i3 ls hl
      refine lv_iload_n (pc := 5) hx hb d_M_monday_5 rfl (lv_at hl 0 rfl) ?_
      refine lv_bipush (pc := 6) (v := nI 7) hx hb d_M_monday_6 (by decide) ?_
      refine nv_irem (pc := 8) hx hb d_M_monday_8 (by omega) (by omega) (by omega) ?_
      refine lv_iconst (pc := 9) (v := nI 3) hx hb d_M_monday_9 (by decide) ?_
      refine nv_icmp_eq (pc := 10) (tgt := 20) hx hb d_M_monday_10 (by decide) (by omega) (by omega) (fun hc => ?_) (fun hc => ?_)
      · refine lv_iload_n (pc := 20) hx hb d_M_monday_20 rfl (lv_at hl 0 rfl) ?_
        refine lv_iconst (pc := 21) (v := nI 3) hx hb d_M_monday_21 (by decide) ?_
        refine nv_isub (pc := 22) hx hb d_M_monday_22 (by omega) ?_
        exact nv_iret (pc := 23) hx hb hr hlocks (by rw [show d - 3 = wd_mo y by omega]) d_M_monday_23
      · refine lv_iload_n (pc := 13) hx hb d_M_monday_13 rfl (lv_at hl 0 rfl) ?_
        refine lv_iconst (pc := 14) (v := nI 1) hx hb d_M_monday_14 (by decide) ?_
        refine nv_iadd (pc := 15) hx hb d_M_monday_15 ?_
        refine lv_istore_n (pc := 16) (lv' := [(2, .int (nI (d + 1))), (0, .ref h0), (1, .int (nI y))]) hx hb d_M_monday_16 rfl hl (by decide) rfl (fun ls hl => ?_)
        refine lv_goto (pc := 17) (tgt := 5) hx hb d_M_monday_17 (by decide) ?_
        exact ih (d + 1) (by omega) (by omega) (by omega) ls (lv_sub hl [0, 1, 2] rfl)
  refine lv_iload_n (pc := 0) hx hb d_M_monday_0 rfl (lv_at hl 1 rfl) ?_
  refine q_M_before0 (pc := 1) S y g0 g1 (Nat.le_of_ble_eq_true rfl) (Nat.le_of_ble_eq_true rfl) hl.1 (Nat.le_of_ble_eq_true rfl) d_M_monday_1 ⟨Nat.le_of_ble_eq_true rfl, Nat.le_of_ble_eq_true rfl⟩ ?_
  refine lv_istore_n (pc := 4) (lv' := [(2, .int (nI (wd_bg y))), (0, .ref h0), (1, .int (nI y))]) hx hb d_M_monday_4 rfl hl (by decide) rfl (fun ls hl => ?_)
  exact loop 7 (wd_bg y) (Nat.le_refl _) (by omega) (by omega) ls (lv_sub hl [0, 1, 2] rfl)
theorem q_M_monday {p : Program} {l : Launch} {e : Env} {R : Room} {s : State} {m : MethodId} {args : Array Value} {below : List Frame} {meth : Method} {c : Code} {H : Heap} {locs : List Loc} {cells slots : Nat} {Q : State → Prop} {cc : ByteArray} {pc nL : Nat} {ls : Array Slot} {rest : List Value} {dC : Nat → ClassId} {dI : Nat → Nat → Nat} {h0 D : Nat} {ws : va_W} (S : CallFix p m c cc nL s args gT R_M) (hK : va_K (dC, dI) classes [] s) (hP : va_P (dC, dI) classes ws H) (j : Nat) (he : ws[j]? = some (h0, .inr (1, [.int (nI D)]))) (y : Nat) (g0 : 1 ≤ y) (g1 : y ≤ 401) (hR1 : 2 + 1 ≤ R.frames) (hR2 : 8 + (3 + 11) + 42 ≤ R.locals) (hsize : ls.size = nL) (hW : (rest.map fun v => v.category).sum ≤ 8) (hdg : decode cc pc = .ok (.invokevirtual 27, 3)) (hf : cells + 0 ≤ R.cells ∧ slots + 0 ≤ R.slots) (kk : W p l e R s m args below meth c H locs cells slots Q (F0 m (pc + 3) ls (.int (nI (wd_mo y)) :: rest))) : W p l e R s m args below meth c H locs cells slots Q (F0 m pc ls (.int (nI y) :: .ref h0 :: rest)) :=
  nv_callV (n := 1) S (c_M_monday l dC dI h0 D y g0 g1) (pcO_pre [.int (nI y)] hK hP j he rfl) (goodV tm_118 tm_120 tm_s1 tm_2 tm_121) (by decide +kernel) rfl rfl ⟨hR1, hR2⟩ rfl hsize rfl hW hdg hf kk
end
section
set_option maxHeartbeats 4000000 in
set_option maxRecDepth 100000 in
/-- weekday() -/
theorem c_M_weekday (l : Launch) (dC : Nat → ClassId) (dI : Nat → Nat → Nat) (h0 D : Nat) (hD : D < 146097) : Met l y_M_weekday (Cond.code y_M_weekday b_M_weekday 1 (some .int) :: gT) ({ frames := 0, cells := 0, slots := 0, locals := 0 } : Room) (PcO dC dI 1 h0 D []) (QcRead (nI (D % 7 + 1))) 0 0 (fun _ => False) := by
  refine ob_met [] (by decide) (Nat.le_of_ble_eq_true rfl) ?_
  intro p e s m below meth c ls S hr hlocks hP hK hl
  have S : CallFix p m c b_M_weekday 1 s ([.ref h0] : List Value).toArray gT R_M := S
  obtain ⟨hx, hb, hml, hown, hts⟩ := id S
  have hl : lv_has ls 1 [(0, .ref h0)] := hl
  refine lv_aload_n (pc := 0) hx hb d_M_weekday_0 rfl (lv_at hl 0 rfl) ?_
  refine q_M_get (pc := 1) S hK hP d_M_weekday_1 ?_
  refine lv_bipush (pc := 4) (v := nI 7) hx hb d_M_weekday_4 (by decide) ?_
  refine nv_irem (pc := 6) hx hb d_M_weekday_6 (by omega) (by omega) (by omega) ?_
  refine lv_iconst (pc := 7) (v := nI 1) hx hb d_M_weekday_7 (by decide) ?_
  refine nv_iadd (pc := 8) hx hb d_M_weekday_8 ?_
  exact nv_iret (pc := 9) hx hb hr hlocks rfl d_M_weekday_9
set_option maxHeartbeats 4000000 in
set_option maxRecDepth 100000 in
/-- weekYear() -/
theorem c_M_weekYear (l : Launch) (dC : Nat → ClassId) (dI : Nat → Nat → Nat) (h0 D : Nat) (hD : D < 146097) : Met l y_M_weekYear (Cond.code y_M_weekYear b_M_weekYear 2 (some .int) :: gT) ({ frames := 3, cells := 0, slots := 0, locals := 64 } : Room) (PcO dC dI 1 h0 D []) (QcRead (nI (wd_yr (wd_th D)))) 0 0 (fun _ => False) := by
  refine ob_met [] (by decide) (Nat.le_of_ble_eq_true rfl) ?_
  intro p e s m below meth c ls S hr hlocks hP hK hl
  have S : CallFix p m c b_M_weekYear 2 s ([.ref h0] : List Value).toArray gT R_M := S
  obtain ⟨hx, hb, hml, hown, hts⟩ := id S
  have hl : lv_has ls 2 [(0, .ref h0)] := hl
  have g4 := wd_yr_1 hD
  have g5 := wd_yr_400 hD
  have g6 := wd_mo_le (y := wd_yr D) (by omega) (by omega)
  have g7 := wd_mo_le (y := wd_yr D + 1) (by omega) (by omega)
  refine lv_aload_n (pc := 0) hx hb d_M_weekYear_0 rfl (lv_at hl 0 rfl) ?_
  refine q_M_year (pc := 1) S hK hP 0 rfl hD (Nat.le_of_ble_eq_true rfl) (Nat.le_of_ble_eq_true rfl) hl.1 (Nat.le_of_ble_eq_true rfl) d_M_weekYear_1 ⟨Nat.le_of_ble_eq_true rfl, Nat.le_of_ble_eq_true rfl⟩ ?_
  refine lv_istore_n (pc := 4) (lv' := [(1, .int (nI (wd_yr D))), (0, .ref h0)]) hx hb d_M_weekYear_4 rfl hl (by decide) rfl (fun ls hl => ?_)
  refine lv_aload_n (pc := 5) hx hb d_M_weekYear_5 rfl (lv_at hl 1 rfl) ?_
  refine q_M_get (pc := 6) S hK hP d_M_weekYear_6 ?_
  refine lv_aload_n (pc := 9) hx hb d_M_weekYear_9 rfl (lv_at hl 1 rfl) ?_
  refine lv_iload_n (pc := 10) hx hb d_M_weekYear_10 rfl (lv_at hl 0 rfl) ?_
  refine lv_iconst (pc := 11) (v := nI 1) hx hb d_M_weekYear_11 (by decide) ?_
  refine nv_iadd (pc := 12) hx hb d_M_weekYear_12 ?_
  refine q_M_monday (pc := 13) S hK hP 0 rfl (wd_yr D + 1) (by omega) (by omega) (Nat.le_of_ble_eq_true rfl) (Nat.le_of_ble_eq_true rfl) hl.1 (Nat.le_of_ble_eq_true rfl) d_M_weekYear_13 ⟨Nat.le_of_ble_eq_true rfl, Nat.le_of_ble_eq_true rfl⟩ ?_
  refine nv_icmp_lt (pc := 16) (tgt := 23) hx hb d_M_weekYear_16 (by decide) (by omega) (by omega) (fun hc => ?_) (fun hc => ?_)
  · refine lv_aload_n (pc := 23) hx hb d_M_weekYear_23 rfl (lv_at hl 1 rfl) ?_
    refine q_M_get (pc := 24) S hK hP d_M_weekYear_24 ?_
    refine lv_aload_n (pc := 27) hx hb d_M_weekYear_27 rfl (lv_at hl 1 rfl) ?_
    refine lv_iload_n (pc := 28) hx hb d_M_weekYear_28 rfl (lv_at hl 0 rfl) ?_
    refine q_M_monday (pc := 29) S hK hP 0 rfl (wd_yr D) (by omega) (by omega) (Nat.le_of_ble_eq_true rfl) (Nat.le_of_ble_eq_true rfl) hl.1 (Nat.le_of_ble_eq_true rfl) d_M_weekYear_29 ⟨Nat.le_of_ble_eq_true rfl, Nat.le_of_ble_eq_true rfl⟩ ?_
    refine nv_icmp_ge (pc := 32) (tgt := 41) hx hb d_M_weekYear_32 (by decide) (by omega) (by omega) (fun hq => ?_) (fun hq => ?_)
    · refine lv_iload_n (pc := 41) hx hb d_M_weekYear_41 rfl (lv_at hl 0 rfl) ?_
      exact nv_iret (pc := 42) hx hb hr hlocks (by rw [wd_wy_eq hD hc hq]) d_M_weekYear_42
    · refine lv_iload_n (pc := 35) hx hb d_M_weekYear_35 rfl (lv_at hl 0 rfl) ?_
      refine lv_iconst (pc := 36) (v := nI 1) hx hb d_M_weekYear_36 (by decide) ?_
      refine nv_isub (pc := 37) hx hb d_M_weekYear_37 (by omega) ?_
      refine lv_goto (pc := 38) (tgt := 42) hx hb d_M_weekYear_38 (by decide) ?_
      exact nv_iret (pc := 42) hx hb hr hlocks (by rw [wd_wy_dn hD (by omega)]) d_M_weekYear_42
  · refine lv_iload_n (pc := 19) hx hb d_M_weekYear_19 rfl (lv_at hl 0 rfl) ?_
    refine lv_iconst (pc := 20) (v := nI 1) hx hb d_M_weekYear_20 (by decide) ?_
    refine nv_iadd (pc := 21) hx hb d_M_weekYear_21 ?_
    exact nv_iret (pc := 22) hx hb hr hlocks (by rw [wd_wy_up hD (by omega)]) d_M_weekYear_22
theorem q_M_weekYear {p : Program} {l : Launch} {e : Env} {R : Room} {s : State} {m : MethodId} {args : Array Value} {below : List Frame} {meth : Method} {c : Code} {H : Heap} {locs : List Loc} {cells slots : Nat} {Q : State → Prop} {cc : ByteArray} {pc nL : Nat} {ls : Array Slot} {rest : List Value} {dC : Nat → ClassId} {dI : Nat → Nat → Nat} {h0 D : Nat} {ws : va_W} (S : CallFix p m c cc nL s args gT R_M) (hK : va_K (dC, dI) classes [] s) (hP : va_P (dC, dI) classes ws H) (j : Nat) (he : ws[j]? = some (h0, .inr (1, [.int (nI D)]))) (hD : D < 146097) (hR1 : 3 + 1 ≤ R.frames) (hR2 : 8 + (2 + 11) + 64 ≤ R.locals) (hsize : ls.size = nL) (hW : (rest.map fun v => v.category).sum ≤ 8) (hdg : decode cc pc = .ok (.invokevirtual 30, 3)) (hf : cells + 0 ≤ R.cells ∧ slots + 0 ≤ R.slots) (kk : W p l e R s m args below meth c H locs cells slots Q (F0 m (pc + 3) ls (.int (nI (wd_yr (wd_th D))) :: rest))) : W p l e R s m args below meth c H locs cells slots Q (F0 m pc ls (.ref h0 :: rest)) :=
  nv_callV (n := 0) S (c_M_weekYear l dC dI h0 D hD) (pcO_pre [] hK hP j he rfl) (goodV tm_129 tm_108 tm_109 tm_2 tm_110) (by decide +kernel) rfl rfl ⟨hR1, hR2⟩ rfl hsize rfl hW hdg hf kk
set_option maxHeartbeats 4000000 in
set_option maxRecDepth 100000 in
/-- week() -/
theorem c_M_week (l : Launch) (dC : Nat → ClassId) (dI : Nat → Nat → Nat) (h0 D : Nat) (hD : D < 146097) : Met l y_M_week (Cond.code y_M_week b_M_week 1 (some .int) :: gT) ({ frames := 4, cells := 0, slots := 0, locals := 85 } : Room) (PcO dC dI 1 h0 D []) (QcRead (nI ((wd_th D - wd_bg (wd_yr (wd_th D))) / 7 + 1))) 0 0 (fun _ => False) := by
  refine ob_met [] (by decide) (Nat.le_of_ble_eq_true rfl) ?_
  intro p e s m below meth c ls S hr hlocks hP hK hl
  have S : CallFix p m c b_M_week 1 s ([.ref h0] : List Value).toArray gT R_M := S
  obtain ⟨hx, hb, hml, hown, hts⟩ := id S
  have hl : lv_has ls 1 [(0, .ref h0)] := hl
  have g2 := wd_th_lt hD
  have g3 := wd_yr_lo g2
  have g4 := wd_yr_1 g2
  have g5 := wd_yr_400 g2
  have g6 := wd_wk g3
  refine lv_aload_n (pc := 0) hx hb d_M_week_0 rfl (lv_at hl 0 rfl) ?_
  refine q_M_get (pc := 1) S hK hP d_M_week_1 ?_
  refine lv_aload_n (pc := 4) hx hb d_M_week_4 rfl (lv_at hl 0 rfl) ?_
  refine lv_aload_n (pc := 5) hx hb d_M_week_5 rfl (lv_at hl 0 rfl) ?_
  refine q_M_weekYear (pc := 6) S hK hP 0 rfl hD (Nat.le_of_ble_eq_true rfl) (Nat.le_of_ble_eq_true rfl) hl.1 (Nat.le_of_ble_eq_true rfl) d_M_week_6 ⟨Nat.le_of_ble_eq_true rfl, Nat.le_of_ble_eq_true rfl⟩ ?_
  refine q_M_monday (pc := 9) S hK hP 0 rfl (wd_yr (wd_th D)) (by omega) (by omega) (Nat.le_of_ble_eq_true rfl) (Nat.le_of_ble_eq_true rfl) hl.1 (Nat.le_of_ble_eq_true rfl) d_M_week_9 ⟨Nat.le_of_ble_eq_true rfl, Nat.le_of_ble_eq_true rfl⟩ ?_
  refine nv_isub (pc := 12) hx hb d_M_week_12 (by omega) ?_
  refine lv_bipush (pc := 13) (v := nI 7) hx hb d_M_week_13 (by decide) ?_
  refine nv_idiv (pc := 15) hx hb d_M_week_15 (by omega) (by omega) (by omega) ?_
  refine lv_iconst (pc := 16) (v := nI 1) hx hb d_M_week_16 (by decide) ?_
  refine nv_iadd (pc := 17) hx hb d_M_week_17 ?_
  exact nv_iret (pc := 18) hx hb hr hlocks (by rw [g6.2]) d_M_week_18
set_option maxHeartbeats 4000000 in
set_option maxRecDepth 100000 in
/-- weeks(k) -/
theorem c_M_weeks (l : Launch) (dC : Nat → ClassId) (dI : Nat → Nat → Nat) (h0 D : Nat) (k : Int32) : Met l y_M_weeks (Cond.code y_M_weeks b_M_weeks 3 (some .int) :: gT) ({ frames := 3, cells := 0, slots := 0, locals := 64 } : Room) (PcO dC dI 1 h0 D [.int k]) (QcRead (nI (wd_mn (wd_yk k)))) 0 0 (fun _ => False) := by
  refine ob_met [.int k] (by decide) (Nat.le_of_ble_eq_true rfl) ?_
  intro p e s m below meth c ls S hr hlocks hP hK hl
  have S : CallFix p m c b_M_weeks 3 s ([.ref h0, .int k] : List Value).toArray gT R_M := S
  obtain ⟨hx, hb, hml, hown, hts⟩ := id S
  have hl : lv_has ls 3 [(0, .ref h0), (1, .int k)] := hl
  have g2 := wd_yk_all k
  have g3 := wd_mn_eq g2.1
  have g4 := wd_wn_lt k
  have g5 := wd_mo_le (y := wd_yk k + 1) (by omega) (by omega)
  refine lv_iconst (pc := 0) (v := nI 1) hx hb d_M_weeks_0 (by decide) ?_
  refine lv_iload_n (pc := 1) hx hb d_M_weeks_1 rfl (lv_at hl 1 rfl) ?_
  refine lv_ldc (pc := 2) (v := nI 2147483647) hx hb hown (hts _ tm_101) d_M_weeks_2 ?_
  refine nv_iandM (pc := 4) hx hb d_M_weeks_4 ?_
  refine lv_sipush (pc := 5) (v := nI 400) hx hb d_M_weeks_5 (by decide) ?_
  refine nv_irem (pc := 8) hx hb d_M_weeks_8 (by omega) (by omega) (by omega) ?_
  refine nv_iadd (pc := 9) hx hb d_M_weeks_9 ?_
  refine nv_to (wd_yk k) (by unfold wd_yk; omega) ?_
  refine lv_istore_n (pc := 10) (lv' := [(2, .int (nI (wd_yk k))), (0, .ref h0), (1, .int k)]) hx hb d_M_weeks_10 rfl hl (by decide) rfl (fun ls hl => ?_)
  refine lv_aload_n (pc := 11) hx hb d_M_weeks_11 rfl (lv_at hl 1 rfl) ?_
  refine lv_iload_n (pc := 12) hx hb d_M_weeks_12 rfl (lv_at hl 0 rfl) ?_
  refine lv_iconst (pc := 13) (v := nI 1) hx hb d_M_weeks_13 (by decide) ?_
  refine nv_iadd (pc := 14) hx hb d_M_weeks_14 ?_
  refine q_M_monday (pc := 15) S hK hP 0 rfl (wd_yk k + 1) (by omega) (by omega) (Nat.le_of_ble_eq_true rfl) (Nat.le_of_ble_eq_true rfl) hl.1 (Nat.le_of_ble_eq_true rfl) d_M_weeks_15 ⟨Nat.le_of_ble_eq_true rfl, Nat.le_of_ble_eq_true rfl⟩ ?_
  refine lv_aload_n (pc := 18) hx hb d_M_weeks_18 rfl (lv_at hl 1 rfl) ?_
  refine lv_iload_n (pc := 19) hx hb d_M_weeks_19 rfl (lv_at hl 0 rfl) ?_
  refine q_M_monday (pc := 20) S hK hP 0 rfl (wd_yk k) (by omega) (by omega) (Nat.le_of_ble_eq_true rfl) (Nat.le_of_ble_eq_true rfl) hl.1 (Nat.le_of_ble_eq_true rfl) d_M_weeks_20 ⟨Nat.le_of_ble_eq_true rfl, Nat.le_of_ble_eq_true rfl⟩ ?_
  refine nv_isub (pc := 23) hx hb d_M_weeks_23 (by omega) ?_
  refine lv_bipush (pc := 24) (v := nI 7) hx hb d_M_weeks_24 (by decide) ?_
  refine nv_idiv (pc := 26) hx hb d_M_weeks_26 (by omega) (by omega) (by omega) ?_
  exact nv_iret (pc := 27) hx hb hr hlocks (by rw [g3.2]) d_M_weeks_27
theorem q_M_weeks {p : Program} {l : Launch} {e : Env} {R : Room} {s : State} {m : MethodId} {args : Array Value} {below : List Frame} {meth : Method} {c : Code} {H : Heap} {locs : List Loc} {cells slots : Nat} {Q : State → Prop} {cc : ByteArray} {pc nL : Nat} {ls : Array Slot} {rest : List Value} {dC : Nat → ClassId} {dI : Nat → Nat → Nat} {h0 D : Nat} {ws : va_W} (S : CallFix p m c cc nL s args gT R_M) (hK : va_K (dC, dI) classes [] s) (hP : va_P (dC, dI) classes ws H) (j : Nat) (he : ws[j]? = some (h0, .inr (1, [.int (nI D)]))) (k : Int32) (hR1 : 3 + 1 ≤ R.frames) (hR2 : 8 + (3 + 11) + 64 ≤ R.locals) (hsize : ls.size = nL) (hW : (rest.map fun v => v.category).sum ≤ 8) (hdg : decode cc pc = .ok (.invokevirtual 33, 3)) (hf : cells + 0 ≤ R.cells ∧ slots + 0 ≤ R.slots) (kk : W p l e R s m args below meth c H locs cells slots Q (F0 m (pc + 3) ls (.int (nI (wd_mn (wd_yk k))) :: rest))) : W p l e R s m args below meth c H locs cells slots Q (F0 m pc ls (.int k :: .ref h0 :: rest)) :=
  nv_callV (n := 1) S (c_M_weeks l dC dI h0 D k) (pcO_pre [.int k] hK hP j he rfl) (goodV tm_138 tm_131 tm_132 tm_2 tm_133) (by decide +kernel) rfl rfl ⟨hR1, hR2⟩ rfl hsize rfl hW hdg hf kk
set_option maxHeartbeats 4000000 in
set_option maxRecDepth 100000 in
/-- dayOfYear() -/
theorem c_M_dayOfYear (l : Launch) (dC : Nat → ClassId) (dI : Nat → Nat → Nat) (h0 D : Nat) (hD : D < 146097) : Met l y_M_dayOfYear (Cond.code y_M_dayOfYear b_M_dayOfYear 1 (some .int) :: gT) ({ frames := 2, cells := 0, slots := 0, locals := 42 } : Room) (PcO dC dI 1 h0 D []) (QcRead (nI (D - wd_bg (wd_yr D) + 1))) 0 0 (fun _ => False) := by
  refine ob_met [] (by decide) (Nat.le_of_ble_eq_true rfl) ?_
  intro p e s m below meth c ls S hr hlocks hP hK hl
  have S : CallFix p m c b_M_dayOfYear 1 s ([.ref h0] : List Value).toArray gT R_M := S
  obtain ⟨hx, hb, hml, hown, hts⟩ := id S
  have hl : lv_has ls 1 [(0, .ref h0)] := hl
  have g3 := wd_yr_lo hD
  have g4 := wd_yr_1 hD
  have g5 := wd_yr_400 hD
  refine lv_aload_n (pc := 0) hx hb d_M_dayOfYear_0 rfl (lv_at hl 0 rfl) ?_
  refine q_M_get (pc := 1) S hK hP d_M_dayOfYear_1 ?_
  refine lv_aload_n (pc := 4) hx hb d_M_dayOfYear_4 rfl (lv_at hl 0 rfl) ?_
  refine q_M_year (pc := 5) S hK hP 0 rfl hD (Nat.le_of_ble_eq_true rfl) (Nat.le_of_ble_eq_true rfl) hl.1 (Nat.le_of_ble_eq_true rfl) d_M_dayOfYear_5 ⟨Nat.le_of_ble_eq_true rfl, Nat.le_of_ble_eq_true rfl⟩ ?_
  refine q_M_before0 (pc := 8) S (wd_yr D) g4 (by omega) (Nat.le_of_ble_eq_true rfl) (Nat.le_of_ble_eq_true rfl) hl.1 (Nat.le_of_ble_eq_true rfl) d_M_dayOfYear_8 ⟨Nat.le_of_ble_eq_true rfl, Nat.le_of_ble_eq_true rfl⟩ ?_
  refine nv_isub (pc := 11) hx hb d_M_dayOfYear_11 (by omega) ?_
  refine lv_iconst (pc := 12) (v := nI 1) hx hb d_M_dayOfYear_12 (by decide) ?_
  refine nv_iadd (pc := 13) hx hb d_M_dayOfYear_13 ?_
  exact nv_iret (pc := 14) hx hb hr hlocks rfl d_M_dayOfYear_14
set_option maxHeartbeats 4000000 in
set_option maxRecDepth 100000 in
/-- yearOf() -/
theorem c_M_yearOf (l : Launch) (dC : Nat → ClassId) (dI : Nat → Nat → Nat) (h0 D : Nat) (hD : D < 146097) : Met l y_M_yearOf (Cond.code y_M_yearOf b_M_yearOf 1 (some .int) :: gT) ({ frames := 2, cells := 0, slots := 0, locals := 42 } : Room) (PcO dC dI 1 h0 D []) (QcRead (nI (wd_yr D))) 0 0 (fun _ => False) := by
  refine ob_met [] (by decide) (Nat.le_of_ble_eq_true rfl) ?_
  intro p e s m below meth c ls S hr hlocks hP hK hl
  have S : CallFix p m c b_M_yearOf 1 s ([.ref h0] : List Value).toArray gT R_M := S
  obtain ⟨hx, hb, hml, hown, hts⟩ := id S
  have hl : lv_has ls 1 [(0, .ref h0)] := hl
  refine lv_aload_n (pc := 0) hx hb d_M_yearOf_0 rfl (lv_at hl 0 rfl) ?_
  refine q_M_year (pc := 1) S hK hP 0 rfl hD (Nat.le_of_ble_eq_true rfl) (Nat.le_of_ble_eq_true rfl) hl.1 (Nat.le_of_ble_eq_true rfl) d_M_yearOf_1 ⟨Nat.le_of_ble_eq_true rfl, Nat.le_of_ble_eq_true rfl⟩ ?_
  exact nv_iret (pc := 4) hx hb hr hlocks rfl d_M_yearOf_4
end
section
set_option maxHeartbeats 4000000 in
set_option maxRecDepth 100000 in
/-- fridays(k): the loop over the months -/
theorem c_M_fridays (l : Launch) (dC : Nat → ClassId) (dI : Nat → Nat → Nat) (h0 D : Nat) (k : Int32) : Met l y_M_fridays (Cond.code y_M_fridays b_M_fridays 6 (some .int) :: gT) ({ frames := 2, cells := 0, slots := 0, locals := 42 } : Room) (PcO dC dI 1 h0 D [.int k]) (QcRead (nI (wd_fr (wd_yk k)))) 0 0 (fun _ => False) := by
  refine ob_met [.int k] (by decide) (Nat.le_of_ble_eq_true rfl) ?_
  intro p e s m below meth c ls S hr hlocks hP hK hl
  have S : CallFix p m c b_M_fridays 6 s ([.ref h0, .int k] : List Value).toArray gT R_M := S
  obtain ⟨hx, hb, hml, hown, hts⟩ := id S
  have hl : lv_has ls 6 [(0, .ref h0), (1, .int k)] := hl
  have g2 := wd_yk_all k
  have g4 := wd_wn_lt k
  have g3 := wd_bg_up (y := wd_yk k) g2.1 (by omega)
  have g5 := wd_fg_eq g2.1 g2.2
  have g6 := wd_lv_le (wd_yk k)
  have loop : ∀ (n mo d cn : Nat), mo + n = 13 → d + 31 * n ≤ 200000 → cn + n ≤ 100 → wd_fg (wd_yk k) n mo d cn = wd_fr (wd_yk k) → ∀ (ls : Array Slot), lv_has ls 6 [(5, .int (nI mo)), (4, .int (nI d)), (3, .int (nI cn)), (2, .int (nI (wd_yk k))), (0, .ref h0), (1, .int k)] → W p l e ({ frames := 2, cells := 0, slots := 0, locals := 42 } : Room) s m ([.ref h0, .int k] : List Value).toArray below meth c s.heap [] 0 0 (MQ below (QcRead (nI (wd_fr (wd_yk k)))) ([.ref h0, .int k] : List Value).toArray s 0 0 (fun _ => False)) (F0 m 22 ls []) := by
    intro n
    induction n with
    | zero =>
      intro mo d cn i1 i2 i3 i4 ls hl
      refine lv_iload (pc := 22) hx hb d_M_fridays_22 (lv_at hl 0 rfl) ?_
      refine lv_bipush (pc := 24) (v := nI 12) hx hb d_M_fridays_24 (by decide) ?_
      refine nv_icmp_gt (pc := 26) (tgt := 113) hx hb d_M_fridays_26 (by decide) (by omega) (by omega) (fun hc => ?_) (fun hc => ?_)
      · refine lv_iload_n (pc := 113) hx hb d_M_fridays_113 rfl (lv_at hl 2 rfl) ?_
        exact nv_iret (pc := 114) hx hb hr hlocks (by rw [← i4]; rfl) d_M_fridays_114
      · exact absurd hc (by omega)
    | succ n ih =>
      intro mo d cn i1 i2 i3 i4 ls hl
      have j1 := wd_ml_le (wd_yk k) mo
      refine lv_iload (pc := 22) hx hb d_M_fridays_22 (lv_at hl 0 rfl) ?_
      refine lv_bipush (pc := 24) (v := nI 12) hx hb d_M_fridays_24 (by decide) ?_
      refine nv_icmp_gt (pc := 26) (tgt := 113) hx hb d_M_fridays_26 (by decide) (by omega) (by omega) (fun hc => ?_) (fun hc => ?_)
      · exact absurd hc (by omega)
      · refine lv_iload (pc := 29) hx hb d_M_fridays_29 (lv_at hl 1 rfl) ?_
        refine lv_bipush (pc := 31) (v := nI 12) hx hb d_M_fridays_31 (by decide) ?_
        refine nv_iadd (pc := 33) hx hb d_M_fridays_33 ?_
        refine lv_bipush (pc := 34) (v := nI 7) hx hb d_M_fridays_34 (by decide) ?_
        refine nv_irem (pc := 36) hx hb d_M_fridays_36 (by omega) (by omega) (by omega) ?_
        refine lv_iconst (pc := 37) (v := nI 4) hx hb d_M_fridays_37 (by decide) ?_
        refine nv_icmp_ne (pc := 38) (tgt := 45) hx hb d_M_fridays_38 (by decide) (by omega) (by omega) (fun hf => ?_) (fun hf => ?_)
        · refine lv_iload (pc := 45) hx hb d_M_fridays_45 (lv_at hl 1 rfl) ?_
          refine lv_iload (pc := 47) hx hb d_M_fridays_47 (lv_at hl 0 rfl) ?_
          refine lv_iconst (pc := 49) (v := nI 2) hx hb d_M_fridays_49 (by decide) ?_
          refine nv_icmp_ne (pc := 50) (tgt := 70) hx hb d_M_fridays_50 (by decide) (by omega) (by omega) (fun h2 => ?_) (fun h2 => ?_)
          · refine lv_iload (pc := 70) hx hb d_M_fridays_70 (lv_at hl 0 rfl) ?_
            refine lv_iconst (pc := 72) (v := nI 4) hx hb d_M_fridays_72 (by decide) ?_
            refine nv_icmp_eq (pc := 73) (tgt := 97) hx hb d_M_fridays_73 (by decide) (by omega) (by omega) (fun h4 => ?_) (fun h4 => ?_)
            · refine lv_bipush (pc := 97) (v := nI 30) hx hb d_M_fridays_97 (by decide) ?_
              refine lv_goto (pc := 99) (tgt := 104) hx hb d_M_fridays_99 (by decide) ?_
              refine nv_iadd (pc := 104) hx hb d_M_fridays_104 ?_
              refine lv_istore (pc := 105) (lv' := [(4, .int (nI (d + 30))), (5, .int (nI mo)), (3, .int (nI cn)), (2, .int (nI (wd_yk k))), (0, .ref h0), (1, .int k)]) hx hb d_M_fridays_105 hl (by decide) rfl (fun ls hl => ?_)
              refine lv_iinc (pc := 107) (v := nI (mo + 1)) (lv' := [(5, .int (nI (mo + 1))), (4, .int (nI (d + 30))), (3, .int (nI cn)), (2, .int (nI (wd_yk k))), (0, .ref h0), (1, .int k)]) hx hb d_M_fridays_107 hl (k := 1) rfl (by rw [← nI_add]; rfl) (by decide) rfl (fun ls hl => ?_)
              refine lv_goto (pc := 110) (tgt := 22) hx hb d_M_fridays_110 (by decide) ?_
              have e1 : wd_ml (wd_yk k) mo = 30 := by unfold wd_ml; rw [if_neg h2, if_pos (by omega)]
              have e2 : wd_fg (wd_yk k) (n + 1) mo d cn = wd_fg (wd_yk k) n (mo + 1) (d + wd_ml (wd_yk k) mo) (if (d + 12) % 7 = 4 then cn + 1 else cn) := rfl
              rw [e1, if_neg hf] at e2
              exact ih (mo + 1) (d + 30) cn (by omega) (by omega) (by omega) (e2.symm.trans i4) ls (lv_sub hl [0, 1, 2, 3, 4, 5] rfl)
            · refine lv_iload (pc := 76) hx hb d_M_fridays_76 (lv_at hl 0 rfl) ?_
              refine lv_bipush (pc := 78) (v := nI 6) hx hb d_M_fridays_78 (by decide) ?_
              refine nv_icmp_eq (pc := 80) (tgt := 97) hx hb d_M_fridays_80 (by decide) (by omega) (by omega) (fun h5 => ?_) (fun h5 => ?_)
              · refine lv_bipush (pc := 97) (v := nI 30) hx hb d_M_fridays_97 (by decide) ?_
                refine lv_goto (pc := 99) (tgt := 104) hx hb d_M_fridays_99 (by decide) ?_
                refine nv_iadd (pc := 104) hx hb d_M_fridays_104 ?_
                refine lv_istore (pc := 105) (lv' := [(4, .int (nI (d + 30))), (5, .int (nI mo)), (3, .int (nI cn)), (2, .int (nI (wd_yk k))), (0, .ref h0), (1, .int k)]) hx hb d_M_fridays_105 hl (by decide) rfl (fun ls hl => ?_)
                refine lv_iinc (pc := 107) (v := nI (mo + 1)) (lv' := [(5, .int (nI (mo + 1))), (4, .int (nI (d + 30))), (3, .int (nI cn)), (2, .int (nI (wd_yk k))), (0, .ref h0), (1, .int k)]) hx hb d_M_fridays_107 hl (k := 1) rfl (by rw [← nI_add]; rfl) (by decide) rfl (fun ls hl => ?_)
                refine lv_goto (pc := 110) (tgt := 22) hx hb d_M_fridays_110 (by decide) ?_
                have e1 : wd_ml (wd_yk k) mo = 30 := by unfold wd_ml; rw [if_neg h2, if_pos (by omega)]
                have e2 : wd_fg (wd_yk k) (n + 1) mo d cn = wd_fg (wd_yk k) n (mo + 1) (d + wd_ml (wd_yk k) mo) (if (d + 12) % 7 = 4 then cn + 1 else cn) := rfl
                rw [e1, if_neg hf] at e2
                exact ih (mo + 1) (d + 30) cn (by omega) (by omega) (by omega) (e2.symm.trans i4) ls (lv_sub hl [0, 1, 2, 3, 4, 5] rfl)
              · refine lv_iload (pc := 83) hx hb d_M_fridays_83 (lv_at hl 0 rfl) ?_
                refine lv_bipush (pc := 85) (v := nI 9) hx hb d_M_fridays_85 (by decide) ?_
                refine nv_icmp_eq (pc := 87) (tgt := 97) hx hb d_M_fridays_87 (by decide) (by omega) (by omega) (fun h6 => ?_) (fun h6 => ?_)
                · refine lv_bipush (pc := 97) (v := nI 30) hx hb d_M_fridays_97 (by decide) ?_
                  refine lv_goto (pc := 99) (tgt := 104) hx hb d_M_fridays_99 (by decide) ?_
                  refine nv_iadd (pc := 104) hx hb d_M_fridays_104 ?_
                  refine lv_istore (pc := 105) (lv' := [(4, .int (nI (d + 30))), (5, .int (nI mo)), (3, .int (nI cn)), (2, .int (nI (wd_yk k))), (0, .ref h0), (1, .int k)]) hx hb d_M_fridays_105 hl (by decide) rfl (fun ls hl => ?_)
                  refine lv_iinc (pc := 107) (v := nI (mo + 1)) (lv' := [(5, .int (nI (mo + 1))), (4, .int (nI (d + 30))), (3, .int (nI cn)), (2, .int (nI (wd_yk k))), (0, .ref h0), (1, .int k)]) hx hb d_M_fridays_107 hl (k := 1) rfl (by rw [← nI_add]; rfl) (by decide) rfl (fun ls hl => ?_)
                  refine lv_goto (pc := 110) (tgt := 22) hx hb d_M_fridays_110 (by decide) ?_
                  have e1 : wd_ml (wd_yk k) mo = 30 := by unfold wd_ml; rw [if_neg h2, if_pos (by omega)]
                  have e2 : wd_fg (wd_yk k) (n + 1) mo d cn = wd_fg (wd_yk k) n (mo + 1) (d + wd_ml (wd_yk k) mo) (if (d + 12) % 7 = 4 then cn + 1 else cn) := rfl
                  rw [e1, if_neg hf] at e2
                  exact ih (mo + 1) (d + 30) cn (by omega) (by omega) (by omega) (e2.symm.trans i4) ls (lv_sub hl [0, 1, 2, 3, 4, 5] rfl)
                · refine lv_iload (pc := 90) hx hb d_M_fridays_90 (lv_at hl 0 rfl) ?_
                  refine lv_bipush (pc := 92) (v := nI 11) hx hb d_M_fridays_92 (by decide) ?_
                  refine nv_icmp_ne (pc := 94) (tgt := 102) hx hb d_M_fridays_94 (by decide) (by omega) (by omega) (fun h7 => ?_) (fun h7 => ?_)
                  · refine lv_bipush (pc := 102) (v := nI 31) hx hb d_M_fridays_102 (by decide) ?_
                    refine nv_iadd (pc := 104) hx hb d_M_fridays_104 ?_
                    refine lv_istore (pc := 105) (lv' := [(4, .int (nI (d + 31))), (5, .int (nI mo)), (3, .int (nI cn)), (2, .int (nI (wd_yk k))), (0, .ref h0), (1, .int k)]) hx hb d_M_fridays_105 hl (by decide) rfl (fun ls hl => ?_)
                    refine lv_iinc (pc := 107) (v := nI (mo + 1)) (lv' := [(5, .int (nI (mo + 1))), (4, .int (nI (d + 31))), (3, .int (nI cn)), (2, .int (nI (wd_yk k))), (0, .ref h0), (1, .int k)]) hx hb d_M_fridays_107 hl (k := 1) rfl (by rw [← nI_add]; rfl) (by decide) rfl (fun ls hl => ?_)
                    refine lv_goto (pc := 110) (tgt := 22) hx hb d_M_fridays_110 (by decide) ?_
                    have e1 : wd_ml (wd_yk k) mo = 31 := by unfold wd_ml; rw [if_neg h2, if_neg (by omega)]
                    have e2 : wd_fg (wd_yk k) (n + 1) mo d cn = wd_fg (wd_yk k) n (mo + 1) (d + wd_ml (wd_yk k) mo) (if (d + 12) % 7 = 4 then cn + 1 else cn) := rfl
                    rw [e1, if_neg hf] at e2
                    exact ih (mo + 1) (d + 31) cn (by omega) (by omega) (by omega) (e2.symm.trans i4) ls (lv_sub hl [0, 1, 2, 3, 4, 5] rfl)
                  · refine lv_bipush (pc := 97) (v := nI 30) hx hb d_M_fridays_97 (by decide) ?_
                    refine lv_goto (pc := 99) (tgt := 104) hx hb d_M_fridays_99 (by decide) ?_
                    refine nv_iadd (pc := 104) hx hb d_M_fridays_104 ?_
                    refine lv_istore (pc := 105) (lv' := [(4, .int (nI (d + 30))), (5, .int (nI mo)), (3, .int (nI cn)), (2, .int (nI (wd_yk k))), (0, .ref h0), (1, .int k)]) hx hb d_M_fridays_105 hl (by decide) rfl (fun ls hl => ?_)
                    refine lv_iinc (pc := 107) (v := nI (mo + 1)) (lv' := [(5, .int (nI (mo + 1))), (4, .int (nI (d + 30))), (3, .int (nI cn)), (2, .int (nI (wd_yk k))), (0, .ref h0), (1, .int k)]) hx hb d_M_fridays_107 hl (k := 1) rfl (by rw [← nI_add]; rfl) (by decide) rfl (fun ls hl => ?_)
                    refine lv_goto (pc := 110) (tgt := 22) hx hb d_M_fridays_110 (by decide) ?_
                    have e1 : wd_ml (wd_yk k) mo = 30 := by unfold wd_ml; rw [if_neg h2, if_pos (by omega)]
                    have e2 : wd_fg (wd_yk k) (n + 1) mo d cn = wd_fg (wd_yk k) n (mo + 1) (d + wd_ml (wd_yk k) mo) (if (d + 12) % 7 = 4 then cn + 1 else cn) := rfl
                    rw [e1, if_neg hf] at e2
                    exact ih (mo + 1) (d + 30) cn (by omega) (by omega) (by omega) (e2.symm.trans i4) ls (lv_sub hl [0, 1, 2, 3, 4, 5] rfl)
          · refine lv_iload_n (pc := 53) hx hb d_M_fridays_53 rfl (lv_at hl 3 rfl) ?_
            refine q_M_leap (pc := 54) S (wd_yk k) (by omega) (Nat.le_of_ble_eq_true rfl) (Nat.le_of_ble_eq_true rfl) hl.1 (Nat.le_of_ble_eq_true rfl) d_M_fridays_54 ⟨Nat.le_of_ble_eq_true rfl, Nat.le_of_ble_eq_true rfl⟩ ?_
            refine nv_if_eq (pc := 57) (tgt := 65) hx hb d_M_fridays_57 (by decide) (by omega) (fun h3 => ?_) (fun h3 => ?_)
            · refine lv_bipush (pc := 65) (v := nI 28) hx hb d_M_fridays_65 (by decide) ?_
              refine lv_goto (pc := 67) (tgt := 104) hx hb d_M_fridays_67 (by decide) ?_
              refine nv_iadd (pc := 104) hx hb d_M_fridays_104 ?_
              refine lv_istore (pc := 105) (lv' := [(4, .int (nI (d + 28))), (5, .int (nI mo)), (3, .int (nI cn)), (2, .int (nI (wd_yk k))), (0, .ref h0), (1, .int k)]) hx hb d_M_fridays_105 hl (by decide) rfl (fun ls hl => ?_)
              refine lv_iinc (pc := 107) (v := nI (mo + 1)) (lv' := [(5, .int (nI (mo + 1))), (4, .int (nI (d + 28))), (3, .int (nI cn)), (2, .int (nI (wd_yk k))), (0, .ref h0), (1, .int k)]) hx hb d_M_fridays_107 hl (k := 1) rfl (by rw [← nI_add]; rfl) (by decide) rfl (fun ls hl => ?_)
              refine lv_goto (pc := 110) (tgt := 22) hx hb d_M_fridays_110 (by decide) ?_
              have e1 : wd_ml (wd_yk k) mo = 28 := by unfold wd_ml; rw [if_pos (by omega), if_pos h3]
              have e2 : wd_fg (wd_yk k) (n + 1) mo d cn = wd_fg (wd_yk k) n (mo + 1) (d + wd_ml (wd_yk k) mo) (if (d + 12) % 7 = 4 then cn + 1 else cn) := rfl
              rw [e1, if_neg hf] at e2
              exact ih (mo + 1) (d + 28) cn (by omega) (by omega) (by omega) (e2.symm.trans i4) ls (lv_sub hl [0, 1, 2, 3, 4, 5] rfl)
            · refine lv_bipush (pc := 60) (v := nI 29) hx hb d_M_fridays_60 (by decide) ?_
              refine lv_goto (pc := 62) (tgt := 104) hx hb d_M_fridays_62 (by decide) ?_
              refine nv_iadd (pc := 104) hx hb d_M_fridays_104 ?_
              refine lv_istore (pc := 105) (lv' := [(4, .int (nI (d + 29))), (5, .int (nI mo)), (3, .int (nI cn)), (2, .int (nI (wd_yk k))), (0, .ref h0), (1, .int k)]) hx hb d_M_fridays_105 hl (by decide) rfl (fun ls hl => ?_)
              refine lv_iinc (pc := 107) (v := nI (mo + 1)) (lv' := [(5, .int (nI (mo + 1))), (4, .int (nI (d + 29))), (3, .int (nI cn)), (2, .int (nI (wd_yk k))), (0, .ref h0), (1, .int k)]) hx hb d_M_fridays_107 hl (k := 1) rfl (by rw [← nI_add]; rfl) (by decide) rfl (fun ls hl => ?_)
              refine lv_goto (pc := 110) (tgt := 22) hx hb d_M_fridays_110 (by decide) ?_
              have e1 : wd_ml (wd_yk k) mo = 29 := by unfold wd_ml; rw [if_pos (by omega), if_neg h3]
              have e2 : wd_fg (wd_yk k) (n + 1) mo d cn = wd_fg (wd_yk k) n (mo + 1) (d + wd_ml (wd_yk k) mo) (if (d + 12) % 7 = 4 then cn + 1 else cn) := rfl
              rw [e1, if_neg hf] at e2
              exact ih (mo + 1) (d + 29) cn (by omega) (by omega) (by omega) (e2.symm.trans i4) ls (lv_sub hl [0, 1, 2, 3, 4, 5] rfl)
        · refine lv_iload_n (pc := 41) hx hb d_M_fridays_41 rfl (lv_at hl 2 rfl) ?_
          refine lv_iconst (pc := 42) (v := nI 1) hx hb d_M_fridays_42 (by decide) ?_
          refine nv_iadd (pc := 43) hx hb d_M_fridays_43 ?_
          refine lv_istore_n (pc := 44) (lv' := [(3, .int (nI (cn + 1))), (5, .int (nI mo)), (4, .int (nI d)), (2, .int (nI (wd_yk k))), (0, .ref h0), (1, .int k)]) hx hb d_M_fridays_44 rfl hl (by decide) rfl (fun ls hl => ?_)
          refine lv_iload (pc := 45) hx hb d_M_fridays_45 (lv_at hl 2 rfl) ?_
          refine lv_iload (pc := 47) hx hb d_M_fridays_47 (lv_at hl 1 rfl) ?_
          refine lv_iconst (pc := 49) (v := nI 2) hx hb d_M_fridays_49 (by decide) ?_
          refine nv_icmp_ne (pc := 50) (tgt := 70) hx hb d_M_fridays_50 (by decide) (by omega) (by omega) (fun h2 => ?_) (fun h2 => ?_)
          · refine lv_iload (pc := 70) hx hb d_M_fridays_70 (lv_at hl 1 rfl) ?_
            refine lv_iconst (pc := 72) (v := nI 4) hx hb d_M_fridays_72 (by decide) ?_
            refine nv_icmp_eq (pc := 73) (tgt := 97) hx hb d_M_fridays_73 (by decide) (by omega) (by omega) (fun h4 => ?_) (fun h4 => ?_)
            · refine lv_bipush (pc := 97) (v := nI 30) hx hb d_M_fridays_97 (by decide) ?_
              refine lv_goto (pc := 99) (tgt := 104) hx hb d_M_fridays_99 (by decide) ?_
              refine nv_iadd (pc := 104) hx hb d_M_fridays_104 ?_
              refine lv_istore (pc := 105) (lv' := [(4, .int (nI (d + 30))), (3, .int (nI (cn + 1))), (5, .int (nI mo)), (2, .int (nI (wd_yk k))), (0, .ref h0), (1, .int k)]) hx hb d_M_fridays_105 hl (by decide) rfl (fun ls hl => ?_)
              refine lv_iinc (pc := 107) (v := nI (mo + 1)) (lv' := [(5, .int (nI (mo + 1))), (4, .int (nI (d + 30))), (3, .int (nI (cn + 1))), (2, .int (nI (wd_yk k))), (0, .ref h0), (1, .int k)]) hx hb d_M_fridays_107 hl (k := 2) rfl (by rw [← nI_add]; rfl) (by decide) rfl (fun ls hl => ?_)
              refine lv_goto (pc := 110) (tgt := 22) hx hb d_M_fridays_110 (by decide) ?_
              have e1 : wd_ml (wd_yk k) mo = 30 := by unfold wd_ml; rw [if_neg h2, if_pos (by omega)]
              have e2 : wd_fg (wd_yk k) (n + 1) mo d cn = wd_fg (wd_yk k) n (mo + 1) (d + wd_ml (wd_yk k) mo) (if (d + 12) % 7 = 4 then cn + 1 else cn) := rfl
              rw [e1, if_pos (by omega : (d + 12) % 7 = 4)] at e2
              exact ih (mo + 1) (d + 30) (cn + 1) (by omega) (by omega) (by omega) (e2.symm.trans i4) ls (lv_sub hl [0, 1, 2, 3, 4, 5] rfl)
            · refine lv_iload (pc := 76) hx hb d_M_fridays_76 (lv_at hl 1 rfl) ?_
              refine lv_bipush (pc := 78) (v := nI 6) hx hb d_M_fridays_78 (by decide) ?_
              refine nv_icmp_eq (pc := 80) (tgt := 97) hx hb d_M_fridays_80 (by decide) (by omega) (by omega) (fun h5 => ?_) (fun h5 => ?_)
              · refine lv_bipush (pc := 97) (v := nI 30) hx hb d_M_fridays_97 (by decide) ?_
                refine lv_goto (pc := 99) (tgt := 104) hx hb d_M_fridays_99 (by decide) ?_
                refine nv_iadd (pc := 104) hx hb d_M_fridays_104 ?_
                refine lv_istore (pc := 105) (lv' := [(4, .int (nI (d + 30))), (3, .int (nI (cn + 1))), (5, .int (nI mo)), (2, .int (nI (wd_yk k))), (0, .ref h0), (1, .int k)]) hx hb d_M_fridays_105 hl (by decide) rfl (fun ls hl => ?_)
                refine lv_iinc (pc := 107) (v := nI (mo + 1)) (lv' := [(5, .int (nI (mo + 1))), (4, .int (nI (d + 30))), (3, .int (nI (cn + 1))), (2, .int (nI (wd_yk k))), (0, .ref h0), (1, .int k)]) hx hb d_M_fridays_107 hl (k := 2) rfl (by rw [← nI_add]; rfl) (by decide) rfl (fun ls hl => ?_)
                refine lv_goto (pc := 110) (tgt := 22) hx hb d_M_fridays_110 (by decide) ?_
                have e1 : wd_ml (wd_yk k) mo = 30 := by unfold wd_ml; rw [if_neg h2, if_pos (by omega)]
                have e2 : wd_fg (wd_yk k) (n + 1) mo d cn = wd_fg (wd_yk k) n (mo + 1) (d + wd_ml (wd_yk k) mo) (if (d + 12) % 7 = 4 then cn + 1 else cn) := rfl
                rw [e1, if_pos (by omega : (d + 12) % 7 = 4)] at e2
                exact ih (mo + 1) (d + 30) (cn + 1) (by omega) (by omega) (by omega) (e2.symm.trans i4) ls (lv_sub hl [0, 1, 2, 3, 4, 5] rfl)
              · refine lv_iload (pc := 83) hx hb d_M_fridays_83 (lv_at hl 1 rfl) ?_
                refine lv_bipush (pc := 85) (v := nI 9) hx hb d_M_fridays_85 (by decide) ?_
                refine nv_icmp_eq (pc := 87) (tgt := 97) hx hb d_M_fridays_87 (by decide) (by omega) (by omega) (fun h6 => ?_) (fun h6 => ?_)
                · refine lv_bipush (pc := 97) (v := nI 30) hx hb d_M_fridays_97 (by decide) ?_
                  refine lv_goto (pc := 99) (tgt := 104) hx hb d_M_fridays_99 (by decide) ?_
                  refine nv_iadd (pc := 104) hx hb d_M_fridays_104 ?_
                  refine lv_istore (pc := 105) (lv' := [(4, .int (nI (d + 30))), (3, .int (nI (cn + 1))), (5, .int (nI mo)), (2, .int (nI (wd_yk k))), (0, .ref h0), (1, .int k)]) hx hb d_M_fridays_105 hl (by decide) rfl (fun ls hl => ?_)
                  refine lv_iinc (pc := 107) (v := nI (mo + 1)) (lv' := [(5, .int (nI (mo + 1))), (4, .int (nI (d + 30))), (3, .int (nI (cn + 1))), (2, .int (nI (wd_yk k))), (0, .ref h0), (1, .int k)]) hx hb d_M_fridays_107 hl (k := 2) rfl (by rw [← nI_add]; rfl) (by decide) rfl (fun ls hl => ?_)
                  refine lv_goto (pc := 110) (tgt := 22) hx hb d_M_fridays_110 (by decide) ?_
                  have e1 : wd_ml (wd_yk k) mo = 30 := by unfold wd_ml; rw [if_neg h2, if_pos (by omega)]
                  have e2 : wd_fg (wd_yk k) (n + 1) mo d cn = wd_fg (wd_yk k) n (mo + 1) (d + wd_ml (wd_yk k) mo) (if (d + 12) % 7 = 4 then cn + 1 else cn) := rfl
                  rw [e1, if_pos (by omega : (d + 12) % 7 = 4)] at e2
                  exact ih (mo + 1) (d + 30) (cn + 1) (by omega) (by omega) (by omega) (e2.symm.trans i4) ls (lv_sub hl [0, 1, 2, 3, 4, 5] rfl)
                · refine lv_iload (pc := 90) hx hb d_M_fridays_90 (lv_at hl 1 rfl) ?_
                  refine lv_bipush (pc := 92) (v := nI 11) hx hb d_M_fridays_92 (by decide) ?_
                  refine nv_icmp_ne (pc := 94) (tgt := 102) hx hb d_M_fridays_94 (by decide) (by omega) (by omega) (fun h7 => ?_) (fun h7 => ?_)
                  · refine lv_bipush (pc := 102) (v := nI 31) hx hb d_M_fridays_102 (by decide) ?_
                    refine nv_iadd (pc := 104) hx hb d_M_fridays_104 ?_
                    refine lv_istore (pc := 105) (lv' := [(4, .int (nI (d + 31))), (3, .int (nI (cn + 1))), (5, .int (nI mo)), (2, .int (nI (wd_yk k))), (0, .ref h0), (1, .int k)]) hx hb d_M_fridays_105 hl (by decide) rfl (fun ls hl => ?_)
                    refine lv_iinc (pc := 107) (v := nI (mo + 1)) (lv' := [(5, .int (nI (mo + 1))), (4, .int (nI (d + 31))), (3, .int (nI (cn + 1))), (2, .int (nI (wd_yk k))), (0, .ref h0), (1, .int k)]) hx hb d_M_fridays_107 hl (k := 2) rfl (by rw [← nI_add]; rfl) (by decide) rfl (fun ls hl => ?_)
                    refine lv_goto (pc := 110) (tgt := 22) hx hb d_M_fridays_110 (by decide) ?_
                    have e1 : wd_ml (wd_yk k) mo = 31 := by unfold wd_ml; rw [if_neg h2, if_neg (by omega)]
                    have e2 : wd_fg (wd_yk k) (n + 1) mo d cn = wd_fg (wd_yk k) n (mo + 1) (d + wd_ml (wd_yk k) mo) (if (d + 12) % 7 = 4 then cn + 1 else cn) := rfl
                    rw [e1, if_pos (by omega : (d + 12) % 7 = 4)] at e2
                    exact ih (mo + 1) (d + 31) (cn + 1) (by omega) (by omega) (by omega) (e2.symm.trans i4) ls (lv_sub hl [0, 1, 2, 3, 4, 5] rfl)
                  · refine lv_bipush (pc := 97) (v := nI 30) hx hb d_M_fridays_97 (by decide) ?_
                    refine lv_goto (pc := 99) (tgt := 104) hx hb d_M_fridays_99 (by decide) ?_
                    refine nv_iadd (pc := 104) hx hb d_M_fridays_104 ?_
                    refine lv_istore (pc := 105) (lv' := [(4, .int (nI (d + 30))), (3, .int (nI (cn + 1))), (5, .int (nI mo)), (2, .int (nI (wd_yk k))), (0, .ref h0), (1, .int k)]) hx hb d_M_fridays_105 hl (by decide) rfl (fun ls hl => ?_)
                    refine lv_iinc (pc := 107) (v := nI (mo + 1)) (lv' := [(5, .int (nI (mo + 1))), (4, .int (nI (d + 30))), (3, .int (nI (cn + 1))), (2, .int (nI (wd_yk k))), (0, .ref h0), (1, .int k)]) hx hb d_M_fridays_107 hl (k := 2) rfl (by rw [← nI_add]; rfl) (by decide) rfl (fun ls hl => ?_)
                    refine lv_goto (pc := 110) (tgt := 22) hx hb d_M_fridays_110 (by decide) ?_
                    have e1 : wd_ml (wd_yk k) mo = 30 := by unfold wd_ml; rw [if_neg h2, if_pos (by omega)]
                    have e2 : wd_fg (wd_yk k) (n + 1) mo d cn = wd_fg (wd_yk k) n (mo + 1) (d + wd_ml (wd_yk k) mo) (if (d + 12) % 7 = 4 then cn + 1 else cn) := rfl
                    rw [e1, if_pos (by omega : (d + 12) % 7 = 4)] at e2
                    exact ih (mo + 1) (d + 30) (cn + 1) (by omega) (by omega) (by omega) (e2.symm.trans i4) ls (lv_sub hl [0, 1, 2, 3, 4, 5] rfl)
          · refine lv_iload_n (pc := 53) hx hb d_M_fridays_53 rfl (lv_at hl 3 rfl) ?_
            refine q_M_leap (pc := 54) S (wd_yk k) (by omega) (Nat.le_of_ble_eq_true rfl) (Nat.le_of_ble_eq_true rfl) hl.1 (Nat.le_of_ble_eq_true rfl) d_M_fridays_54 ⟨Nat.le_of_ble_eq_true rfl, Nat.le_of_ble_eq_true rfl⟩ ?_
            refine nv_if_eq (pc := 57) (tgt := 65) hx hb d_M_fridays_57 (by decide) (by omega) (fun h3 => ?_) (fun h3 => ?_)
            · refine lv_bipush (pc := 65) (v := nI 28) hx hb d_M_fridays_65 (by decide) ?_
              refine lv_goto (pc := 67) (tgt := 104) hx hb d_M_fridays_67 (by decide) ?_
              refine nv_iadd (pc := 104) hx hb d_M_fridays_104 ?_
              refine lv_istore (pc := 105) (lv' := [(4, .int (nI (d + 28))), (3, .int (nI (cn + 1))), (5, .int (nI mo)), (2, .int (nI (wd_yk k))), (0, .ref h0), (1, .int k)]) hx hb d_M_fridays_105 hl (by decide) rfl (fun ls hl => ?_)
              refine lv_iinc (pc := 107) (v := nI (mo + 1)) (lv' := [(5, .int (nI (mo + 1))), (4, .int (nI (d + 28))), (3, .int (nI (cn + 1))), (2, .int (nI (wd_yk k))), (0, .ref h0), (1, .int k)]) hx hb d_M_fridays_107 hl (k := 2) rfl (by rw [← nI_add]; rfl) (by decide) rfl (fun ls hl => ?_)
              refine lv_goto (pc := 110) (tgt := 22) hx hb d_M_fridays_110 (by decide) ?_
              have e1 : wd_ml (wd_yk k) mo = 28 := by unfold wd_ml; rw [if_pos (by omega), if_pos h3]
              have e2 : wd_fg (wd_yk k) (n + 1) mo d cn = wd_fg (wd_yk k) n (mo + 1) (d + wd_ml (wd_yk k) mo) (if (d + 12) % 7 = 4 then cn + 1 else cn) := rfl
              rw [e1, if_pos (by omega : (d + 12) % 7 = 4)] at e2
              exact ih (mo + 1) (d + 28) (cn + 1) (by omega) (by omega) (by omega) (e2.symm.trans i4) ls (lv_sub hl [0, 1, 2, 3, 4, 5] rfl)
            · refine lv_bipush (pc := 60) (v := nI 29) hx hb d_M_fridays_60 (by decide) ?_
              refine lv_goto (pc := 62) (tgt := 104) hx hb d_M_fridays_62 (by decide) ?_
              refine nv_iadd (pc := 104) hx hb d_M_fridays_104 ?_
              refine lv_istore (pc := 105) (lv' := [(4, .int (nI (d + 29))), (3, .int (nI (cn + 1))), (5, .int (nI mo)), (2, .int (nI (wd_yk k))), (0, .ref h0), (1, .int k)]) hx hb d_M_fridays_105 hl (by decide) rfl (fun ls hl => ?_)
              refine lv_iinc (pc := 107) (v := nI (mo + 1)) (lv' := [(5, .int (nI (mo + 1))), (4, .int (nI (d + 29))), (3, .int (nI (cn + 1))), (2, .int (nI (wd_yk k))), (0, .ref h0), (1, .int k)]) hx hb d_M_fridays_107 hl (k := 2) rfl (by rw [← nI_add]; rfl) (by decide) rfl (fun ls hl => ?_)
              refine lv_goto (pc := 110) (tgt := 22) hx hb d_M_fridays_110 (by decide) ?_
              have e1 : wd_ml (wd_yk k) mo = 29 := by unfold wd_ml; rw [if_pos (by omega), if_neg h3]
              have e2 : wd_fg (wd_yk k) (n + 1) mo d cn = wd_fg (wd_yk k) n (mo + 1) (d + wd_ml (wd_yk k) mo) (if (d + 12) % 7 = 4 then cn + 1 else cn) := rfl
              rw [e1, if_pos (by omega : (d + 12) % 7 = 4)] at e2
              exact ih (mo + 1) (d + 29) (cn + 1) (by omega) (by omega) (by omega) (e2.symm.trans i4) ls (lv_sub hl [0, 1, 2, 3, 4, 5] rfl)
  refine lv_iconst (pc := 0) (v := nI 1) hx hb d_M_fridays_0 (by decide) ?_
  refine lv_iload_n (pc := 1) hx hb d_M_fridays_1 rfl (lv_at hl 1 rfl) ?_
  refine lv_ldc (pc := 2) (v := nI 2147483647) hx hb hown (hts _ tm_101) d_M_fridays_2 ?_
  refine nv_iandM (pc := 4) hx hb d_M_fridays_4 ?_
  refine lv_sipush (pc := 5) (v := nI 400) hx hb d_M_fridays_5 (by decide) ?_
  refine nv_irem (pc := 8) hx hb d_M_fridays_8 (by omega) (by omega) (by omega) ?_
  refine nv_iadd (pc := 9) hx hb d_M_fridays_9 ?_
  refine nv_to (wd_yk k) (by unfold wd_yk; omega) ?_
  refine lv_istore_n (pc := 10) (lv' := [(2, .int (nI (wd_yk k))), (0, .ref h0), (1, .int k)]) hx hb d_M_fridays_10 rfl hl (by decide) rfl (fun ls hl => ?_)
  refine lv_iconst (pc := 11) (v := nI 0) hx hb d_M_fridays_11 (by decide) ?_
  refine lv_istore_n (pc := 12) (lv' := [(3, .int (nI 0)), (2, .int (nI (wd_yk k))), (0, .ref h0), (1, .int k)]) hx hb d_M_fridays_12 rfl hl (by decide) rfl (fun ls hl => ?_)
  refine lv_iload_n (pc := 13) hx hb d_M_fridays_13 rfl (lv_at hl 1 rfl) ?_
  refine q_M_before0 (pc := 14) S (wd_yk k) g2.1 (by omega) (Nat.le_of_ble_eq_true rfl) (Nat.le_of_ble_eq_true rfl) hl.1 (Nat.le_of_ble_eq_true rfl) d_M_fridays_14 ⟨Nat.le_of_ble_eq_true rfl, Nat.le_of_ble_eq_true rfl⟩ ?_
  refine lv_istore (pc := 17) (lv' := [(4, .int (nI (wd_bg (wd_yk k)))), (3, .int (nI 0)), (2, .int (nI (wd_yk k))), (0, .ref h0), (1, .int k)]) hx hb d_M_fridays_17 hl (by decide) rfl (fun ls hl => ?_)
  refine lv_iconst (pc := 19) (v := nI 1) hx hb d_M_fridays_19 (by decide) ?_
  refine lv_istore (pc := 20) (lv' := [(5, .int (nI 1)), (4, .int (nI (wd_bg (wd_yk k)))), (3, .int (nI 0)), (2, .int (nI (wd_yk k))), (0, .ref h0), (1, .int k)]) hx hb d_M_fridays_20 hl (by decide) rfl (fun ls hl => ?_)
  exact loop 12 1 (wd_bg (wd_yk k)) 0 rfl (by omega) (by omega) g5 ls (lv_sub hl [0, 1, 2, 3, 4, 5] rfl)
end
section
set_option maxHeartbeats 4000000 in
set_option maxRecDepth 100000 in
/-- easter(k) -/
theorem c_M_easter (l : Launch) (dC : Nat → ClassId) (dI : Nat → Nat → Nat) (h0 D : Nat) (k : Int32) : Met l y_M_easter (Cond.code y_M_easter b_M_easter 10 (some .int) :: gT) ({ frames := 0, cells := 0, slots := 0, locals := 0 } : Room) (PcO dC dI 1 h0 D [.int k]) (QcRead (wd_ea (nI (wd_yk k)))) 0 0 (fun _ => False) := by
  refine ob_met [.int k] (by decide) (Nat.le_of_ble_eq_true rfl) ?_
  intro p e s m below meth c ls S hr hlocks hP hK hl
  have S : CallFix p m c b_M_easter 10 s ([.ref h0, .int k] : List Value).toArray gT R_M := S
  obtain ⟨hx, hb, hml, hown, hts⟩ := id S
  have hl : lv_has ls 10 [(0, .ref h0), (1, .int k)] := hl
  have g4 := wd_wn_lt k
  have g2 := wd_yk_all k
  refine lv_iconst (pc := 0) (v := nI 1) hx hb d_M_easter_0 (by decide) ?_
  refine lv_iload_n (pc := 1) hx hb d_M_easter_1 rfl (lv_at hl 1 rfl) ?_
  refine lv_ldc (pc := 2) (v := nI 2147483647) hx hb hown (hts _ tm_101) d_M_easter_2 ?_
  refine nv_iandM (pc := 4) hx hb d_M_easter_4 ?_
  refine lv_sipush (pc := 5) (v := nI 400) hx hb d_M_easter_5 (by decide) ?_
  refine nv_irem (pc := 8) hx hb d_M_easter_8 (by omega) (by omega) (by omega) ?_
  refine nv_iadd (pc := 9) hx hb d_M_easter_9 ?_
  refine nv_to (wd_yk k) (by unfold wd_yk; omega) ?_
  generalize wd_yk k = y at g2 ⊢
  refine lv_istore_n (pc := 10) (lv' := [(2, .int (nI y)), (0, .ref h0), (1, .int k)]) hx hb d_M_easter_10 rfl hl (by decide) rfl (fun ls hl => ?_)
  refine lv_iload_n (pc := 11) hx hb d_M_easter_11 rfl (lv_at hl 0 rfl) ?_
  refine lv_bipush (pc := 12) (v := (19 : Int32)) hx hb d_M_easter_12 (by decide) ?_
  refine lv_irem (pc := 14) hx hb d_M_easter_14 (by decide) ?_
  refine lv_iconst (pc := 15) (v := (1 : Int32)) hx hb d_M_easter_15 (by decide) ?_
  refine lv_iadd (pc := 16) hx hb d_M_easter_16 ?_
  refine nv_toi (wd_eg (nI y)) rfl ?_
  refine lv_istore_n (pc := 17) (lv' := [(3, .int (wd_eg (nI y))), (2, .int (nI y)), (0, .ref h0), (1, .int k)]) hx hb d_M_easter_17 rfl hl (by decide) rfl (fun ls hl => ?_)
  refine lv_iload_n (pc := 18) hx hb d_M_easter_18 rfl (lv_at hl 1 rfl) ?_
  refine lv_bipush (pc := 19) (v := (100 : Int32)) hx hb d_M_easter_19 (by decide) ?_
  refine lv_idiv (pc := 21) hx hb d_M_easter_21 (by decide) ?_
  refine lv_iconst (pc := 22) (v := (1 : Int32)) hx hb d_M_easter_22 (by decide) ?_
  refine lv_iadd (pc := 23) hx hb d_M_easter_23 ?_
  refine nv_toi (wd_ec (nI y)) rfl ?_
  refine lv_istore (pc := 24) (lv' := [(4, .int (wd_ec (nI y))), (3, .int (wd_eg (nI y))), (2, .int (nI y)), (0, .ref h0), (1, .int k)]) hx hb d_M_easter_24 hl (by decide) rfl (fun ls hl => ?_)
  refine lv_iconst (pc := 26) (v := (3 : Int32)) hx hb d_M_easter_26 (by decide) ?_
  refine lv_iload (pc := 27) hx hb d_M_easter_27 (lv_at hl 0 rfl) ?_
  refine lv_imul (pc := 29) hx hb d_M_easter_29 ?_
  refine lv_iconst (pc := 30) (v := (4 : Int32)) hx hb d_M_easter_30 (by decide) ?_
  refine lv_idiv (pc := 31) hx hb d_M_easter_31 (by decide) ?_
  refine lv_bipush (pc := 32) (v := (12 : Int32)) hx hb d_M_easter_32 (by decide) ?_
  refine lv_isub (pc := 34) hx hb d_M_easter_34 ?_
  refine nv_toi (wd_ex (nI y)) (wd_ex_eq g2.1 g2.2) ?_
  refine lv_istore (pc := 35) (lv' := [(5, .int (wd_ex (nI y))), (4, .int (wd_ec (nI y))), (3, .int (wd_eg (nI y))), (2, .int (nI y)), (0, .ref h0), (1, .int k)]) hx hb d_M_easter_35 hl (by decide) rfl (fun ls hl => ?_)
  refine lv_bipush (pc := 37) (v := (8 : Int32)) hx hb d_M_easter_37 (by decide) ?_
  refine lv_iload (pc := 39) hx hb d_M_easter_39 (lv_at hl 1 rfl) ?_
  refine lv_imul (pc := 41) hx hb d_M_easter_41 ?_
  refine lv_iconst (pc := 42) (v := (5 : Int32)) hx hb d_M_easter_42 (by decide) ?_
  refine lv_iadd (pc := 43) hx hb d_M_easter_43 ?_
  refine lv_bipush (pc := 44) (v := (25 : Int32)) hx hb d_M_easter_44 (by decide) ?_
  refine lv_idiv (pc := 46) hx hb d_M_easter_46 (by decide) ?_
  refine lv_iconst (pc := 47) (v := (5 : Int32)) hx hb d_M_easter_47 (by decide) ?_
  refine lv_isub (pc := 48) hx hb d_M_easter_48 ?_
  refine nv_toi (wd_ez (nI y)) rfl ?_
  refine lv_istore (pc := 49) (lv' := [(6, .int (wd_ez (nI y))), (5, .int (wd_ex (nI y))), (4, .int (wd_ec (nI y))), (3, .int (wd_eg (nI y))), (2, .int (nI y)), (0, .ref h0), (1, .int k)]) hx hb d_M_easter_49 hl (by decide) rfl (fun ls hl => ?_)
  refine lv_iconst (pc := 51) (v := (5 : Int32)) hx hb d_M_easter_51 (by decide) ?_
  refine lv_iload_n (pc := 52) hx hb d_M_easter_52 rfl (lv_at hl 4 rfl) ?_
  refine lv_imul (pc := 53) hx hb d_M_easter_53 ?_
  refine lv_iconst (pc := 54) (v := (4 : Int32)) hx hb d_M_easter_54 (by decide) ?_
  refine lv_idiv (pc := 55) hx hb d_M_easter_55 (by decide) ?_
  refine lv_iload (pc := 56) hx hb d_M_easter_56 (lv_at hl 1 rfl) ?_
  refine lv_isub (pc := 58) hx hb d_M_easter_58 ?_
  refine lv_bipush (pc := 59) (v := (10 : Int32)) hx hb d_M_easter_59 (by decide) ?_
  refine lv_isub (pc := 61) hx hb d_M_easter_61 ?_
  refine nv_toi (wd_es (nI y)) (wd_es_eq g2.1 g2.2) ?_
  refine lv_istore (pc := 62) (lv' := [(7, .int (wd_es (nI y))), (6, .int (wd_ez (nI y))), (5, .int (wd_ex (nI y))), (4, .int (wd_ec (nI y))), (3, .int (wd_eg (nI y))), (2, .int (nI y)), (0, .ref h0), (1, .int k)]) hx hb d_M_easter_62 hl (by decide) rfl (fun ls hl => ?_)
  refine lv_bipush (pc := 64) (v := (11 : Int32)) hx hb d_M_easter_64 (by decide) ?_
  refine lv_iload_n (pc := 66) hx hb d_M_easter_66 rfl (lv_at hl 4 rfl) ?_
  refine lv_imul (pc := 67) hx hb d_M_easter_67 ?_
  refine lv_bipush (pc := 68) (v := (20 : Int32)) hx hb d_M_easter_68 (by decide) ?_
  refine lv_iadd (pc := 70) hx hb d_M_easter_70 ?_
  refine lv_iload (pc := 71) hx hb d_M_easter_71 (lv_at hl 1 rfl) ?_
  refine lv_iadd (pc := 73) hx hb d_M_easter_73 ?_
  refine lv_iload (pc := 74) hx hb d_M_easter_74 (lv_at hl 2 rfl) ?_
  refine lv_isub (pc := 76) hx hb d_M_easter_76 ?_
  refine nv_toi (wd_e0 (nI y)) rfl ?_
  refine lv_bipush (pc := 77) (v := (30 : Int32)) hx hb d_M_easter_77 (by decide) ?_
  refine lv_irem (pc := 79) hx hb d_M_easter_79 (by decide) ?_
  refine nv_toi (wd_e1 (nI y)) rfl ?_
  refine lv_istore (pc := 80) (lv' := [(8, .int (wd_e1 (nI y))), (7, .int (wd_es (nI y))), (6, .int (wd_ez (nI y))), (5, .int (wd_ex (nI y))), (4, .int (wd_ec (nI y))), (3, .int (wd_eg (nI y))), (2, .int (nI y)), (0, .ref h0), (1, .int k)]) hx hb d_M_easter_80 hl (by decide) rfl (fun ls hl => ?_)
  refine lv_iload (pc := 82) hx hb d_M_easter_82 (lv_at hl 0 rfl) ?_
  refine lv_if_ge (pc := 84) (tgt := 94) hx hb d_M_easter_84 (by decide) (fun hz => ?_) (fun hz => ?_)
  · refine lv_iload (pc := 94) hx hb d_M_easter_94 (lv_at hl 0 rfl) ?_
    refine lv_bipush (pc := 96) (v := (25 : Int32)) hx hb d_M_easter_96 (by decide) ?_
    refine lv_icmp_ne (pc := 98) (tgt := 107) hx hb d_M_easter_98 (by decide) (fun h1 => ?_) (fun h1 => ?_)
    · refine lv_iload (pc := 107) hx hb d_M_easter_107 (lv_at hl 0 rfl) ?_
      refine lv_bipush (pc := 109) (v := (24 : Int32)) hx hb d_M_easter_109 (by decide) ?_
      refine lv_icmp_ne (pc := 111) (tgt := 120) hx hb d_M_easter_111 (by decide) (fun h2 => ?_) (fun h2 => ?_)
      · rw [show wd_e1 (nI y) = wd_e2 (nI y) from (by unfold wd_e2; rw [if_neg (fun q => q.elim (fun z => h1 z.1) h2)])] at hl
        refine lv_bipush (pc := 120) (v := (44 : Int32)) hx hb d_M_easter_120 (by decide) ?_
        refine lv_iload (pc := 122) hx hb d_M_easter_122 (lv_at hl 0 rfl) ?_
        refine lv_isub (pc := 124) hx hb d_M_easter_124 ?_
        refine lv_istore (pc := 125) (lv' := [(9, .int (((44 : Int32)) - (wd_e2 (nI y)))), (8, .int (wd_e2 (nI y))), (7, .int (wd_es (nI y))), (6, .int (wd_ez (nI y))), (5, .int (wd_ex (nI y))), (4, .int (wd_ec (nI y))), (3, .int (wd_eg (nI y))), (2, .int (nI y)), (0, .ref h0), (1, .int k)]) hx hb d_M_easter_125 hl (by decide) rfl (fun ls hl => ?_)
        refine lv_iload (pc := 127) hx hb d_M_easter_127 (lv_at hl 0 rfl) ?_
        refine lv_bipush (pc := 129) (v := (21 : Int32)) hx hb d_M_easter_129 (by decide) ?_
        refine lv_icmp_ge (pc := 131) (tgt := 141) hx hb d_M_easter_131 (by decide) (fun hf => ?_) (fun hf => ?_)
        · rw [show ((44 : Int32)) - (wd_e2 (nI y)) = wd_ef (nI y) from (by rw [← wd_ef_eq g2.1 g2.2, if_pos hf])] at hl
          refine lv_iload (pc := 141) hx hb d_M_easter_141 (lv_at hl 0 rfl) ?_
          refine lv_bipush (pc := 143) (v := (7 : Int32)) hx hb d_M_easter_143 (by decide) ?_
          refine lv_iadd (pc := 145) hx hb d_M_easter_145 ?_
          refine lv_iload (pc := 146) hx hb d_M_easter_146 (lv_at hl 2 rfl) ?_
          refine lv_iload (pc := 148) hx hb d_M_easter_148 (lv_at hl 0 rfl) ?_
          refine lv_iadd (pc := 150) hx hb d_M_easter_150 ?_
          refine lv_bipush (pc := 151) (v := (7 : Int32)) hx hb d_M_easter_151 (by decide) ?_
          refine lv_irem (pc := 153) hx hb d_M_easter_153 (by decide) ?_
          refine lv_isub (pc := 154) hx hb d_M_easter_154 ?_
          exact nv_iret (pc := 155) hx hb hr hlocks rfl d_M_easter_155
        · refine lv_iload (pc := 134) hx hb d_M_easter_134 (lv_at hl 0 rfl) ?_
          refine lv_bipush (pc := 136) (v := (30 : Int32)) hx hb d_M_easter_136 (by decide) ?_
          refine lv_iadd (pc := 138) hx hb d_M_easter_138 ?_
          refine lv_istore (pc := 139) (lv' := [(9, .int ((((44 : Int32)) - (wd_e2 (nI y))) + ((30 : Int32)))), (8, .int (wd_e2 (nI y))), (7, .int (wd_es (nI y))), (6, .int (wd_ez (nI y))), (5, .int (wd_ex (nI y))), (4, .int (wd_ec (nI y))), (3, .int (wd_eg (nI y))), (2, .int (nI y)), (0, .ref h0), (1, .int k)]) hx hb d_M_easter_139 hl (by decide) rfl (fun ls hl => ?_)
          rw [show (((44 : Int32)) - (wd_e2 (nI y))) + ((30 : Int32)) = wd_ef (nI y) from (by rw [← wd_ef_eq g2.1 g2.2, if_neg hf])] at hl
          refine lv_iload (pc := 141) hx hb d_M_easter_141 (lv_at hl 0 rfl) ?_
          refine lv_bipush (pc := 143) (v := (7 : Int32)) hx hb d_M_easter_143 (by decide) ?_
          refine lv_iadd (pc := 145) hx hb d_M_easter_145 ?_
          refine lv_iload (pc := 146) hx hb d_M_easter_146 (lv_at hl 2 rfl) ?_
          refine lv_iload (pc := 148) hx hb d_M_easter_148 (lv_at hl 0 rfl) ?_
          refine lv_iadd (pc := 150) hx hb d_M_easter_150 ?_
          refine lv_bipush (pc := 151) (v := (7 : Int32)) hx hb d_M_easter_151 (by decide) ?_
          refine lv_irem (pc := 153) hx hb d_M_easter_153 (by decide) ?_
          refine lv_isub (pc := 154) hx hb d_M_easter_154 ?_
          exact nv_iret (pc := 155) hx hb hr hlocks rfl d_M_easter_155
      · refine lv_iload (pc := 114) hx hb d_M_easter_114 (lv_at hl 0 rfl) ?_
        refine lv_iconst (pc := 116) (v := (1 : Int32)) hx hb d_M_easter_116 (by decide) ?_
        refine lv_iadd (pc := 117) hx hb d_M_easter_117 ?_
        refine lv_istore (pc := 118) (lv' := [(8, .int ((wd_e1 (nI y)) + ((1 : Int32)))), (7, .int (wd_es (nI y))), (6, .int (wd_ez (nI y))), (5, .int (wd_ex (nI y))), (4, .int (wd_ec (nI y))), (3, .int (wd_eg (nI y))), (2, .int (nI y)), (0, .ref h0), (1, .int k)]) hx hb d_M_easter_118 hl (by decide) rfl (fun ls hl => ?_)
        rw [show (wd_e1 (nI y)) + ((1 : Int32)) = wd_e2 (nI y) from (by unfold wd_e2; rw [if_pos (Or.inr h2)])] at hl
        refine lv_bipush (pc := 120) (v := (44 : Int32)) hx hb d_M_easter_120 (by decide) ?_
        refine lv_iload (pc := 122) hx hb d_M_easter_122 (lv_at hl 0 rfl) ?_
        refine lv_isub (pc := 124) hx hb d_M_easter_124 ?_
        refine lv_istore (pc := 125) (lv' := [(9, .int (((44 : Int32)) - (wd_e2 (nI y)))), (8, .int (wd_e2 (nI y))), (7, .int (wd_es (nI y))), (6, .int (wd_ez (nI y))), (5, .int (wd_ex (nI y))), (4, .int (wd_ec (nI y))), (3, .int (wd_eg (nI y))), (2, .int (nI y)), (0, .ref h0), (1, .int k)]) hx hb d_M_easter_125 hl (by decide) rfl (fun ls hl => ?_)
        refine lv_iload (pc := 127) hx hb d_M_easter_127 (lv_at hl 0 rfl) ?_
        refine lv_bipush (pc := 129) (v := (21 : Int32)) hx hb d_M_easter_129 (by decide) ?_
        refine lv_icmp_ge (pc := 131) (tgt := 141) hx hb d_M_easter_131 (by decide) (fun hf => ?_) (fun hf => ?_)
        · rw [show ((44 : Int32)) - (wd_e2 (nI y)) = wd_ef (nI y) from (by rw [← wd_ef_eq g2.1 g2.2, if_pos hf])] at hl
          refine lv_iload (pc := 141) hx hb d_M_easter_141 (lv_at hl 0 rfl) ?_
          refine lv_bipush (pc := 143) (v := (7 : Int32)) hx hb d_M_easter_143 (by decide) ?_
          refine lv_iadd (pc := 145) hx hb d_M_easter_145 ?_
          refine lv_iload (pc := 146) hx hb d_M_easter_146 (lv_at hl 2 rfl) ?_
          refine lv_iload (pc := 148) hx hb d_M_easter_148 (lv_at hl 0 rfl) ?_
          refine lv_iadd (pc := 150) hx hb d_M_easter_150 ?_
          refine lv_bipush (pc := 151) (v := (7 : Int32)) hx hb d_M_easter_151 (by decide) ?_
          refine lv_irem (pc := 153) hx hb d_M_easter_153 (by decide) ?_
          refine lv_isub (pc := 154) hx hb d_M_easter_154 ?_
          exact nv_iret (pc := 155) hx hb hr hlocks rfl d_M_easter_155
        · refine lv_iload (pc := 134) hx hb d_M_easter_134 (lv_at hl 0 rfl) ?_
          refine lv_bipush (pc := 136) (v := (30 : Int32)) hx hb d_M_easter_136 (by decide) ?_
          refine lv_iadd (pc := 138) hx hb d_M_easter_138 ?_
          refine lv_istore (pc := 139) (lv' := [(9, .int ((((44 : Int32)) - (wd_e2 (nI y))) + ((30 : Int32)))), (8, .int (wd_e2 (nI y))), (7, .int (wd_es (nI y))), (6, .int (wd_ez (nI y))), (5, .int (wd_ex (nI y))), (4, .int (wd_ec (nI y))), (3, .int (wd_eg (nI y))), (2, .int (nI y)), (0, .ref h0), (1, .int k)]) hx hb d_M_easter_139 hl (by decide) rfl (fun ls hl => ?_)
          rw [show (((44 : Int32)) - (wd_e2 (nI y))) + ((30 : Int32)) = wd_ef (nI y) from (by rw [← wd_ef_eq g2.1 g2.2, if_neg hf])] at hl
          refine lv_iload (pc := 141) hx hb d_M_easter_141 (lv_at hl 0 rfl) ?_
          refine lv_bipush (pc := 143) (v := (7 : Int32)) hx hb d_M_easter_143 (by decide) ?_
          refine lv_iadd (pc := 145) hx hb d_M_easter_145 ?_
          refine lv_iload (pc := 146) hx hb d_M_easter_146 (lv_at hl 2 rfl) ?_
          refine lv_iload (pc := 148) hx hb d_M_easter_148 (lv_at hl 0 rfl) ?_
          refine lv_iadd (pc := 150) hx hb d_M_easter_150 ?_
          refine lv_bipush (pc := 151) (v := (7 : Int32)) hx hb d_M_easter_151 (by decide) ?_
          refine lv_irem (pc := 153) hx hb d_M_easter_153 (by decide) ?_
          refine lv_isub (pc := 154) hx hb d_M_easter_154 ?_
          exact nv_iret (pc := 155) hx hb hr hlocks rfl d_M_easter_155
    · refine lv_iload_n (pc := 101) hx hb d_M_easter_101 rfl (lv_at hl 5 rfl) ?_
      refine lv_bipush (pc := 102) (v := (11 : Int32)) hx hb d_M_easter_102 (by decide) ?_
      refine lv_icmp_gt (pc := 104) (tgt := 114) hx hb d_M_easter_104 (by decide) (fun h3 => ?_) (fun h3 => ?_)
      · refine lv_iload (pc := 114) hx hb d_M_easter_114 (lv_at hl 0 rfl) ?_
        refine lv_iconst (pc := 116) (v := (1 : Int32)) hx hb d_M_easter_116 (by decide) ?_
        refine lv_iadd (pc := 117) hx hb d_M_easter_117 ?_
        refine lv_istore (pc := 118) (lv' := [(8, .int ((wd_e1 (nI y)) + ((1 : Int32)))), (7, .int (wd_es (nI y))), (6, .int (wd_ez (nI y))), (5, .int (wd_ex (nI y))), (4, .int (wd_ec (nI y))), (3, .int (wd_eg (nI y))), (2, .int (nI y)), (0, .ref h0), (1, .int k)]) hx hb d_M_easter_118 hl (by decide) rfl (fun ls hl => ?_)
        rw [show (wd_e1 (nI y)) + ((1 : Int32)) = wd_e2 (nI y) from (by unfold wd_e2; rw [if_pos (Or.inl ⟨h1, h3⟩)])] at hl
        refine lv_bipush (pc := 120) (v := (44 : Int32)) hx hb d_M_easter_120 (by decide) ?_
        refine lv_iload (pc := 122) hx hb d_M_easter_122 (lv_at hl 0 rfl) ?_
        refine lv_isub (pc := 124) hx hb d_M_easter_124 ?_
        refine lv_istore (pc := 125) (lv' := [(9, .int (((44 : Int32)) - (wd_e2 (nI y)))), (8, .int (wd_e2 (nI y))), (7, .int (wd_es (nI y))), (6, .int (wd_ez (nI y))), (5, .int (wd_ex (nI y))), (4, .int (wd_ec (nI y))), (3, .int (wd_eg (nI y))), (2, .int (nI y)), (0, .ref h0), (1, .int k)]) hx hb d_M_easter_125 hl (by decide) rfl (fun ls hl => ?_)
        refine lv_iload (pc := 127) hx hb d_M_easter_127 (lv_at hl 0 rfl) ?_
        refine lv_bipush (pc := 129) (v := (21 : Int32)) hx hb d_M_easter_129 (by decide) ?_
        refine lv_icmp_ge (pc := 131) (tgt := 141) hx hb d_M_easter_131 (by decide) (fun hf => ?_) (fun hf => ?_)
        · rw [show ((44 : Int32)) - (wd_e2 (nI y)) = wd_ef (nI y) from (by rw [← wd_ef_eq g2.1 g2.2, if_pos hf])] at hl
          refine lv_iload (pc := 141) hx hb d_M_easter_141 (lv_at hl 0 rfl) ?_
          refine lv_bipush (pc := 143) (v := (7 : Int32)) hx hb d_M_easter_143 (by decide) ?_
          refine lv_iadd (pc := 145) hx hb d_M_easter_145 ?_
          refine lv_iload (pc := 146) hx hb d_M_easter_146 (lv_at hl 2 rfl) ?_
          refine lv_iload (pc := 148) hx hb d_M_easter_148 (lv_at hl 0 rfl) ?_
          refine lv_iadd (pc := 150) hx hb d_M_easter_150 ?_
          refine lv_bipush (pc := 151) (v := (7 : Int32)) hx hb d_M_easter_151 (by decide) ?_
          refine lv_irem (pc := 153) hx hb d_M_easter_153 (by decide) ?_
          refine lv_isub (pc := 154) hx hb d_M_easter_154 ?_
          exact nv_iret (pc := 155) hx hb hr hlocks rfl d_M_easter_155
        · refine lv_iload (pc := 134) hx hb d_M_easter_134 (lv_at hl 0 rfl) ?_
          refine lv_bipush (pc := 136) (v := (30 : Int32)) hx hb d_M_easter_136 (by decide) ?_
          refine lv_iadd (pc := 138) hx hb d_M_easter_138 ?_
          refine lv_istore (pc := 139) (lv' := [(9, .int ((((44 : Int32)) - (wd_e2 (nI y))) + ((30 : Int32)))), (8, .int (wd_e2 (nI y))), (7, .int (wd_es (nI y))), (6, .int (wd_ez (nI y))), (5, .int (wd_ex (nI y))), (4, .int (wd_ec (nI y))), (3, .int (wd_eg (nI y))), (2, .int (nI y)), (0, .ref h0), (1, .int k)]) hx hb d_M_easter_139 hl (by decide) rfl (fun ls hl => ?_)
          rw [show (((44 : Int32)) - (wd_e2 (nI y))) + ((30 : Int32)) = wd_ef (nI y) from (by rw [← wd_ef_eq g2.1 g2.2, if_neg hf])] at hl
          refine lv_iload (pc := 141) hx hb d_M_easter_141 (lv_at hl 0 rfl) ?_
          refine lv_bipush (pc := 143) (v := (7 : Int32)) hx hb d_M_easter_143 (by decide) ?_
          refine lv_iadd (pc := 145) hx hb d_M_easter_145 ?_
          refine lv_iload (pc := 146) hx hb d_M_easter_146 (lv_at hl 2 rfl) ?_
          refine lv_iload (pc := 148) hx hb d_M_easter_148 (lv_at hl 0 rfl) ?_
          refine lv_iadd (pc := 150) hx hb d_M_easter_150 ?_
          refine lv_bipush (pc := 151) (v := (7 : Int32)) hx hb d_M_easter_151 (by decide) ?_
          refine lv_irem (pc := 153) hx hb d_M_easter_153 (by decide) ?_
          refine lv_isub (pc := 154) hx hb d_M_easter_154 ?_
          exact nv_iret (pc := 155) hx hb hr hlocks rfl d_M_easter_155
      · refine lv_iload (pc := 107) hx hb d_M_easter_107 (lv_at hl 0 rfl) ?_
        refine lv_bipush (pc := 109) (v := (24 : Int32)) hx hb d_M_easter_109 (by decide) ?_
        refine lv_icmp_ne (pc := 111) (tgt := 120) hx hb d_M_easter_111 (by decide) (fun h2 => ?_) (fun h2 => ?_)
        · rw [show wd_e1 (nI y) = wd_e2 (nI y) from (by unfold wd_e2; rw [if_neg (fun q => q.elim (fun z => h3 z.2) h2)])] at hl
          refine lv_bipush (pc := 120) (v := (44 : Int32)) hx hb d_M_easter_120 (by decide) ?_
          refine lv_iload (pc := 122) hx hb d_M_easter_122 (lv_at hl 0 rfl) ?_
          refine lv_isub (pc := 124) hx hb d_M_easter_124 ?_
          refine lv_istore (pc := 125) (lv' := [(9, .int (((44 : Int32)) - (wd_e2 (nI y)))), (8, .int (wd_e2 (nI y))), (7, .int (wd_es (nI y))), (6, .int (wd_ez (nI y))), (5, .int (wd_ex (nI y))), (4, .int (wd_ec (nI y))), (3, .int (wd_eg (nI y))), (2, .int (nI y)), (0, .ref h0), (1, .int k)]) hx hb d_M_easter_125 hl (by decide) rfl (fun ls hl => ?_)
          refine lv_iload (pc := 127) hx hb d_M_easter_127 (lv_at hl 0 rfl) ?_
          refine lv_bipush (pc := 129) (v := (21 : Int32)) hx hb d_M_easter_129 (by decide) ?_
          refine lv_icmp_ge (pc := 131) (tgt := 141) hx hb d_M_easter_131 (by decide) (fun hf => ?_) (fun hf => ?_)
          · rw [show ((44 : Int32)) - (wd_e2 (nI y)) = wd_ef (nI y) from (by rw [← wd_ef_eq g2.1 g2.2, if_pos hf])] at hl
            refine lv_iload (pc := 141) hx hb d_M_easter_141 (lv_at hl 0 rfl) ?_
            refine lv_bipush (pc := 143) (v := (7 : Int32)) hx hb d_M_easter_143 (by decide) ?_
            refine lv_iadd (pc := 145) hx hb d_M_easter_145 ?_
            refine lv_iload (pc := 146) hx hb d_M_easter_146 (lv_at hl 2 rfl) ?_
            refine lv_iload (pc := 148) hx hb d_M_easter_148 (lv_at hl 0 rfl) ?_
            refine lv_iadd (pc := 150) hx hb d_M_easter_150 ?_
            refine lv_bipush (pc := 151) (v := (7 : Int32)) hx hb d_M_easter_151 (by decide) ?_
            refine lv_irem (pc := 153) hx hb d_M_easter_153 (by decide) ?_
            refine lv_isub (pc := 154) hx hb d_M_easter_154 ?_
            exact nv_iret (pc := 155) hx hb hr hlocks rfl d_M_easter_155
          · refine lv_iload (pc := 134) hx hb d_M_easter_134 (lv_at hl 0 rfl) ?_
            refine lv_bipush (pc := 136) (v := (30 : Int32)) hx hb d_M_easter_136 (by decide) ?_
            refine lv_iadd (pc := 138) hx hb d_M_easter_138 ?_
            refine lv_istore (pc := 139) (lv' := [(9, .int ((((44 : Int32)) - (wd_e2 (nI y))) + ((30 : Int32)))), (8, .int (wd_e2 (nI y))), (7, .int (wd_es (nI y))), (6, .int (wd_ez (nI y))), (5, .int (wd_ex (nI y))), (4, .int (wd_ec (nI y))), (3, .int (wd_eg (nI y))), (2, .int (nI y)), (0, .ref h0), (1, .int k)]) hx hb d_M_easter_139 hl (by decide) rfl (fun ls hl => ?_)
            rw [show (((44 : Int32)) - (wd_e2 (nI y))) + ((30 : Int32)) = wd_ef (nI y) from (by rw [← wd_ef_eq g2.1 g2.2, if_neg hf])] at hl
            refine lv_iload (pc := 141) hx hb d_M_easter_141 (lv_at hl 0 rfl) ?_
            refine lv_bipush (pc := 143) (v := (7 : Int32)) hx hb d_M_easter_143 (by decide) ?_
            refine lv_iadd (pc := 145) hx hb d_M_easter_145 ?_
            refine lv_iload (pc := 146) hx hb d_M_easter_146 (lv_at hl 2 rfl) ?_
            refine lv_iload (pc := 148) hx hb d_M_easter_148 (lv_at hl 0 rfl) ?_
            refine lv_iadd (pc := 150) hx hb d_M_easter_150 ?_
            refine lv_bipush (pc := 151) (v := (7 : Int32)) hx hb d_M_easter_151 (by decide) ?_
            refine lv_irem (pc := 153) hx hb d_M_easter_153 (by decide) ?_
            refine lv_isub (pc := 154) hx hb d_M_easter_154 ?_
            exact nv_iret (pc := 155) hx hb hr hlocks rfl d_M_easter_155
        · refine lv_iload (pc := 114) hx hb d_M_easter_114 (lv_at hl 0 rfl) ?_
          refine lv_iconst (pc := 116) (v := (1 : Int32)) hx hb d_M_easter_116 (by decide) ?_
          refine lv_iadd (pc := 117) hx hb d_M_easter_117 ?_
          refine lv_istore (pc := 118) (lv' := [(8, .int ((wd_e1 (nI y)) + ((1 : Int32)))), (7, .int (wd_es (nI y))), (6, .int (wd_ez (nI y))), (5, .int (wd_ex (nI y))), (4, .int (wd_ec (nI y))), (3, .int (wd_eg (nI y))), (2, .int (nI y)), (0, .ref h0), (1, .int k)]) hx hb d_M_easter_118 hl (by decide) rfl (fun ls hl => ?_)
          rw [show (wd_e1 (nI y)) + ((1 : Int32)) = wd_e2 (nI y) from (by unfold wd_e2; rw [if_pos (Or.inr h2)])] at hl
          refine lv_bipush (pc := 120) (v := (44 : Int32)) hx hb d_M_easter_120 (by decide) ?_
          refine lv_iload (pc := 122) hx hb d_M_easter_122 (lv_at hl 0 rfl) ?_
          refine lv_isub (pc := 124) hx hb d_M_easter_124 ?_
          refine lv_istore (pc := 125) (lv' := [(9, .int (((44 : Int32)) - (wd_e2 (nI y)))), (8, .int (wd_e2 (nI y))), (7, .int (wd_es (nI y))), (6, .int (wd_ez (nI y))), (5, .int (wd_ex (nI y))), (4, .int (wd_ec (nI y))), (3, .int (wd_eg (nI y))), (2, .int (nI y)), (0, .ref h0), (1, .int k)]) hx hb d_M_easter_125 hl (by decide) rfl (fun ls hl => ?_)
          refine lv_iload (pc := 127) hx hb d_M_easter_127 (lv_at hl 0 rfl) ?_
          refine lv_bipush (pc := 129) (v := (21 : Int32)) hx hb d_M_easter_129 (by decide) ?_
          refine lv_icmp_ge (pc := 131) (tgt := 141) hx hb d_M_easter_131 (by decide) (fun hf => ?_) (fun hf => ?_)
          · rw [show ((44 : Int32)) - (wd_e2 (nI y)) = wd_ef (nI y) from (by rw [← wd_ef_eq g2.1 g2.2, if_pos hf])] at hl
            refine lv_iload (pc := 141) hx hb d_M_easter_141 (lv_at hl 0 rfl) ?_
            refine lv_bipush (pc := 143) (v := (7 : Int32)) hx hb d_M_easter_143 (by decide) ?_
            refine lv_iadd (pc := 145) hx hb d_M_easter_145 ?_
            refine lv_iload (pc := 146) hx hb d_M_easter_146 (lv_at hl 2 rfl) ?_
            refine lv_iload (pc := 148) hx hb d_M_easter_148 (lv_at hl 0 rfl) ?_
            refine lv_iadd (pc := 150) hx hb d_M_easter_150 ?_
            refine lv_bipush (pc := 151) (v := (7 : Int32)) hx hb d_M_easter_151 (by decide) ?_
            refine lv_irem (pc := 153) hx hb d_M_easter_153 (by decide) ?_
            refine lv_isub (pc := 154) hx hb d_M_easter_154 ?_
            exact nv_iret (pc := 155) hx hb hr hlocks rfl d_M_easter_155
          · refine lv_iload (pc := 134) hx hb d_M_easter_134 (lv_at hl 0 rfl) ?_
            refine lv_bipush (pc := 136) (v := (30 : Int32)) hx hb d_M_easter_136 (by decide) ?_
            refine lv_iadd (pc := 138) hx hb d_M_easter_138 ?_
            refine lv_istore (pc := 139) (lv' := [(9, .int ((((44 : Int32)) - (wd_e2 (nI y))) + ((30 : Int32)))), (8, .int (wd_e2 (nI y))), (7, .int (wd_es (nI y))), (6, .int (wd_ez (nI y))), (5, .int (wd_ex (nI y))), (4, .int (wd_ec (nI y))), (3, .int (wd_eg (nI y))), (2, .int (nI y)), (0, .ref h0), (1, .int k)]) hx hb d_M_easter_139 hl (by decide) rfl (fun ls hl => ?_)
            rw [show (((44 : Int32)) - (wd_e2 (nI y))) + ((30 : Int32)) = wd_ef (nI y) from (by rw [← wd_ef_eq g2.1 g2.2, if_neg hf])] at hl
            refine lv_iload (pc := 141) hx hb d_M_easter_141 (lv_at hl 0 rfl) ?_
            refine lv_bipush (pc := 143) (v := (7 : Int32)) hx hb d_M_easter_143 (by decide) ?_
            refine lv_iadd (pc := 145) hx hb d_M_easter_145 ?_
            refine lv_iload (pc := 146) hx hb d_M_easter_146 (lv_at hl 2 rfl) ?_
            refine lv_iload (pc := 148) hx hb d_M_easter_148 (lv_at hl 0 rfl) ?_
            refine lv_iadd (pc := 150) hx hb d_M_easter_150 ?_
            refine lv_bipush (pc := 151) (v := (7 : Int32)) hx hb d_M_easter_151 (by decide) ?_
            refine lv_irem (pc := 153) hx hb d_M_easter_153 (by decide) ?_
            refine lv_isub (pc := 154) hx hb d_M_easter_154 ?_
            exact nv_iret (pc := 155) hx hb hr hlocks rfl d_M_easter_155
  · exact absurd (wd_e1_eq g2.1 g2.2) hz
end
section
/-- an object of one field, behind a writer -/
abbrev at_O (dC : Nat → ClassId) (dI : Nat → Nat → Nat) (ci : Nat) (A : Nat → Prop) (h0 : Nat) (u : Nat) (t : State) : Prop := va_P (dC, dI) classes [(h0, .inr (ci, [.int (nI u)]))] t.heap ∧ va_K (dC, dI) classes [] t ∧ va_D A [(h0, .inr (ci, [.int (nI u)]))]
set_option maxHeartbeats 4000000 in
set_option maxRecDepth 100000 in
/-- the constructor: the field stays -/
theorem c_D_init (l : Launch) (dC : Nat → ClassId) (dI : Nat → Nat → Nat) (h0 sz D : Nat)  : Met l y_D_init (Cond.code y_D_init b_D_init 1 none :: gT) ({ frames := 1, cells := 0, slots := 0, locals := 12 } : Room) (va_Pc [.ref h0] (fun U => U.heap.size = sz ∧ va_P (dC, dI) classes [(h0, .inr (0, [.int (nI D)]))] U.heap ∧ va_K (dC, dI) classes [] U ∧ va_D (fun _ => True) [(h0, .inr (0, [.int (nI D)]))])) (va_Qv (fun u : Nat => u = D) (at_O dC dI 0 (va_A [(h0, .inr (0, [.int (nI D)]))] sz) h0) (va_A [(h0, .inr (0, [.int (nI D)]))] sz)) 0 0 (va_A [(h0, .inr (0, [.int (nI D)]))] sz) := by
  refine Met.ofW (cc := b_D_init) (maxL := 1) (ret := none) (by decide) rfl ?_
  intro p e s m args below meth c s₁ B hml hv
  obtain ⟨rfl, hsz, hP, hK, hD0⟩ := hv
  have hx := B.exec
  have hb := B.bytes
  have hr := B.returns
  have hts0 := atoms_spec (ws := Cond.code y_D_init b_D_init 1 none :: gT) B.pre
  have hts : ∀ w9 ∈ gT, w9.before [.ref h0].toArray s = true := fun w9 hw => hts0 w9 (List.mem_cons_of_mem _ hw)
  have hown : s.vm.findClass R_D = some m.cls := findClass_of_methodNamed B.named
  have hlocks := B.notSynchronized
  have S : CallFix p m c b_D_init 1 s [.ref h0].toArray gT R_D := ⟨hx, hb, hml, hown, hts⟩
  subst hsz
  have hD := hD0.self (sz := s.heap.size)
  generalize hAe : va_A [(h0, .inr (0, [.int (nI D)]))] s.heap.size = A at hD ⊢
  have hA : ∀ q : Nat, s.heap.size ≤ q → A q := fun q h => by rw [← hAe]; exact Or.inr h
  have hS : va_S A s.heap s.heap [] := va_S.rf
  have hP : va_P (dC, dI) classes [(h0, .inr (0, [.int (nI D)]))] s.heap := hP
  have hl := lv_entry ([.ref h0]) (n := 1) (Nat.le_of_ble_eq_true rfl)
  rw [lg_entry_eq]
  generalize (lg_sl ([.ref h0]) ++ List.replicate (1 - (lg_sl ([.ref h0])).length) Slot.unset).toArray = ls at hl ⊢
  have hl : lv_has ls 1 [(0, .ref h0)] := hl
  refine lv_aload_n (pc := 0) hx hb d_D_init_0 rfl (lv_at hl 0 rfl) ?_
  refine W.objInit (g := F0 m 1 ls [.ref h0]) hx hb hown (hts _ tm_9) (hts _ tm_10) (hts _ tm_11) rfl (by rw [hml]; exact hl.1) rfl d_D_init_1 (Nat.le_of_ble_eq_true rfl) (Nat.le_of_ble_eq_true rfl) ?_
  refine W.eq (g2 := F0 m 4 ls []) rfl ?_
  exact W.vret (pc := 4) hx hb hr (fun t ht hW => ⟨⟨D, rfl, rfl, by rw [ht]; exact hP, va_K.moved hW.alike hK, hD⟩, hS.F ht⟩) hS.2.2 d_D_init_4 hlocks
set_option maxHeartbeats 4000000 in
set_option maxRecDepth 100000 in
/-- the constructor: the field stays -/
theorem c_M_init (l : Launch) (dC : Nat → ClassId) (dI : Nat → Nat → Nat) (h0 sz D : Nat)  : Met l y_M_init (Cond.code y_M_init b_M_init 1 none :: gT) ({ frames := 1, cells := 0, slots := 0, locals := 12 } : Room) (va_Pc [.ref h0] (fun U => U.heap.size = sz ∧ va_P (dC, dI) classes [(h0, .inr (1, [.int (nI D)]))] U.heap ∧ va_K (dC, dI) classes [] U ∧ va_D (fun _ => True) [(h0, .inr (1, [.int (nI D)]))])) (va_Qv (fun u : Nat => u = D) (at_O dC dI 1 (va_A [(h0, .inr (1, [.int (nI D)]))] sz) h0) (va_A [(h0, .inr (1, [.int (nI D)]))] sz)) 0 0 (va_A [(h0, .inr (1, [.int (nI D)]))] sz) := by
  refine Met.ofW (cc := b_M_init) (maxL := 1) (ret := none) (by decide) rfl ?_
  intro p e s m args below meth c s₁ B hml hv
  obtain ⟨rfl, hsz, hP, hK, hD0⟩ := hv
  have hx := B.exec
  have hb := B.bytes
  have hr := B.returns
  have hts0 := atoms_spec (ws := Cond.code y_M_init b_M_init 1 none :: gT) B.pre
  have hts : ∀ w9 ∈ gT, w9.before [.ref h0].toArray s = true := fun w9 hw => hts0 w9 (List.mem_cons_of_mem _ hw)
  have hown : s.vm.findClass R_M = some m.cls := findClass_of_methodNamed B.named
  have hlocks := B.notSynchronized
  have S : CallFix p m c b_M_init 1 s [.ref h0].toArray gT R_M := ⟨hx, hb, hml, hown, hts⟩
  subst hsz
  have hD := hD0.self (sz := s.heap.size)
  generalize hAe : va_A [(h0, .inr (1, [.int (nI D)]))] s.heap.size = A at hD ⊢
  have hA : ∀ q : Nat, s.heap.size ≤ q → A q := fun q h => by rw [← hAe]; exact Or.inr h
  have hS : va_S A s.heap s.heap [] := va_S.rf
  have hP : va_P (dC, dI) classes [(h0, .inr (1, [.int (nI D)]))] s.heap := hP
  have hl := lv_entry ([.ref h0]) (n := 1) (Nat.le_of_ble_eq_true rfl)
  rw [lg_entry_eq]
  generalize (lg_sl ([.ref h0]) ++ List.replicate (1 - (lg_sl ([.ref h0])).length) Slot.unset).toArray = ls at hl ⊢
  have hl : lv_has ls 1 [(0, .ref h0)] := hl
  refine lv_aload_n (pc := 0) hx hb d_M_init_0 rfl (lv_at hl 0 rfl) ?_
  refine W.objInit (g := F0 m 1 ls [.ref h0]) hx hb hown (hts _ tm_92) (hts _ tm_10) (hts _ tm_11) rfl (by rw [hml]; exact hl.1) rfl d_M_init_1 (Nat.le_of_ble_eq_true rfl) (Nat.le_of_ble_eq_true rfl) ?_
  refine W.eq (g2 := F0 m 4 ls []) rfl ?_
  exact W.vret (pc := 4) hx hb hr (fun t ht hW => ⟨⟨D, rfl, rfl, by rw [ht]; exact hP, va_K.moved hW.alike hK, hD⟩, hS.F ht⟩) hS.2.2 d_M_init_4 hlocks
set_option maxHeartbeats 4000000 in
set_option maxRecDepth 100000 in
/-- load(d) -/
theorem c_D_load (l : Launch) (dC : Nat → ClassId) (dI : Nat → Nat → Nat) (h0 sz D : Nat) (k : Int32) : Met l y_D_load (Cond.code y_D_load b_D_load 2 none :: gT) ({ frames := 1, cells := 0, slots := 0, locals := 21 } : Room) (va_Pc [.ref h0, .int k] (fun U => U.heap.size = sz ∧ va_P (dC, dI) classes [(h0, .inr (0, [.int (nI D)]))] U.heap ∧ va_K (dC, dI) classes [] U ∧ va_D (fun _ => True) [(h0, .inr (0, [.int (nI D)]))])) (va_Qv (fun u : Nat => u = wd_wn k % 146097) (at_O dC dI 0 (va_A [(h0, .inr (0, [.int (nI D)]))] sz) h0) (va_A [(h0, .inr (0, [.int (nI D)]))] sz)) 0 0 (va_A [(h0, .inr (0, [.int (nI D)]))] sz) := by
  refine Met.ofW (cc := b_D_load) (maxL := 2) (ret := none) (by decide) rfl ?_
  intro p e s m args below meth c s₁ B hml hv
  obtain ⟨rfl, hsz, hP, hK, hD0⟩ := hv
  have hx := B.exec
  have hb := B.bytes
  have hr := B.returns
  have hts0 := atoms_spec (ws := Cond.code y_D_load b_D_load 2 none :: gT) B.pre
  have hts : ∀ w9 ∈ gT, w9.before [.ref h0, .int k].toArray s = true := fun w9 hw => hts0 w9 (List.mem_cons_of_mem _ hw)
  have hown : s.vm.findClass R_D = some m.cls := findClass_of_methodNamed B.named
  have hlocks := B.notSynchronized
  have S : CallFix p m c b_D_load 2 s [.ref h0, .int k].toArray gT R_D := ⟨hx, hb, hml, hown, hts⟩
  subst hsz
  have hD := hD0.self (sz := s.heap.size)
  generalize hAe : va_A [(h0, .inr (0, [.int (nI D)]))] s.heap.size = A at hD ⊢
  have hA : ∀ q : Nat, s.heap.size ≤ q → A q := fun q h => by rw [← hAe]; exact Or.inr h
  have hS : va_S A s.heap s.heap [] := va_S.rf
  have hP : va_P (dC, dI) classes [(h0, .inr (0, [.int (nI D)]))] s.heap := hP
  have hl := lv_entry ([.ref h0, .int k]) (n := 2) (Nat.le_of_ble_eq_true rfl)
  rw [lg_entry_eq]
  generalize (lg_sl ([.ref h0, .int k]) ++ List.replicate (2 - (lg_sl ([.ref h0, .int k])).length) Slot.unset).toArray = ls at hl ⊢
  have hl : lv_has ls 2 [(0, .ref h0), (1, .int k)] := hl
  refine lv_aload_n (pc := 0) hx hb d_D_load_0 rfl (lv_at hl 0 rfl) ?_
  refine lv_iload_n (pc := 1) hx hb d_D_load_1 rfl (lv_at hl 1 rfl) ?_
  refine lv_ldc (pc := 2) (v := nI 146097) hx hb hown (hts _ tm_20) d_D_load_2 ?_
  refine q_D_within (pc := 4) S k 146097 (by decide) (by decide) (Nat.le_of_ble_eq_true rfl) (Nat.le_of_ble_eq_true rfl) hl.1 (Nat.le_of_ble_eq_true rfl) d_D_load_4 ⟨Nat.le_of_ble_eq_true rfl, Nat.le_of_ble_eq_true rfl⟩ ?_
  refine va_put (pc := 7) (D := (dC, dI)) (ci := 0) (v := .int (nI (wd_wn k % 146097))) (ty := .int) (C := R_D) (T := F_D) (N := 1) hx hb hts in_D t_D t_D_ok n_D hown hK hP hD hS 0 rfl rfl 0 (by decide) (hts _ tm_12) (fun _ h9 => h9) rfl (by decide +kernel) rfl rfl (Nat.le_of_ble_eq_true rfl) d_D_load_7 (fun H locs hP hD hS => ?_)
  have hP : va_P (dC, dI) classes [(h0, .inr (0, [.int (nI (wd_wn k % 146097))]))] H := hP
  have hD : va_D A [(h0, .inr (0, [.int (nI (wd_wn k % 146097))]))] := hD
  exact W.vret (pc := 10) hx hb hr (fun t ht hW => ⟨⟨(wd_wn k % 146097), rfl, rfl, by rw [ht]; exact hP, va_K.moved hW.alike hK, hD⟩, hS.F ht⟩) hS.2.2 d_D_load_10 hlocks
set_option maxHeartbeats 4000000 in
set_option maxRecDepth 100000 in
/-- load(d) -/
theorem c_M_load (l : Launch) (dC : Nat → ClassId) (dI : Nat → Nat → Nat) (h0 sz D : Nat) (k : Int32) : Met l y_M_load (Cond.code y_M_load b_M_load 2 none :: gT) ({ frames := 0, cells := 0, slots := 0, locals := 0 } : Room) (va_Pc [.ref h0, .int k] (fun U => U.heap.size = sz ∧ va_P (dC, dI) classes [(h0, .inr (1, [.int (nI D)]))] U.heap ∧ va_K (dC, dI) classes [] U ∧ va_D (fun _ => True) [(h0, .inr (1, [.int (nI D)]))])) (va_Qv (fun u : Nat => u = wd_wn k % 146097) (at_O dC dI 1 (va_A [(h0, .inr (1, [.int (nI D)]))] sz) h0) (va_A [(h0, .inr (1, [.int (nI D)]))] sz)) 0 0 (va_A [(h0, .inr (1, [.int (nI D)]))] sz) := by
  refine Met.ofW (cc := b_M_load) (maxL := 2) (ret := none) (by decide) rfl ?_
  intro p e s m args below meth c s₁ B hml hv
  obtain ⟨rfl, hsz, hP, hK, hD0⟩ := hv
  have hx := B.exec
  have hb := B.bytes
  have hr := B.returns
  have hts0 := atoms_spec (ws := Cond.code y_M_load b_M_load 2 none :: gT) B.pre
  have hts : ∀ w9 ∈ gT, w9.before [.ref h0, .int k].toArray s = true := fun w9 hw => hts0 w9 (List.mem_cons_of_mem _ hw)
  have hown : s.vm.findClass R_M = some m.cls := findClass_of_methodNamed B.named
  have hlocks := B.notSynchronized
  have S : CallFix p m c b_M_load 2 s [.ref h0, .int k].toArray gT R_M := ⟨hx, hb, hml, hown, hts⟩
  subst hsz
  have hD := hD0.self (sz := s.heap.size)
  generalize hAe : va_A [(h0, .inr (1, [.int (nI D)]))] s.heap.size = A at hD ⊢
  have hA : ∀ q : Nat, s.heap.size ≤ q → A q := fun q h => by rw [← hAe]; exact Or.inr h
  have hS : va_S A s.heap s.heap [] := va_S.rf
  have hP : va_P (dC, dI) classes [(h0, .inr (1, [.int (nI D)]))] s.heap := hP
  have hl := lv_entry ([.ref h0, .int k]) (n := 2) (Nat.le_of_ble_eq_true rfl)
  rw [lg_entry_eq]
  generalize (lg_sl ([.ref h0, .int k]) ++ List.replicate (2 - (lg_sl ([.ref h0, .int k])).length) Slot.unset).toArray = ls at hl ⊢
  have hl : lv_has ls 2 [(0, .ref h0), (1, .int k)] := hl
  have g4 := wd_wn_lt k
  refine lv_aload_n (pc := 0) hx hb d_M_load_0 rfl (lv_at hl 0 rfl) ?_
  refine lv_iload_n (pc := 1) hx hb d_M_load_1 rfl (lv_at hl 1 rfl) ?_
  refine lv_ldc (pc := 2) (v := nI 2147483647) hx hb hown (hts _ tm_101) d_M_load_2 ?_
  refine nv_iandM (pc := 4) hx hb d_M_load_4 ?_
  refine lv_ldc (pc := 5) (v := nI 146097) hx hb hown (hts _ tm_102) d_M_load_5 ?_
  refine nv_irem (pc := 7) hx hb d_M_load_7 (by omega) (by omega) (by omega) ?_
  refine va_put (pc := 8) (D := (dC, dI)) (ci := 1) (v := .int (nI ((wd_wn k) % 146097))) (ty := .int) (C := R_M) (T := F_M) (N := 1) hx hb hts in_M t_M t_M_ok n_M hown hK hP hD hS 0 rfl rfl 0 (by decide) (hts _ tm_93) (fun _ h9 => h9) rfl (by decide +kernel) rfl rfl (Nat.le_of_ble_eq_true rfl) d_M_load_8 (fun H locs hP hD hS => ?_)
  have hP : va_P (dC, dI) classes [(h0, .inr (1, [.int (nI ((wd_wn k) % 146097))]))] H := hP
  have hD : va_D A [(h0, .inr (1, [.int (nI ((wd_wn k) % 146097))]))] := hD
  exact W.vret (pc := 11) hx hb hr (fun t ht hW => ⟨⟨((wd_wn k) % 146097), rfl, rfl, by rw [ht]; exact hP, va_K.moved hW.alike hK, hD⟩, hS.F ht⟩) hS.2.2 d_M_load_11 hlocks
set_option maxHeartbeats 4000000 in
set_option maxRecDepth 100000 in
/-- fromWeek(k, w, d) -/
theorem c_D_fromWeek (l : Launch) (dC : Nat → ClassId) (dI : Nat → Nat → Nat) (h0 sz D : Nat) (k w d : Int32) : Met l y_D_fromWeek (Cond.code y_D_fromWeek b_D_fromWeek 6 (some .boolean) :: gT) ({ frames := 3, cells := 0, slots := 0, locals := 61 } : Room) (va_Pc [.ref h0, .int k, .int w, .int d] (fun U => U.heap.size = sz ∧ va_P (dC, dI) classes [(h0, .inr (0, [.int (nI D)]))] U.heap ∧ va_K (dC, dI) classes [] U ∧ va_D (fun _ => True) [(h0, .inr (0, [.int (nI D)]))])) (va_Qi (fun (r : Int32) (u : Nat) => r = nI (wd_fwr k w) ∧ u = wd_fwd D k w d) (at_O dC dI 0 (va_A [(h0, .inr (0, [.int (nI D)]))] sz) h0) (va_A [(h0, .inr (0, [.int (nI D)]))] sz)) 0 0 (va_A [(h0, .inr (0, [.int (nI D)]))] sz) := by
  refine Met.ofW (cc := b_D_fromWeek) (maxL := 6) (ret := (some .boolean)) (by decide) rfl ?_
  intro p e s m args below meth c s₁ B hml hv
  obtain ⟨rfl, hsz, hP, hK, hD0⟩ := hv
  have hx := B.exec
  have hb := B.bytes
  have hr := B.returns
  have hts0 := atoms_spec (ws := Cond.code y_D_fromWeek b_D_fromWeek 6 (some .boolean) :: gT) B.pre
  have hts : ∀ w9 ∈ gT, w9.before [.ref h0, .int k, .int w, .int d].toArray s = true := fun w9 hw => hts0 w9 (List.mem_cons_of_mem _ hw)
  have hown : s.vm.findClass R_D = some m.cls := findClass_of_methodNamed B.named
  have hlocks := B.notSynchronized
  have S : CallFix p m c b_D_fromWeek 6 s [.ref h0, .int k, .int w, .int d].toArray gT R_D := ⟨hx, hb, hml, hown, hts⟩
  subst hsz
  have hD := hD0.self (sz := s.heap.size)
  generalize hAe : va_A [(h0, .inr (0, [.int (nI D)]))] s.heap.size = A at hD ⊢
  have hA : ∀ q : Nat, s.heap.size ≤ q → A q := fun q h => by rw [← hAe]; exact Or.inr h
  have hS : va_S A s.heap s.heap [] := va_S.rf
  have hP : va_P (dC, dI) classes [(h0, .inr (0, [.int (nI D)]))] s.heap := hP
  have hl := lv_entry ([.ref h0, .int k, .int w, .int d]) (n := 6) (Nat.le_of_ble_eq_true rfl)
  rw [lg_entry_eq]
  generalize (lg_sl ([.ref h0, .int k, .int w, .int d]) ++ List.replicate (6 - (lg_sl ([.ref h0, .int k, .int w, .int d])).length) Slot.unset).toArray = ls at hl ⊢
  have hl : lv_has ls 6 [(0, .ref h0), (1, .int k), (2, .int w), (3, .int d)] := hl
  have g2 := wd_yk_all k
  have g3 := wd_fs_3 (wd_yk k)
  have g4 := wd_mn_le g2.1 g2.2
  refine lv_iload_n (pc := 0) hx hb d_D_fromWeek_0 rfl (lv_at hl 1 rfl) ?_
  refine lv_sipush (pc := 1) (v := nI 400) hx hb d_D_fromWeek_1 (by decide) ?_
  refine q_D_within (pc := 4) S k 400 (by decide) (by decide) (Nat.le_of_ble_eq_true rfl) (Nat.le_of_ble_eq_true rfl) hl.1 (Nat.le_of_ble_eq_true rfl) d_D_fromWeek_4 ⟨Nat.le_of_ble_eq_true rfl, Nat.le_of_ble_eq_true rfl⟩ ?_
  refine lv_iconst (pc := 7) (v := nI 1) hx hb d_D_fromWeek_7 (by decide) ?_
  refine nv_iadd (pc := 8) hx hb d_D_fromWeek_8 ?_
  refine nv_to (wd_yk k) (by rfl) ?_
  refine lv_istore (pc := 9) (lv' := [(4, .int (nI (wd_yk k))), (0, .ref h0), (1, .int k), (2, .int w), (3, .int d)]) hx hb d_D_fromWeek_9 hl (by decide) rfl (fun ls hl => ?_)
  refine lv_iload_n (pc := 11) hx hb d_D_fromWeek_11 rfl (lv_at hl 3 rfl) ?_
  refine lv_bipush (pc := 12) (v := nI 53) hx hb d_D_fromWeek_12 (by decide) ?_
  refine q_D_within (pc := 14) S w 53 (by decide) (by decide) (Nat.le_of_ble_eq_true rfl) (Nat.le_of_ble_eq_true rfl) hl.1 (Nat.le_of_ble_eq_true rfl) d_D_fromWeek_14 ⟨Nat.le_of_ble_eq_true rfl, Nat.le_of_ble_eq_true rfl⟩ ?_
  refine lv_istore (pc := 17) (lv' := [(5, .int (nI (wd_wn w % 53))), (4, .int (nI (wd_yk k))), (0, .ref h0), (1, .int k), (2, .int w), (3, .int d)]) hx hb d_D_fromWeek_17 hl (by decide) rfl (fun ls hl => ?_)
  refine lv_iload (pc := 19) hx hb d_D_fromWeek_19 (lv_at hl 0 rfl) ?_
  refine lv_iload (pc := 21) hx hb d_D_fromWeek_21 (lv_at hl 1 rfl) ?_
  refine q_D_many (pc := 23) S (wd_yk k) g2.1 g2.2 (Nat.le_of_ble_eq_true rfl) (Nat.le_of_ble_eq_true rfl) hl.1 (Nat.le_of_ble_eq_true rfl) d_D_fromWeek_23 ⟨Nat.le_of_ble_eq_true rfl, Nat.le_of_ble_eq_true rfl⟩ ?_
  refine nv_icmp_lt (pc := 26) (tgt := 31) hx hb d_D_fromWeek_26 (by decide) (by omega) (by omega) (fun hc => ?_) (fun hc => ?_)
  · have z1 : wd_fwr k w = 1 := by unfold wd_fwr; rw [if_pos hc]
    have z2 : wd_fwd D k w d = wd_mo (wd_yk k) + 7 * (wd_wn w % 53) + wd_wn d % 7 := by unfold wd_fwd; rw [if_pos hc]
    refine lv_aload_n (pc := 31) hx hb d_D_fromWeek_31 rfl (lv_at hl 2 rfl) ?_
    refine lv_iload (pc := 32) hx hb d_D_fromWeek_32 (lv_at hl 1 rfl) ?_
    refine q_D_first (pc := 34) S (wd_yk k) g2.1 (by omega) (Nat.le_of_ble_eq_true rfl) (Nat.le_of_ble_eq_true rfl) hl.1 (Nat.le_of_ble_eq_true rfl) d_D_fromWeek_34 ⟨Nat.le_of_ble_eq_true rfl, Nat.le_of_ble_eq_true rfl⟩ ?_
    refine lv_iconst (pc := 37) (v := nI 3) hx hb d_D_fromWeek_37 (by decide) ?_
    refine nv_isub (pc := 38) hx hb d_D_fromWeek_38 (by omega) ?_
    refine lv_bipush (pc := 39) (v := nI 7) hx hb d_D_fromWeek_39 (by decide) ?_
    refine lv_iload (pc := 41) hx hb d_D_fromWeek_41 (lv_at hl 0 rfl) ?_
    refine nv_imul (pc := 43) hx hb d_D_fromWeek_43 ?_
    refine nv_iadd (pc := 44) hx hb d_D_fromWeek_44 ?_
    refine lv_iload_n (pc := 45) hx hb d_D_fromWeek_45 rfl (lv_at hl 5 rfl) ?_
    refine lv_bipush (pc := 46) (v := nI 7) hx hb d_D_fromWeek_46 (by decide) ?_
    refine q_D_within (pc := 48) S d 7 (by decide) (by decide) (Nat.le_of_ble_eq_true rfl) (Nat.le_of_ble_eq_true rfl) hl.1 (Nat.le_of_ble_eq_true rfl) d_D_fromWeek_48 ⟨Nat.le_of_ble_eq_true rfl, Nat.le_of_ble_eq_true rfl⟩ ?_
    refine nv_iadd (pc := 51) hx hb d_D_fromWeek_51 ?_
    refine va_put (pc := 52) (D := (dC, dI)) (ci := 0) (v := .int (nI ((((wd_fs (wd_yk k)) - 3) + (7 * (wd_wn w % 53))) + (wd_wn d % 7)))) (ty := .int) (C := R_D) (T := F_D) (N := 1) hx hb hts in_D t_D t_D_ok n_D hown hK hP hD hS 0 rfl rfl 0 (by decide) (hts _ tm_12) (fun _ h9 => h9) rfl (by decide +kernel) rfl rfl (Nat.le_of_ble_eq_true rfl) d_D_fromWeek_52 (fun H locs hP hD hS => ?_)
    have hP : va_P (dC, dI) classes [(h0, .inr (0, [.int (nI ((((wd_fs (wd_yk k)) - 3) + (7 * (wd_wn w % 53))) + (wd_wn d % 7)))]))] H := hP
    have hD : va_D A [(h0, .inr (0, [.int (nI ((((wd_fs (wd_yk k)) - 3) + (7 * (wd_wn w % 53))) + (wd_wn d % 7)))]))] := hD
    refine lv_iconst (pc := 55) (v := nI 1) hx hb d_D_fromWeek_55 (by decide) ?_
    exact W.zret (pc := 56) (v := nI 1) hx hb hr rfl (fun t ht hW => ⟨⟨nI 1, ((((wd_fs (wd_yk k)) - 3) + (7 * (wd_wn w % 53))) + (wd_wn d % 7)), rfl, ⟨by rw [z1], z2.symm⟩, by rw [ht]; exact hP, va_K.moved hW.alike hK, hD⟩, hS.F ht⟩) hS.2.2 d_D_fromWeek_56 hlocks
  · have z1 : wd_fwr k w = 0 := by unfold wd_fwr; rw [if_neg hc]
    have z2 : wd_fwd D k w d = D := by unfold wd_fwd; rw [if_neg hc]
    refine lv_iconst (pc := 29) (v := nI 0) hx hb d_D_fromWeek_29 (by decide) ?_
    exact W.zret (pc := 30) (v := nI 0) hx hb hr rfl (fun t ht hW => ⟨⟨nI 0, D, rfl, ⟨by rw [z1], z2.symm⟩, by rw [ht]; exact hP, va_K.moved hW.alike hK, hD⟩, hS.F ht⟩) hS.2.2 d_D_fromWeek_30 hlocks
set_option maxHeartbeats 4000000 in
set_option maxRecDepth 100000 in
/-- fromWeek(k, w, d) -/
theorem c_M_fromWeek (l : Launch) (dC : Nat → ClassId) (dI : Nat → Nat → Nat) (h0 sz D : Nat) (k w d : Int32) : Met l y_M_fromWeek (Cond.code y_M_fromWeek b_M_fromWeek 8 (some .boolean) :: gT) ({ frames := 4, cells := 0, slots := 0, locals := 86 } : Room) (va_Pc [.ref h0, .int k, .int w, .int d] (fun U => U.heap.size = sz ∧ va_P (dC, dI) classes [(h0, .inr (1, [.int (nI D)]))] U.heap ∧ va_K (dC, dI) classes [] U ∧ va_D (fun _ => True) [(h0, .inr (1, [.int (nI D)]))])) (va_Qi (fun (r : Int32) (u : Nat) => r = nI (wd_fwr k w) ∧ u = wd_fwd D k w d) (at_O dC dI 1 (va_A [(h0, .inr (1, [.int (nI D)]))] sz) h0) (va_A [(h0, .inr (1, [.int (nI D)]))] sz)) 0 0 (va_A [(h0, .inr (1, [.int (nI D)]))] sz) := by
  refine Met.ofW (cc := b_M_fromWeek) (maxL := 8) (ret := (some .boolean)) (by decide) rfl ?_
  intro p e s m args below meth c s₁ B hml hv
  obtain ⟨rfl, hsz, hP, hK, hD0⟩ := hv
  have hx := B.exec
  have hb := B.bytes
  have hr := B.returns
  have hts0 := atoms_spec (ws := Cond.code y_M_fromWeek b_M_fromWeek 8 (some .boolean) :: gT) B.pre
  have hts : ∀ w9 ∈ gT, w9.before [.ref h0, .int k, .int w, .int d].toArray s = true := fun w9 hw => hts0 w9 (List.mem_cons_of_mem _ hw)
  have hown : s.vm.findClass R_M = some m.cls := findClass_of_methodNamed B.named
  have hlocks := B.notSynchronized
  have S : CallFix p m c b_M_fromWeek 8 s [.ref h0, .int k, .int w, .int d].toArray gT R_M := ⟨hx, hb, hml, hown, hts⟩
  subst hsz
  have hD := hD0.self (sz := s.heap.size)
  generalize hAe : va_A [(h0, .inr (1, [.int (nI D)]))] s.heap.size = A at hD ⊢
  have hA : ∀ q : Nat, s.heap.size ≤ q → A q := fun q h => by rw [← hAe]; exact Or.inr h
  have hS : va_S A s.heap s.heap [] := va_S.rf
  have hP : va_P (dC, dI) classes [(h0, .inr (1, [.int (nI D)]))] s.heap := hP
  have hl := lv_entry ([.ref h0, .int k, .int w, .int d]) (n := 8) (Nat.le_of_ble_eq_true rfl)
  rw [lg_entry_eq]
  generalize (lg_sl ([.ref h0, .int k, .int w, .int d]) ++ List.replicate (8 - (lg_sl ([.ref h0, .int k, .int w, .int d])).length) Slot.unset).toArray = ls at hl ⊢
  have hl : lv_has ls 8 [(0, .ref h0), (1, .int k), (2, .int w), (3, .int d)] := hl
  have g2 := wd_yk_all k
  have g4 := wd_mn_le g2.1 g2.2
  have g5 := wd_wn_lt k
  have g6 := wd_wn_lt w
  have g7 := wd_wn_lt d
  have g8 := wd_mo_le g2.1 (by omega)
  refine lv_iconst (pc := 0) (v := nI 1) hx hb d_M_fromWeek_0 (by decide) ?_
  refine lv_iload_n (pc := 1) hx hb d_M_fromWeek_1 rfl (lv_at hl 1 rfl) ?_
  refine lv_ldc (pc := 2) (v := nI 2147483647) hx hb hown (hts _ tm_101) d_M_fromWeek_2 ?_
  refine nv_iandM (pc := 4) hx hb d_M_fromWeek_4 ?_
  refine lv_sipush (pc := 5) (v := nI 400) hx hb d_M_fromWeek_5 (by decide) ?_
  refine nv_irem (pc := 8) hx hb d_M_fromWeek_8 (by omega) (by omega) (by omega) ?_
  refine nv_iadd (pc := 9) hx hb d_M_fromWeek_9 ?_
  refine nv_to (wd_yk k) (by unfold wd_yk; omega) ?_
  refine lv_istore (pc := 10) (lv' := [(4, .int (nI (wd_yk k))), (0, .ref h0), (1, .int k), (2, .int w), (3, .int d)]) hx hb d_M_fromWeek_10 hl (by decide) rfl (fun ls hl => ?_)
  refine lv_iconst (pc := 12) (v := nI 1) hx hb d_M_fromWeek_12 (by decide) ?_
  refine lv_iload_n (pc := 13) hx hb d_M_fromWeek_13 rfl (lv_at hl 3 rfl) ?_
  refine lv_ldc (pc := 14) (v := nI 2147483647) hx hb hown (hts _ tm_101) d_M_fromWeek_14 ?_
  refine nv_iandM (pc := 16) hx hb d_M_fromWeek_16 ?_
  refine lv_bipush (pc := 17) (v := nI 53) hx hb d_M_fromWeek_17 (by decide) ?_
  refine nv_irem (pc := 19) hx hb d_M_fromWeek_19 (by omega) (by omega) (by omega) ?_
  refine nv_iadd (pc := 20) hx hb d_M_fromWeek_20 ?_
  refine lv_istore (pc := 21) (lv' := [(5, .int (nI (1 + ((wd_wn w) % 53)))), (4, .int (nI (wd_yk k))), (0, .ref h0), (1, .int k), (2, .int w), (3, .int d)]) hx hb d_M_fromWeek_21 hl (by decide) rfl (fun ls hl => ?_)
  refine lv_iload_n (pc := 23) hx hb d_M_fromWeek_23 rfl (lv_at hl 5 rfl) ?_
  refine lv_ldc (pc := 24) (v := nI 2147483647) hx hb hown (hts _ tm_101) d_M_fromWeek_24 ?_
  refine nv_iandM (pc := 26) hx hb d_M_fromWeek_26 ?_
  refine lv_bipush (pc := 27) (v := nI 7) hx hb d_M_fromWeek_27 (by decide) ?_
  refine nv_irem (pc := 29) hx hb d_M_fromWeek_29 (by omega) (by omega) (by omega) ?_
  refine lv_istore (pc := 30) (lv' := [(6, .int (nI ((wd_wn d) % 7))), (5, .int (nI (1 + ((wd_wn w) % 53)))), (4, .int (nI (wd_yk k))), (0, .ref h0), (1, .int k), (2, .int w), (3, .int d)]) hx hb d_M_fromWeek_30 hl (by decide) rfl (fun ls hl => ?_)
  refine lv_aload_n (pc := 32) hx hb d_M_fromWeek_32 rfl (lv_at hl 3 rfl) ?_
  refine lv_iload (pc := 33) hx hb d_M_fromWeek_33 (lv_at hl 2 rfl) ?_
  refine q_M_monday (pc := 35) S hK hP 0 rfl (wd_yk k) g2.1 (by omega) (Nat.le_of_ble_eq_true rfl) (Nat.le_of_ble_eq_true rfl) hl.1 (Nat.le_of_ble_eq_true rfl) d_M_fromWeek_35 ⟨Nat.le_of_ble_eq_true rfl, Nat.le_of_ble_eq_true rfl⟩ ?_
  refine lv_bipush (pc := 38) (v := nI 7) hx hb d_M_fromWeek_38 (by decide) ?_
  refine lv_iload (pc := 40) hx hb d_M_fromWeek_40 (lv_at hl 1 rfl) ?_
  refine lv_iconst (pc := 42) (v := nI 1) hx hb d_M_fromWeek_42 (by decide) ?_
  refine nv_isub (pc := 43) hx hb d_M_fromWeek_43 (by omega) ?_
  refine nv_imul (pc := 44) hx hb d_M_fromWeek_44 ?_
  refine nv_iadd (pc := 45) hx hb d_M_fromWeek_45 ?_
  refine lv_iload (pc := 46) hx hb d_M_fromWeek_46 (lv_at hl 0 rfl) ?_
  refine nv_iadd (pc := 48) hx hb d_M_fromWeek_48 ?_
  refine nv_to (wd_mo (wd_yk k) + 7 * (wd_wn w % 53) + wd_wn d % 7) (by omega) ?_
  refine lv_istore (pc := 49) (lv' := [(7, .int (nI (wd_mo (wd_yk k) + 7 * (wd_wn w % 53) + wd_wn d % 7))), (6, .int (nI ((wd_wn d) % 7))), (5, .int (nI (1 + ((wd_wn w) % 53)))), (4, .int (nI (wd_yk k))), (0, .ref h0), (1, .int k), (2, .int w), (3, .int d)]) hx hb d_M_fromWeek_49 hl (by decide) rfl (fun ls hl => ?_)
  refine lv_iload (pc := 51) hx hb d_M_fromWeek_51 (lv_at hl 2 rfl) ?_
  refine lv_aload_n (pc := 53) hx hb d_M_fromWeek_53 rfl (lv_at hl 4 rfl) ?_
  refine lv_iload (pc := 54) hx hb d_M_fromWeek_54 (lv_at hl 3 rfl) ?_
  refine lv_iconst (pc := 56) (v := nI 1) hx hb d_M_fromWeek_56 (by decide) ?_
  refine nv_isub (pc := 57) hx hb d_M_fromWeek_57 (by omega) ?_
  refine q_M_weeks (pc := 58) S hK hP 0 rfl (nI (wd_yk k - 1)) (Nat.le_of_ble_eq_true rfl) (Nat.le_of_ble_eq_true rfl) hl.1 (Nat.le_of_ble_eq_true rfl) d_M_fromWeek_58 ⟨Nat.le_of_ble_eq_true rfl, Nat.le_of_ble_eq_true rfl⟩ ?_
  refine nv_to (wd_mn (wd_yk k)) (by rw [wd_yk_nI g2.1 g2.2]) ?_
  refine nv_icmp_gt (pc := 61) (tgt := 76) hx hb d_M_fromWeek_61 (by decide) (by omega) (by omega) (fun hc => ?_) (fun hc => ?_)
  · have hn : ¬ wd_wn w % 53 < wd_mn (wd_yk k) := by omega
    have z1 : wd_fwr k w = 0 := by unfold wd_fwr; rw [if_neg hn]
    have z2 : wd_fwd D k w d = D := by unfold wd_fwd; rw [if_neg hn]
    refine lv_iconst (pc := 76) (v := nI 0) hx hb d_M_fromWeek_76 (by decide) ?_
    exact W.zret (pc := 77) (v := nI 0) hx hb hr rfl (fun t ht hW => ⟨⟨nI 0, D, rfl, ⟨by rw [z1], z2.symm⟩, by rw [ht]; exact hP, va_K.moved hW.alike hK, hD⟩, hS.F ht⟩) hS.2.2 d_M_fromWeek_77 hlocks
  · have hn : wd_wn w % 53 < wd_mn (wd_yk k) := by omega
    have z1 : wd_fwr k w = 1 := by unfold wd_fwr; rw [if_pos hn]
    have z2 : wd_fwd D k w d = wd_mo (wd_yk k) + 7 * (wd_wn w % 53) + wd_wn d % 7 := by unfold wd_fwd; rw [if_pos hn]
    have z3 := wd_from (e := wd_wn d % 7) g2.1 g2.2 hn (Nat.mod_lt _ (by decide))
    refine lv_iload (pc := 64) hx hb d_M_fromWeek_64 (lv_at hl 0 rfl) ?_
    refine nv_if_lt0 (pc := 66) (tgt := 76) hx hb d_M_fromWeek_66 (by decide) (by omega) ?_
    refine lv_iload (pc := 69) hx hb d_M_fromWeek_69 (lv_at hl 0 rfl) ?_
    refine lv_ldc (pc := 71) (v := nI 146097) hx hb hown (hts _ tm_102) d_M_fromWeek_71 ?_
    refine nv_icmp_lt (pc := 73) (tgt := 78) hx hb d_M_fromWeek_73 (by decide) (by omega) (by omega) (fun hq => ?_) (fun hq => ?_)
    · refine lv_aload_n (pc := 78) hx hb d_M_fromWeek_78 rfl (lv_at hl 4 rfl) ?_
      refine lv_iload (pc := 79) hx hb d_M_fromWeek_79 (lv_at hl 0 rfl) ?_
      refine va_put (pc := 81) (D := (dC, dI)) (ci := 1) (v := .int (nI (wd_mo (wd_yk k) + 7 * (wd_wn w % 53) + wd_wn d % 7))) (ty := .int) (C := R_M) (T := F_M) (N := 1) hx hb hts in_M t_M t_M_ok n_M hown hK hP hD hS 0 rfl rfl 0 (by decide) (hts _ tm_93) (fun _ h9 => h9) rfl (by decide +kernel) rfl rfl (Nat.le_of_ble_eq_true rfl) d_M_fromWeek_81 (fun H locs hP hD hS => ?_)
      have hP : va_P (dC, dI) classes [(h0, .inr (1, [.int (nI (wd_mo (wd_yk k) + 7 * (wd_wn w % 53) + wd_wn d % 7))]))] H := hP
      have hD : va_D A [(h0, .inr (1, [.int (nI (wd_mo (wd_yk k) + 7 * (wd_wn w % 53) + wd_wn d % 7))]))] := hD
      refine lv_iconst (pc := 84) (v := nI 1) hx hb d_M_fromWeek_84 (by decide) ?_
      exact W.zret (pc := 85) (v := nI 1) hx hb hr rfl (fun t ht hW => ⟨⟨nI 1, (wd_mo (wd_yk k) + 7 * (wd_wn w % 53) + wd_wn d % 7), rfl, ⟨by rw [z1], z2.symm⟩, by rw [ht]; exact hP, va_K.moved hW.alike hK, hD⟩, hS.F ht⟩) hS.2.2 d_M_fromWeek_85 hlocks
    · exact absurd z3 hq
end
section
def wd_vL : Nat → Value := fun j => .int (nI (wd_tL j))
def wd_vP : Nat → Value := fun j => .int (nI (wd_tP j))
/-- the two static tables -/
def tbOk (U : State) (H : Heap) : Prop := ∃ t1 t2 : Nat, va_Z "WeekDesk" "LEAP" "[I" (.ref t1) (fun _ => False) U H ∧ va_T .int t1 7 wd_vL (fun _ => False) U H ∧ va_Z "WeekDesk" "PLAIN" "[I" (.ref t2) (fun _ => False) U H ∧ va_T .int t2 7 wd_vP (fun _ => False) U H
theorem tbOk.moved {u U : State} {H : Heap} (hvm : u.vm.Alike U.vm) (h : tbOk u H) : tbOk U H := by
  obtain ⟨t1, t2, z1, a1, z2, a2⟩ := h
  exact ⟨t1, t2, va_Z.moved hvm z1, va_T.moved hvm a1, va_Z.moved hvm z2, va_T.moved hvm a2⟩
def PcF (dC : Nat → ClassId) (dI : Nat → Nat → Nat) (h0 D : Nat) (av : List Value) : Array Value → State → Prop := va_Pc (.ref h0 :: av) (fun U => (va_P (dC, dI) classes [(h0, .inr (0, [.int (nI D)]))] U.heap ∧ va_K (dC, dI) classes [] U) ∧ tbOk U U.heap)
theorem pcF_blind (dC : Nat → ClassId) (dI : Nat → Nat → Nat) (h0 D : Nat) (av : List Value) : FrameBlind (PcF dC dI h0 D av) := by
  intro a U g mk q
  obtain ⟨q0, ⟨qP, qK⟩, qT⟩ := q
  exact ⟨q0, ⟨qP, va_K.moved (u := U) (U := U.calling g mk a) (Vm.Alike.refl U.vm) qK⟩, tbOk.moved (u := U) (U := U.calling g mk a) (Vm.Alike.refl U.vm) qT⟩
theorem pcF_pre {dC : Nat → ClassId} {dI : Nat → Nat → Nat} {h0 D : Nat} {s : State} {H : Heap} {ws : va_W} (av : List Value) (hK : va_K (dC, dI) classes [] s) (hP : va_P (dC, dI) classes ws H) (hT : tbOk s H) (q0 : Nat) (he : ws[q0]? = some (h0, .inr (0, [.int (nI D)]))) : PreV s H R_D h0 (PcF dC dI h0 D av) av := by
  refine ⟨pcF_blind dC dI h0 D av, va_recv (q := (R_D, F_D, 1)) hK hP rfl he, fun U hU hW => ⟨rfl, ⟨?_, va_K.moved hW.alike hK⟩, ?_⟩⟩
  · rw [hU]
    exact hP.sub [q0] (by simp [he])
  · rw [hU]
    exact tbOk.moved hW.alike hT
set_option maxHeartbeats 4000000 in
set_option maxRecDepth 100000 in
/-- fridays(k) -/
theorem c_D_fridays (l : Launch) (dC : Nat → ClassId) (dI : Nat → Nat → Nat) (h0 D : Nat) (k : Int32) : Met l y_D_fridays (Cond.code y_D_fridays b_D_fridays 4 (some .int) :: gT) ({ frames := 1, cells := 0, slots := 0, locals := 21 } : Room) (PcF dC dI h0 D [.int k]) (QcRead (nI (wd_fr (wd_yk k)))) 0 0 (fun _ => False) := by
  refine Met.ofW (cc := b_D_fridays) (maxL := 4) (ret := (some .int)) (by decide) rfl ?_
  intro p e s m args below meth c s₁ B hml hv
  obtain ⟨rfl, ⟨hP, hK⟩, t1, t2, z1, a1, z2, a2⟩ := hv
  have hts0 := atoms_spec (ws := Cond.code y_D_fridays b_D_fridays 4 (some .int) :: gT) B.pre
  rw [lg_entry_eq]
  have hl := lv_entry ([.ref h0, .int k]) (n := 4) (Nat.le_of_ble_eq_true rfl)
  generalize (lg_sl ([.ref h0, .int k]) ++ List.replicate (4 - (lg_sl ([.ref h0, .int k])).length) Slot.unset).toArray = ls at hl ⊢
  have hl : lv_has ls 4 [(0, .ref h0), (1, .int k)] := hl
  have hr := B.returns
  have hlocks := B.notSynchronized
  have S : CallFix p m c b_D_fridays 4 s [.ref h0, .int k].toArray gT R_D := ⟨B.exec, B.bytes, hml, findClass_of_methodNamed B.named, fun w hw => hts0 w (List.mem_cons_of_mem _ hw)⟩
  obtain ⟨hx, hb, hml, hown, hts⟩ := id S
  have g2 := wd_yk_all k
  have g3 := wd_bg_up g2.1 (by omega)
  have g4 := wd_lv_le (wd_yk k)
  refine lv_iload_n (pc := 0) hx hb d_D_fridays_0 rfl (lv_at hl 1 rfl) ?_
  refine lv_sipush (pc := 1) (v := nI 400) hx hb d_D_fridays_1 (by decide) ?_
  refine q_D_within (pc := 4) S k 400 (by decide) (by decide) (Nat.le_of_ble_eq_true rfl) (Nat.le_of_ble_eq_true rfl) hl.1 (Nat.le_of_ble_eq_true rfl) d_D_fridays_4 ⟨Nat.le_of_ble_eq_true rfl, Nat.le_of_ble_eq_true rfl⟩ ?_
  refine lv_iconst (pc := 7) (v := nI 1) hx hb d_D_fridays_7 (by decide) ?_
  refine nv_iadd (pc := 8) hx hb d_D_fridays_8 ?_
  refine nv_to (wd_yk k) (by rfl) ?_
  refine lv_istore_n (pc := 9) (lv' := [(2, .int (nI (wd_yk k))), (0, .ref h0), (1, .int k)]) hx hb d_D_fridays_9 rfl hl (by decide) rfl (fun ls hl => ?_)
  refine lv_iload_n (pc := 10) hx hb d_D_fridays_10 rfl (lv_at hl 0 rfl) ?_
  refine q_D_begin (pc := 11) S (wd_yk k) g2.1 (by omega) (Nat.le_of_ble_eq_true rfl) (Nat.le_of_ble_eq_true rfl) hl.1 (Nat.le_of_ble_eq_true rfl) d_D_fridays_11 ⟨Nat.le_of_ble_eq_true rfl, Nat.le_of_ble_eq_true rfl⟩ ?_
  refine lv_bipush (pc := 14) (v := nI 7) hx hb d_D_fridays_14 (by decide) ?_
  refine nv_irem (pc := 16) hx hb d_D_fridays_16 (by omega) (by omega) (by omega) ?_
  refine lv_istore_n (pc := 17) (lv' := [(3, .int (nI ((wd_bg (wd_yk k)) % 7))), (2, .int (nI (wd_yk k))), (0, .ref h0), (1, .int k)]) hx hb d_D_fridays_17 rfl hl (by decide) rfl (fun ls hl => ?_)
  refine lv_iload_n (pc := 18) hx hb d_D_fridays_18 rfl (lv_at hl 1 rfl) ?_
  refine q_D_isLeap (pc := 19) S (wd_yk k) g2.1 g2.2 (Nat.le_of_ble_eq_true rfl) (Nat.le_of_ble_eq_true rfl) hl.1 (Nat.le_of_ble_eq_true rfl) d_D_fridays_19 ⟨Nat.le_of_ble_eq_true rfl, Nat.le_of_ble_eq_true rfl⟩ ?_
  refine nv_if_eq (pc := 22) (tgt := 33) hx hb d_D_fridays_22 (by decide) (by omega) (fun hc => ?_) (fun hc => ?_)
  · refine va_gets (pc := 33) (A := fun _ => False) (v := .ref t2) hx hb z2 va_S.rf hown (hts _ tm_81) (fun _ h9 => h9) d_D_fridays_33 ?_
    refine lv_iload_n (pc := 36) hx hb d_D_fridays_36 rfl (lv_at hl 0 rfl) ?_
    refine va_ti (pc := 37) (A := fun _ => False) (v := .int (nI (wd_tP (wd_bg (wd_yk k) % 7)))) hx hb a2 va_S.rf (vp_in_nI (by omega) (by decide)) (by show Value.int (nI (wd_tP (nI _).toNatClampNeg)) = _; rw [nI_clamp (by omega)]) d_D_fridays_37 ?_
    exact nv_iret (pc := 38) hx hb hr hlocks (by unfold wd_fr; rw [if_pos hc]) d_D_fridays_38
  · refine va_gets (pc := 25) (A := fun _ => False) (v := .ref t1) hx hb z1 va_S.rf hown (hts _ tm_79) (fun _ h9 => h9) d_D_fridays_25 ?_
    refine lv_iload_n (pc := 28) hx hb d_D_fridays_28 rfl (lv_at hl 0 rfl) ?_
    refine va_ti (pc := 29) (A := fun _ => False) (v := .int (nI (wd_tL (wd_bg (wd_yk k) % 7)))) hx hb a1 va_S.rf (vp_in_nI (by omega) (by decide)) (by show Value.int (nI (wd_tL (nI _).toNatClampNeg)) = _; rw [nI_clamp (by omega)]) d_D_fridays_29 ?_
    refine lv_goto (pc := 30) (tgt := 38) hx hb d_D_fridays_30 (by decide) ?_
    exact nv_iret (pc := 38) hx hb hr hlocks (by unfold wd_fr; rw [if_neg hc]) d_D_fridays_38
end
section
theorem q_law_D_weekday {p : Program} {l : Launch} {e : Env} {R : Room} {s : State} {m : MethodId} {args : Array Value} {below : List Frame} {meth : Method} {c : Code} {H : Heap} {locs : List Loc} {cells slots : Nat} {Q : State → Prop} {cc : ByteArray} {pc nL : Nat} {ls : Array Slot} {rest : List Value} {dC : Nat → ClassId} {dI : Nat → Nat → Nat} {h0 D : Nat} {ws : va_W} (S : CallFix p m c cc nL s args gT R_law) (hK : va_K (dC, dI) classes [] s) (hP : va_P (dC, dI) classes ws H) (j : Nat) (he : ws[j]? = some (h0, .inr (0, [.int (nI D)]))) (hD : D < 146097) (hR1 : 0 + 1 ≤ R.frames) (hR2 : 8 + (1 + 11) + 0 ≤ R.locals) (hsize : ls.size = nL) (hW : (rest.map fun v => v.category).sum ≤ 8) (hdg : decode cc pc = .ok (.invokevirtual 18, 3)) (hf : cells + 0 ≤ R.cells ∧ slots + 0 ≤ R.slots) (kk : W p l e R s m args below meth c H locs cells slots Q (F0 m (pc + 3) ls (.int (nI (D % 7 + 1)) :: rest))) : W p l e R s m args below meth c H locs cells slots Q (F0 m pc ls (.ref h0 :: rest)) :=
  nv_callV (n := 0) S (c_D_weekday l dC dI h0 D hD) (pcO_pre [] hK hP j he rfl) (goodV tm_25 tm_26 tm_27 tm_1 tm_28) (by decide +kernel) rfl rfl ⟨hR1, hR2⟩ rfl hsize rfl hW hdg hf kk
theorem q_law_D_weekYear {p : Program} {l : Launch} {e : Env} {R : Room} {s : State} {m : MethodId} {args : Array Value} {below : List Frame} {meth : Method} {c : Code} {H : Heap} {locs : List Loc} {cells slots : Nat} {Q : State → Prop} {cc : ByteArray} {pc nL : Nat} {ls : Array Slot} {rest : List Value} {dC : Nat → ClassId} {dI : Nat → Nat → Nat} {h0 D : Nat} {ws : va_W} (S : CallFix p m c cc nL s args gT R_law) (hK : va_K (dC, dI) classes [] s) (hP : va_P (dC, dI) classes ws H) (j : Nat) (he : ws[j]? = some (h0, .inr (0, [.int (nI D)]))) (hD : D < 146097) (hR1 : 2 + 1 ≤ R.frames) (hR2 : 8 + (1 + 11) + 37 ≤ R.locals) (hsize : ls.size = nL) (hW : (rest.map fun v => v.category).sum ≤ 8) (hdg : decode cc pc = .ok (.invokevirtual 23, 3)) (hf : cells + 0 ≤ R.cells ∧ slots + 0 ≤ R.slots) (kk : W p l e R s m args below meth c H locs cells slots Q (F0 m (pc + 3) ls (.int (nI (wd_yr (wd_th D))) :: rest))) : W p l e R s m args below meth c H locs cells slots Q (F0 m pc ls (.ref h0 :: rest)) :=
  nv_callV (n := 0) S (c_D_weekYear l dC dI h0 D hD) (pcO_pre [] hK hP j he rfl) (goodV tm_29 tm_30 tm_31 tm_1 tm_32) (by decide +kernel) rfl rfl ⟨hR1, hR2⟩ rfl hsize rfl hW hdg hf kk
theorem q_law_D_week {p : Program} {l : Launch} {e : Env} {R : Room} {s : State} {m : MethodId} {args : Array Value} {below : List Frame} {meth : Method} {c : Code} {H : Heap} {locs : List Loc} {cells slots : Nat} {Q : State → Prop} {cc : ByteArray} {pc nL : Nat} {ls : Array Slot} {rest : List Value} {dC : Nat → ClassId} {dI : Nat → Nat → Nat} {h0 D : Nat} {ws : va_W} (S : CallFix p m c cc nL s args gT R_law) (hK : va_K (dC, dI) classes [] s) (hP : va_P (dC, dI) classes ws H) (j : Nat) (he : ws[j]? = some (h0, .inr (0, [.int (nI D)]))) (hD : D < 146097) (hR1 : 2 + 1 ≤ R.frames) (hR2 : 8 + (2 + 11) + 37 ≤ R.locals) (hsize : ls.size = nL) (hW : (rest.map fun v => v.category).sum ≤ 8) (hdg : decode cc pc = .ok (.invokevirtual 27, 3)) (hf : cells + 0 ≤ R.cells ∧ slots + 0 ≤ R.slots) (kk : W p l e R s m args below meth c H locs cells slots Q (F0 m (pc + 3) ls (.int (nI ((wd_th D - wd_bg (wd_yr (wd_th D))) / 7 + 1)) :: rest))) : W p l e R s m args below meth c H locs cells slots Q (F0 m pc ls (.ref h0 :: rest)) :=
  nv_callV (n := 0) S (c_D_week l dC dI h0 D hD) (pcO_pre [] hK hP j he rfl) (goodV tm_43 tm_44 tm_45 tm_1 tm_46) (by decide +kernel) rfl rfl ⟨hR1, hR2⟩ rfl hsize rfl hW hdg hf kk
theorem q_law_D_weeks {p : Program} {l : Launch} {e : Env} {R : Room} {s : State} {m : MethodId} {args : Array Value} {below : List Frame} {meth : Method} {c : Code} {H : Heap} {locs : List Loc} {cells slots : Nat} {Q : State → Prop} {cc : ByteArray} {pc nL : Nat} {ls : Array Slot} {rest : List Value} {dC : Nat → ClassId} {dI : Nat → Nat → Nat} {h0 D : Nat} {ws : va_W} (S : CallFix p m c cc nL s args gT R_law) (hK : va_K (dC, dI) classes [] s) (hP : va_P (dC, dI) classes ws H) (j : Nat) (he : ws[j]? = some (h0, .inr (0, [.int (nI D)]))) (k : Int32) (hR1 : 3 + 1 ≤ R.frames) (hR2 : 8 + (2 + 11) + 61 ≤ R.locals) (hsize : ls.size = nL) (hW : (rest.map fun v => v.category).sum ≤ 8) (hdg : decode cc pc = .ok (.invokevirtual 31, 3)) (hf : cells + 0 ≤ R.cells ∧ slots + 0 ≤ R.slots) (kk : W p l e R s m args below meth c H locs cells slots Q (F0 m (pc + 3) ls (.int (nI (wd_mn (wd_yk k))) :: rest))) : W p l e R s m args below meth c H locs cells slots Q (F0 m pc ls (.int k :: .ref h0 :: rest)) :=
  nv_callV (n := 1) S (c_D_weeks l dC dI h0 D k) (pcO_pre [.int k] hK hP j he rfl) (goodV tm_50 tm_51 tm_52 tm_1 tm_53) (by decide +kernel) rfl rfl ⟨hR1, hR2⟩ rfl hsize rfl hW hdg hf kk
theorem q_law_D_dayOfYear {p : Program} {l : Launch} {e : Env} {R : Room} {s : State} {m : MethodId} {args : Array Value} {below : List Frame} {meth : Method} {c : Code} {H : Heap} {locs : List Loc} {cells slots : Nat} {Q : State → Prop} {cc : ByteArray} {pc nL : Nat} {ls : Array Slot} {rest : List Value} {dC : Nat → ClassId} {dI : Nat → Nat → Nat} {h0 D : Nat} {ws : va_W} (S : CallFix p m c cc nL s args gT R_law) (hK : va_K (dC, dI) classes [] s) (hP : va_P (dC, dI) classes ws H) (j : Nat) (he : ws[j]? = some (h0, .inr (0, [.int (nI D)]))) (hD : D < 146097) (hR1 : 2 + 1 ≤ R.frames) (hR2 : 8 + (1 + 11) + 37 ≤ R.locals) (hsize : ls.size = nL) (hW : (rest.map fun v => v.category).sum ≤ 8) (hdg : decode cc pc = .ok (.invokevirtual 41, 3)) (hf : cells + 0 ≤ R.cells ∧ slots + 0 ≤ R.slots) (kk : W p l e R s m args below meth c H locs cells slots Q (F0 m (pc + 3) ls (.int (nI (D - wd_bg (wd_yr D) + 1)) :: rest))) : W p l e R s m args below meth c H locs cells slots Q (F0 m pc ls (.ref h0 :: rest)) :=
  nv_callV (n := 0) S (c_D_dayOfYear l dC dI h0 D hD) (pcO_pre [] hK hP j he rfl) (goodV tm_64 tm_65 tm_66 tm_1 tm_67) (by decide +kernel) rfl rfl ⟨hR1, hR2⟩ rfl hsize rfl hW hdg hf kk
theorem q_law_D_yearOf {p : Program} {l : Launch} {e : Env} {R : Room} {s : State} {m : MethodId} {args : Array Value} {below : List Frame} {meth : Method} {c : Code} {H : Heap} {locs : List Loc} {cells slots : Nat} {Q : State → Prop} {cc : ByteArray} {pc nL : Nat} {ls : Array Slot} {rest : List Value} {dC : Nat → ClassId} {dI : Nat → Nat → Nat} {h0 D : Nat} {ws : va_W} (S : CallFix p m c cc nL s args gT R_law) (hK : va_K (dC, dI) classes [] s) (hP : va_P (dC, dI) classes ws H) (j : Nat) (he : ws[j]? = some (h0, .inr (0, [.int (nI D)]))) (hD : D < 146097) (hR1 : 2 + 1 ≤ R.frames) (hR2 : 8 + (1 + 11) + 37 ≤ R.locals) (hsize : ls.size = nL) (hW : (rest.map fun v => v.category).sum ≤ 8) (hdg : decode cc pc = .ok (.invokevirtual 45, 3)) (hf : cells + 0 ≤ R.cells ∧ slots + 0 ≤ R.slots) (kk : W p l e R s m args below meth c H locs cells slots Q (F0 m (pc + 3) ls (.int (nI (wd_yr D)) :: rest))) : W p l e R s m args below meth c H locs cells slots Q (F0 m pc ls (.ref h0 :: rest)) :=
  nv_callV (n := 0) S (c_D_yearOf l dC dI h0 D hD) (pcO_pre [] hK hP j he rfl) (goodV tm_68 tm_69 tm_70 tm_1 tm_71) (by decide +kernel) rfl rfl ⟨hR1, hR2⟩ rfl hsize rfl hW hdg hf kk
theorem q_law_D_easter {p : Program} {l : Launch} {e : Env} {R : Room} {s : State} {m : MethodId} {args : Array Value} {below : List Frame} {meth : Method} {c : Code} {H : Heap} {locs : List Loc} {cells slots : Nat} {Q : State → Prop} {cc : ByteArray} {pc nL : Nat} {ls : Array Slot} {rest : List Value} {dC : Nat → ClassId} {dI : Nat → Nat → Nat} {h0 D : Nat} {ws : va_W} (S : CallFix p m c cc nL s args gT R_law) (hK : va_K (dC, dI) classes [] s) (hP : va_P (dC, dI) classes ws H) (j : Nat) (he : ws[j]? = some (h0, .inr (0, [.int (nI D)]))) (k : Int32) (hR1 : 1 + 1 ≤ R.frames) (hR2 : 8 + (10 + 11) + 21 ≤ R.locals) (hsize : ls.size = nL) (hW : (rest.map fun v => v.category).sum ≤ 8) (hdg : decode cc pc = .ok (.invokevirtual 53, 3)) (hf : cells + 0 ≤ R.cells ∧ slots + 0 ≤ R.slots) (kk : W p l e R s m args below meth c H locs cells slots Q (F0 m (pc + 3) ls (.int (wd_ea (nI (wd_yk k))) :: rest))) : W p l e R s m args below meth c H locs cells slots Q (F0 m pc ls (.int k :: .ref h0 :: rest)) :=
  nv_callV (n := 1) S (c_D_easter l dC dI h0 D k) (pcO_pre [.int k] hK hP j he rfl) (goodV tm_83 tm_84 tm_85 tm_1 tm_86) (by decide +kernel) rfl rfl ⟨hR1, hR2⟩ rfl hsize rfl hW hdg hf kk
theorem q_law_M_weekday {p : Program} {l : Launch} {e : Env} {R : Room} {s : State} {m : MethodId} {args : Array Value} {below : List Frame} {meth : Method} {c : Code} {H : Heap} {locs : List Loc} {cells slots : Nat} {Q : State → Prop} {cc : ByteArray} {pc nL : Nat} {ls : Array Slot} {rest : List Value} {dC : Nat → ClassId} {dI : Nat → Nat → Nat} {h0 D : Nat} {ws : va_W} (S : CallFix p m c cc nL s args gT R_law) (hK : va_K (dC, dI) classes [] s) (hP : va_P (dC, dI) classes ws H) (j : Nat) (he : ws[j]? = some (h0, .inr (1, [.int (nI D)]))) (hD : D < 146097) (hR1 : 0 + 1 ≤ R.frames) (hR2 : 8 + (1 + 11) + 0 ≤ R.locals) (hsize : ls.size = nL) (hW : (rest.map fun v => v.category).sum ≤ 8) (hdg : decode cc pc = .ok (.invokevirtual 22, 3)) (hf : cells + 0 ≤ R.cells ∧ slots + 0 ≤ R.slots) (kk : W p l e R s m args below meth c H locs cells slots Q (F0 m (pc + 3) ls (.int (nI (D % 7 + 1)) :: rest))) : W p l e R s m args below meth c H locs cells slots Q (F0 m pc ls (.ref h0 :: rest)) :=
  nv_callV (n := 0) S (c_M_weekday l dC dI h0 D hD) (pcO_pre [] hK hP j he rfl) (goodV tm_103 tm_104 tm_105 tm_2 tm_106) (by decide +kernel) rfl rfl ⟨hR1, hR2⟩ rfl hsize rfl hW hdg hf kk
theorem q_law_M_weekYear {p : Program} {l : Launch} {e : Env} {R : Room} {s : State} {m : MethodId} {args : Array Value} {below : List Frame} {meth : Method} {c : Code} {H : Heap} {locs : List Loc} {cells slots : Nat} {Q : State → Prop} {cc : ByteArray} {pc nL : Nat} {ls : Array Slot} {rest : List Value} {dC : Nat → ClassId} {dI : Nat → Nat → Nat} {h0 D : Nat} {ws : va_W} (S : CallFix p m c cc nL s args gT R_law) (hK : va_K (dC, dI) classes [] s) (hP : va_P (dC, dI) classes ws H) (j : Nat) (he : ws[j]? = some (h0, .inr (1, [.int (nI D)]))) (hD : D < 146097) (hR1 : 3 + 1 ≤ R.frames) (hR2 : 8 + (2 + 11) + 64 ≤ R.locals) (hsize : ls.size = nL) (hW : (rest.map fun v => v.category).sum ≤ 8) (hdg : decode cc pc = .ok (.invokevirtual 26, 3)) (hf : cells + 0 ≤ R.cells ∧ slots + 0 ≤ R.slots) (kk : W p l e R s m args below meth c H locs cells slots Q (F0 m (pc + 3) ls (.int (nI (wd_yr (wd_th D))) :: rest))) : W p l e R s m args below meth c H locs cells slots Q (F0 m pc ls (.ref h0 :: rest)) :=
  nv_callV (n := 0) S (c_M_weekYear l dC dI h0 D hD) (pcO_pre [] hK hP j he rfl) (goodV tm_107 tm_108 tm_109 tm_2 tm_110) (by decide +kernel) rfl rfl ⟨hR1, hR2⟩ rfl hsize rfl hW hdg hf kk
theorem q_law_M_week {p : Program} {l : Launch} {e : Env} {R : Room} {s : State} {m : MethodId} {args : Array Value} {below : List Frame} {meth : Method} {c : Code} {H : Heap} {locs : List Loc} {cells slots : Nat} {Q : State → Prop} {cc : ByteArray} {pc nL : Nat} {ls : Array Slot} {rest : List Value} {dC : Nat → ClassId} {dI : Nat → Nat → Nat} {h0 D : Nat} {ws : va_W} (S : CallFix p m c cc nL s args gT R_law) (hK : va_K (dC, dI) classes [] s) (hP : va_P (dC, dI) classes ws H) (j : Nat) (he : ws[j]? = some (h0, .inr (1, [.int (nI D)]))) (hD : D < 146097) (hR1 : 4 + 1 ≤ R.frames) (hR2 : 8 + (1 + 11) + 85 ≤ R.locals) (hsize : ls.size = nL) (hW : (rest.map fun v => v.category).sum ≤ 8) (hdg : decode cc pc = .ok (.invokevirtual 30, 3)) (hf : cells + 0 ≤ R.cells ∧ slots + 0 ≤ R.slots) (kk : W p l e R s m args below meth c H locs cells slots Q (F0 m (pc + 3) ls (.int (nI ((wd_th D - wd_bg (wd_yr (wd_th D))) / 7 + 1)) :: rest))) : W p l e R s m args below meth c H locs cells slots Q (F0 m pc ls (.ref h0 :: rest)) :=
  nv_callV (n := 0) S (c_M_week l dC dI h0 D hD) (pcO_pre [] hK hP j he rfl) (goodV tm_125 tm_126 tm_127 tm_2 tm_128) (by decide +kernel) rfl rfl ⟨hR1, hR2⟩ rfl hsize rfl hW hdg hf kk
theorem q_law_M_weeks {p : Program} {l : Launch} {e : Env} {R : Room} {s : State} {m : MethodId} {args : Array Value} {below : List Frame} {meth : Method} {c : Code} {H : Heap} {locs : List Loc} {cells slots : Nat} {Q : State → Prop} {cc : ByteArray} {pc nL : Nat} {ls : Array Slot} {rest : List Value} {dC : Nat → ClassId} {dI : Nat → Nat → Nat} {h0 D : Nat} {ws : va_W} (S : CallFix p m c cc nL s args gT R_law) (hK : va_K (dC, dI) classes [] s) (hP : va_P (dC, dI) classes ws H) (j : Nat) (he : ws[j]? = some (h0, .inr (1, [.int (nI D)]))) (k : Int32) (hR1 : 3 + 1 ≤ R.frames) (hR2 : 8 + (3 + 11) + 64 ≤ R.locals) (hsize : ls.size = nL) (hW : (rest.map fun v => v.category).sum ≤ 8) (hdg : decode cc pc = .ok (.invokevirtual 35, 3)) (hf : cells + 0 ≤ R.cells ∧ slots + 0 ≤ R.slots) (kk : W p l e R s m args below meth c H locs cells slots Q (F0 m (pc + 3) ls (.int (nI (wd_mn (wd_yk k))) :: rest))) : W p l e R s m args below meth c H locs cells slots Q (F0 m pc ls (.int k :: .ref h0 :: rest)) :=
  nv_callV (n := 1) S (c_M_weeks l dC dI h0 D k) (pcO_pre [.int k] hK hP j he rfl) (goodV tm_130 tm_131 tm_132 tm_2 tm_133) (by decide +kernel) rfl rfl ⟨hR1, hR2⟩ rfl hsize rfl hW hdg hf kk
theorem q_law_M_dayOfYear {p : Program} {l : Launch} {e : Env} {R : Room} {s : State} {m : MethodId} {args : Array Value} {below : List Frame} {meth : Method} {c : Code} {H : Heap} {locs : List Loc} {cells slots : Nat} {Q : State → Prop} {cc : ByteArray} {pc nL : Nat} {ls : Array Slot} {rest : List Value} {dC : Nat → ClassId} {dI : Nat → Nat → Nat} {h0 D : Nat} {ws : va_W} (S : CallFix p m c cc nL s args gT R_law) (hK : va_K (dC, dI) classes [] s) (hP : va_P (dC, dI) classes ws H) (j : Nat) (he : ws[j]? = some (h0, .inr (1, [.int (nI D)]))) (hD : D < 146097) (hR1 : 2 + 1 ≤ R.frames) (hR2 : 8 + (1 + 11) + 42 ≤ R.locals) (hsize : ls.size = nL) (hW : (rest.map fun v => v.category).sum ≤ 8) (hdg : decode cc pc = .ok (.invokevirtual 44, 3)) (hf : cells + 0 ≤ R.cells ∧ slots + 0 ≤ R.slots) (kk : W p l e R s m args below meth c H locs cells slots Q (F0 m (pc + 3) ls (.int (nI (D - wd_bg (wd_yr D) + 1)) :: rest))) : W p l e R s m args below meth c H locs cells slots Q (F0 m pc ls (.ref h0 :: rest)) :=
  nv_callV (n := 0) S (c_M_dayOfYear l dC dI h0 D hD) (pcO_pre [] hK hP j he rfl) (goodV tm_139 tm_140 tm_141 tm_2 tm_142) (by decide +kernel) rfl rfl ⟨hR1, hR2⟩ rfl hsize rfl hW hdg hf kk
theorem q_law_M_yearOf {p : Program} {l : Launch} {e : Env} {R : Room} {s : State} {m : MethodId} {args : Array Value} {below : List Frame} {meth : Method} {c : Code} {H : Heap} {locs : List Loc} {cells slots : Nat} {Q : State → Prop} {cc : ByteArray} {pc nL : Nat} {ls : Array Slot} {rest : List Value} {dC : Nat → ClassId} {dI : Nat → Nat → Nat} {h0 D : Nat} {ws : va_W} (S : CallFix p m c cc nL s args gT R_law) (hK : va_K (dC, dI) classes [] s) (hP : va_P (dC, dI) classes ws H) (j : Nat) (he : ws[j]? = some (h0, .inr (1, [.int (nI D)]))) (hD : D < 146097) (hR1 : 2 + 1 ≤ R.frames) (hR2 : 8 + (1 + 11) + 42 ≤ R.locals) (hsize : ls.size = nL) (hW : (rest.map fun v => v.category).sum ≤ 8) (hdg : decode cc pc = .ok (.invokevirtual 48, 3)) (hf : cells + 0 ≤ R.cells ∧ slots + 0 ≤ R.slots) (kk : W p l e R s m args below meth c H locs cells slots Q (F0 m (pc + 3) ls (.int (nI (wd_yr D)) :: rest))) : W p l e R s m args below meth c H locs cells slots Q (F0 m pc ls (.ref h0 :: rest)) :=
  nv_callV (n := 0) S (c_M_yearOf l dC dI h0 D hD) (pcO_pre [] hK hP j he rfl) (goodV tm_143 tm_144 tm_145 tm_2 tm_146) (by decide +kernel) rfl rfl ⟨hR1, hR2⟩ rfl hsize rfl hW hdg hf kk
theorem q_law_M_fridays {p : Program} {l : Launch} {e : Env} {R : Room} {s : State} {m : MethodId} {args : Array Value} {below : List Frame} {meth : Method} {c : Code} {H : Heap} {locs : List Loc} {cells slots : Nat} {Q : State → Prop} {cc : ByteArray} {pc nL : Nat} {ls : Array Slot} {rest : List Value} {dC : Nat → ClassId} {dI : Nat → Nat → Nat} {h0 D : Nat} {ws : va_W} (S : CallFix p m c cc nL s args gT R_law) (hK : va_K (dC, dI) classes [] s) (hP : va_P (dC, dI) classes ws H) (j : Nat) (he : ws[j]? = some (h0, .inr (1, [.int (nI D)]))) (k : Int32) (hR1 : 2 + 1 ≤ R.frames) (hR2 : 8 + (6 + 11) + 42 ≤ R.locals) (hsize : ls.size = nL) (hW : (rest.map fun v => v.category).sum ≤ 8) (hdg : decode cc pc = .ok (.invokevirtual 52, 3)) (hf : cells + 0 ≤ R.cells ∧ slots + 0 ≤ R.slots) (kk : W p l e R s m args below meth c H locs cells slots Q (F0 m (pc + 3) ls (.int (nI (wd_fr (wd_yk k))) :: rest))) : W p l e R s m args below meth c H locs cells slots Q (F0 m pc ls (.int k :: .ref h0 :: rest)) :=
  nv_callV (n := 1) S (c_M_fridays l dC dI h0 D k) (pcO_pre [.int k] hK hP j he rfl) (goodV tm_147 tm_148 tm_149 tm_2 tm_150) (by decide +kernel) rfl rfl ⟨hR1, hR2⟩ rfl hsize rfl hW hdg hf kk
theorem q_law_M_easter {p : Program} {l : Launch} {e : Env} {R : Room} {s : State} {m : MethodId} {args : Array Value} {below : List Frame} {meth : Method} {c : Code} {H : Heap} {locs : List Loc} {cells slots : Nat} {Q : State → Prop} {cc : ByteArray} {pc nL : Nat} {ls : Array Slot} {rest : List Value} {dC : Nat → ClassId} {dI : Nat → Nat → Nat} {h0 D : Nat} {ws : va_W} (S : CallFix p m c cc nL s args gT R_law) (hK : va_K (dC, dI) classes [] s) (hP : va_P (dC, dI) classes ws H) (j : Nat) (he : ws[j]? = some (h0, .inr (1, [.int (nI D)]))) (k : Int32) (hR1 : 0 + 1 ≤ R.frames) (hR2 : 8 + (10 + 11) + 0 ≤ R.locals) (hsize : ls.size = nL) (hW : (rest.map fun v => v.category).sum ≤ 8) (hdg : decode cc pc = .ok (.invokevirtual 56, 3)) (hf : cells + 0 ≤ R.cells ∧ slots + 0 ≤ R.slots) (kk : W p l e R s m args below meth c H locs cells slots Q (F0 m (pc + 3) ls (.int (wd_ea (nI (wd_yk k))) :: rest))) : W p l e R s m args below meth c H locs cells slots Q (F0 m pc ls (.int k :: .ref h0 :: rest)) :=
  nv_callV (n := 1) S (c_M_easter l dC dI h0 D k) (pcO_pre [.int k] hK hP j he rfl) (goodV tm_151 tm_152 tm_153 tm_2 tm_154) (by decide +kernel) rfl rfl ⟨hR1, hR2⟩ rfl hsize rfl hW hdg hf kk
theorem q_law_D_fridays {p : Program} {l : Launch} {e : Env} {R : Room} {s : State} {m : MethodId} {args : Array Value} {below : List Frame} {meth : Method} {c : Code} {H : Heap} {locs : List Loc} {cells slots : Nat} {Q : State → Prop} {cc : ByteArray} {pc nL : Nat} {ls : Array Slot} {rest : List Value} {dC : Nat → ClassId} {dI : Nat → Nat → Nat} {h0 D : Nat} {ws : va_W} (S : CallFix p m c cc nL s args gT R_law) (hT : tbOk s H) (hK : va_K (dC, dI) classes [] s) (hP : va_P (dC, dI) classes ws H) (j : Nat) (he : ws[j]? = some (h0, .inr (0, [.int (nI D)]))) (k : Int32) (hR1 : 1 + 1 ≤ R.frames) (hR2 : 8 + (4 + 11) + 21 ≤ R.locals) (hsize : ls.size = nL) (hW : (rest.map fun v => v.category).sum ≤ 8) (hdg : decode cc pc = .ok (.invokevirtual 49, 3)) (hf : cells + 0 ≤ R.cells ∧ slots + 0 ≤ R.slots) (kk : W p l e R s m args below meth c H locs cells slots Q (F0 m (pc + 3) ls (.int (nI (wd_fr (wd_yk k))) :: rest))) : W p l e R s m args below meth c H locs cells slots Q (F0 m pc ls (.int k :: .ref h0 :: rest)) :=
  nv_callV (n := 1) S (c_D_fridays l dC dI h0 D k) (pcF_pre [.int k] hK hP hT j he) (goodV tm_72 tm_73 tm_74 tm_1 tm_75) (by decide +kernel) rfl rfl ⟨hR1, hR2⟩ rfl hsize rfl hW hdg hf kk
end
section
/-! THE CLAIM OUT OF ONE WALK OF THE LAW'S BODY. Your part is whole_start (and what it stands on); all else here is the same for every law, but numbers. -/
def lw_P (b : Addr) (xs : List Int32) (args : Array Value) (s : State) : Prop := args = #[.ref b] ∧ s.IntsAt b xs ∧ xs.length ≤ 2048 ∧ (Jvm.Cond.and given_1 narrow_1).before args s = true
def lw_Q (_ : Array Value) (s : State) (o : Outcome) (t : State) : Prop := o = .returned (some (.int 1)) ∧ Framed s o t [] 2 2
def lw_Z (below : List Frame) (a : Array Value) (s : State) : State → Prop := fun t => ∃ o, t.status = .running ∧ Ended t below o ∧ lw_Q a s o t
/-- the law's own end, with 1 on the stack, nothing written that was there before, its room as the claim has it -/
theorem lw_ret {p : Program} {l : Launch} {e : Env} {s : State} {m : MethodId} {below : List Frame} {meth : Method} {c : Code} {b : Nat} (hx : p.tables.exec = Jvm.exec) (hb : c.code = code) (hr : meth.sig.returnType = ret) (hlocks : meth.locks = false) {pc : Nat} {H : Heap} {ls : Array Slot} (hdg : decode code pc = .ok (.ireturn, 1)) : W p l e room_1 s m #[Value.ref b] below meth c H [] 2 2 (lw_Z below #[Value.ref b] s) (F0 m pc ls [.int 1]) := by
  intro T hT X
  obtain ⟨fs, hret, hrun, hended, hW, hframe⟩ := X.leave (v := some (.int 1)) (hlocks := hlocks) (fun h => by rw [hr] at h; cases h)
  have hmeth' : T.vm.method? m = some meth := X.method'
  refine ⟨T.setFrames fs, ?_, .returned (some (.int 1)), hrun, hended, rfl, ⟨_, rfl⟩, hW, hframe⟩
  jvm_step X.here [X.here.top, hx, hb, hdg, hmeth', hr, ret, narrow_b1]
  (try refine ⟨rfl, ?_⟩); (try refine ⟨rfl, ?_⟩)
  first | (intro acts; rw [hret _ acts rfl rfl rfl]) | rw [hret _ _ rfl rfl rfl]
  exact Steps.refl _
/-- what holds at the law's entry: the machine, the code, the tables' words (any of lw_tbl by 'hts w (by decide +kernel)'), the script of L ints xs at the cell b, what the Statement gives of the start (any of its parts by flat_of_before) -/
def lw_At (p : Program) (s : State) (m : MethodId) (meth : Method) (c : Code) (b L : Nat) (xs : Nat → Int32) : Prop :=
  p.tables.exec = Jvm.exec ∧ c.code = code ∧ meth.sig.returnType = ret ∧ c.maxLocals = 4 ∧ s.vm.findClass R_law = some m.cls ∧ (∀ w ∈ lw_tbl, w.before #[Value.ref b] s = true) ∧ va_X b L xs s s.heap ∧ b < s.heap.size ∧ meth.locks = false ∧ (Jvm.Cond.and given_1 narrow_1).before #[Value.ref b] s = true
set_option maxHeartbeats 4000000 in
set_option maxRecDepth 100000 in
/-- THE LAW'S LOOP: at its head, with i ints read, both objects hold the same day -/
theorem law_loop {p : Program} {l : Launch} {e : Env} {s : State} {m : MethodId} {below : List Frame} {meth : Method} {c : Code} {dC : Nat → ClassId} {dI : Nat → Nat → Nat} {b L : Nat} {xs : Nat → Int32} (hL : L ≤ 2048) (C0 : lw_At p s m meth c b L xs) (hT0 : ∃ t1 t2 : Nat, va_Z "WeekDesk" "LEAP" "[I" (.ref t1) (fun q : Nat => s.heap.size ≤ q) s s.heap ∧ va_T .int t1 7 wd_vL (fun q : Nat => s.heap.size ≤ q) s s.heap ∧ va_Z "WeekDesk" "PLAIN" "[I" (.ref t2) (fun q : Nat => s.heap.size ≤ q) s s.heap ∧ va_T .int t2 7 wd_vP (fun q : Nat => s.heap.size ≤ q) s s.heap) :
    ∀ (n i : Nat), i ≤ L → L + 1 ≤ i + n → ∀ (D : Nat), D < 146097 → ∀ (q0 q1 : Nat) (H : Heap) (locs : List Loc), va_K (dC, dI) classes [] s → va_P (dC, dI) classes [(q0, .inr (0, [.int (nI D)])), (q1, .inr (1, [.int (nI D)]))] H → va_D (fun q : Nat => s.heap.size ≤ q) [(q0, .inr (0, [.int (nI D)])), (q1, .inr (1, [.int (nI D)]))] → va_S (fun q : Nat => s.heap.size ≤ q) s.heap H locs → ∀ (ls : Array Slot), lv_has ls 4 [(3, .int (nI i)), (2, .ref q1), (1, .ref q0), (0, .ref b)] → W p l e room_1 s m #[Value.ref b] below meth c H locs 2 2 (lw_Z below #[Value.ref b] s) (F0 m 18 ls []) := by
  obtain ⟨hx, hb, hr, hml, hown, hts0, hX, hbl, hlocks, hgv⟩ := C0
  have hts : ∀ w ∈ gT, w.before #[Value.ref b] s = true := fun w hw => hts0 w (gT_in hw)
  have S : CallFix p m c code 4 s #[Value.ref b] gT R_law := ⟨hx, hb, hml, hown, hts⟩
  have hA : ∀ q : Nat, s.heap.size ≤ q → (fun q : Nat => s.heap.size ≤ q) q := fun _ h => h
  have hbA : ¬ (fun q : Nat => s.heap.size ≤ q) b := Nat.not_le.mpr hbl
  intro n
  induction n with
  | zero =>
    intro i h1 h2
    exact absurd h2 (by omega)
  | succ n ih =>
    intro i hi hin D hDl q0 q1 H locs hK hP hD hS ls hl
    have back : i + 4 ≤ L → ∀ (D : Nat), D < 146097 → ∀ (H : Heap) (locs : List Loc), va_P (dC, dI) classes [(q0, .inr (0, [.int (nI D)])), (q1, .inr (1, [.int (nI D)]))] H → va_D (fun q : Nat => s.heap.size ≤ q) [(q0, .inr (0, [.int (nI D)])), (q1, .inr (1, [.int (nI D)]))] → va_S (fun q : Nat => s.heap.size ≤ q) s.heap H locs → ∀ (ls : Array Slot), lv_has ls 4 [(3, .int (nI i)), (2, .ref q1), (1, .ref q0), (0, .ref b)] → W p l e room_1 s m #[Value.ref b] below meth c H locs 2 2 (lw_Z below #[Value.ref b] s) (F0 m 286 ls []) := by
      intro hlt D hDl H locs hP hD hS ls hl
      refine lv_iinc (pc := 286) (v := nI (i + 4)) (lv' := [(3, .int (nI (i + 4))), (2, .ref q1), (1, .ref q0), (0, .ref b)]) hx hb d_law_law_286 hl (k := 0) rfl (by rw [← nI_add]; rfl) (by decide) rfl (fun ls hl => ?_)
      refine lv_goto (pc := 289) (tgt := 18) hx hb d_law_law_289 (by decide) ?_
      exact ih (i + 4) (by omega) (by omega) D hDl q0 q1 H locs hK hP hD hS ls (lv_sub hl [0, 1, 2, 3] rfl)
    refine lv_iload_n (pc := 18) hx hb d_law_law_18 rfl (lv_at hl 0 rfl) ?_
    refine lv_aload_n (pc := 19) hx hb d_law_law_19 rfl (lv_at hl 3 rfl) ?_
    refine va_slen (pc := 20) hx hb hX hbl hbA hS d_law_law_20 ?_
    refine W.eq (g2 := F0 m 21 ls [.int (nI L), .int (nI i)]) rfl ?_
    refine lv_iconst (pc := 21) (v := nI 4) hx hb d_law_law_21 (by decide) ?_
    refine lv_isub (pc := 22) hx hb d_law_law_22 ?_
    refine lv_icmp_gt (pc := 23) (tgt := 292) hx hb d_law_law_23 (by decide) (fun hc => ?_) (fun hc => ?_)
    · refine lv_iconst (pc := 292) (v := nI 1) hx hb d_law_law_292 (by decide) ?_
      refine va_forget (fun q hq => hS.2.2 q hq) ?_
      exact lw_ret hx hb hr hlocks d_law_law_293
    · have hlt : i + 4 ≤ L := by
        rcases Nat.lt_or_ge L (i + 4) with z | z
        · exact absurd ((wd_stop (i := i) (L := L) (by omega) (by omega)).mpr z) hc
        · exact z
      refine lv_aload_n (pc := 26) hx hb d_law_law_26 rfl (lv_at hl 3 rfl) ?_
      refine lv_iload_n (pc := 27) hx hb d_law_law_27 rfl (lv_at hl 0 rfl) ?_
      refine va_sld (pc := 28) hx hb hX hbl hbA hS (vp_in_nI (by omega) (by omega)) d_law_law_28 ?_
      refine lv_bipush (pc := 29) (v := nI 15) hx hb d_law_law_29 (by decide) ?_
      refine nv_iand15 (pc := 31) hx hb d_law_law_31 (fun j hj => ?_)
      by_cases h9 : 9 < j
      · refine lv_tableOut (pc := 32) (tgt := 286) hx hb d_law_law_32 (Or.inr (by rw [nI_toInt (by omega)]; omega)) (by decide) ?_
        exact back hlt D hDl H locs hP hD hS ls hl
      · rcases (show j = 0 ∨ j = 1 ∨ j = 2 ∨ j = 3 ∨ j = 4 ∨ j = 5 ∨ j = 6 ∨ j = 7 ∨ j = 8 ∨ j = 9 by omega) with rfl | rfl | rfl | rfl | rfl | rfl | rfl | rfl | rfl | rfl
        · refine lv_tableIn (pc := 32) (off := 56) (tgt := 88) hx hb d_law_law_32 (by decide) (by decide) rfl (by decide) ?_
          refine lv_aload_n (pc := 88) hx hb d_law_law_88 rfl (lv_at hl 2 rfl) ?_
          refine lv_aload_n (pc := 89) hx hb d_law_law_89 rfl (lv_at hl 3 rfl) ?_
          refine lv_iload_n (pc := 90) hx hb d_law_law_90 rfl (lv_at hl 0 rfl) ?_
          refine lv_iconst (pc := 91) (v := nI 1) hx hb d_law_law_91 (by decide) ?_
          refine nv_iadd (pc := 92) hx hb d_law_law_92 ?_
          refine va_sld (pc := 93) hx hb hX hbl hbA hS (vp_in_nI (by omega) (by omega)) d_law_law_93 ?_
          have hPc := hP.sub (ws' := [(q0, .inr (0, [.int (nI D)]))]) [0] rfl
          have hDc := hD.sub (ws' := [(q0, .inr (0, [.int (nI D)]))]) [0] (by decide) rfl
          have hFc := va_free (wc := [(q0, .inr (0, [.int (nI D)]))]) hD hS hA [0] rfl
          refine va_callv (va_runV (As := [.int (xs (nI (i + 1)).toNatClampNeg)]) (rest := []) S (c_D_load l dC dI q0 H.size D (xs (nI (i + 1)).toNatClampNeg)) (cwV 1 hts (goodV tm_16 tm_17 tm_18 tm_1 tm_19) rfl rfl rfl (by decide +kernel) ⟨Nat.le_of_ble_eq_true rfl, Nat.le_of_ble_eq_true rfl⟩) ⟨fun a U g mk q => by obtain ⟨z0, z1, zP, zK, zD⟩ := q; exact ⟨z0, z1, zP, va_K.moved (u := U) (U := U.calling g mk a) (Vm.Alike.refl U.vm) zK, zD⟩, va_recv hK hPc (ci := 0) (q0 := 0) rfl rfl, fun U hU hW => ⟨rfl, by rw [hU], by rw [hU]; exact hPc, va_K.moved hW.alike hK, hDc.weaken (fun _ _ _ _ => trivial)⟩⟩ rfl rfl hl.1 rfl (lv_room (Nat.le_of_ble_eq_true rfl)) d_law_law_94 ⟨Nat.le_of_ble_eq_true rfl, Nat.le_of_ble_eq_true rfl⟩) hS (fun q _ h => hFc q h) hFc (fun u t H1 locs ht hvm hw hB hz1 hk1 hS => ?_)
          obtain ⟨hP1, hK1, hD1⟩ := hB
          rw [ht] at hP1
          subst hw
          obtain ⟨hP, hD⟩ := va_join (wr := [(q1, .inr (1, [.int (nI D)]))]) (w1 := [(q0, .inr (0, [.int (nI (wd_wn (xs (nI (i + 1)).toNatClampNeg) % 146097))]))]) hP hD [0] [1] rfl rfl (by decide) (by decide) hk1 hFc hP1 hD1
          generalize H1 = H at hP hS ⊢
          have hP : va_P (dC, dI) classes [(q1, .inr (1, [.int (nI D)])), (q0, .inr (0, [.int (nI (wd_wn (xs (nI (i + 1)).toNatClampNeg) % 146097))]))] H := hP
          have hD : va_D (fun q : Nat => s.heap.size ≤ q) [(q1, .inr (1, [.int (nI D)])), (q0, .inr (0, [.int (nI (wd_wn (xs (nI (i + 1)).toNatClampNeg) % 146097))]))] := hD
          refine lv_aload_n (pc := 97) hx hb d_law_law_97 rfl (lv_at hl 1 rfl) ?_
          refine lv_aload_n (pc := 98) hx hb d_law_law_98 rfl (lv_at hl 3 rfl) ?_
          refine lv_iload_n (pc := 99) hx hb d_law_law_99 rfl (lv_at hl 0 rfl) ?_
          refine lv_iconst (pc := 100) (v := nI 1) hx hb d_law_law_100 (by decide) ?_
          refine nv_iadd (pc := 101) hx hb d_law_law_101 ?_
          refine va_sld (pc := 102) hx hb hX hbl hbA hS (vp_in_nI (by omega) (by omega)) d_law_law_102 ?_
          have hPc := hP.sub (ws' := [(q1, .inr (1, [.int (nI D)]))]) [0] rfl
          have hDc := hD.sub (ws' := [(q1, .inr (1, [.int (nI D)]))]) [0] (by decide) rfl
          have hFc := va_free (wc := [(q1, .inr (1, [.int (nI D)]))]) hD hS hA [0] rfl
          refine va_callv (va_runV (As := [.int (xs (nI (i + 1)).toNatClampNeg)]) (rest := []) S (c_M_load l dC dI q1 H.size D (xs (nI (i + 1)).toNatClampNeg)) (cwV 1 hts (goodV tm_97 tm_98 tm_99 tm_2 tm_100) rfl rfl rfl (by decide +kernel) ⟨Nat.le_of_ble_eq_true rfl, Nat.le_of_ble_eq_true rfl⟩) ⟨fun a U g mk q => by obtain ⟨z0, z1, zP, zK, zD⟩ := q; exact ⟨z0, z1, zP, va_K.moved (u := U) (U := U.calling g mk a) (Vm.Alike.refl U.vm) zK, zD⟩, va_recv hK hPc (ci := 1) (q0 := 0) rfl rfl, fun U hU hW => ⟨rfl, by rw [hU], by rw [hU]; exact hPc, va_K.moved hW.alike hK, hDc.weaken (fun _ _ _ _ => trivial)⟩⟩ rfl rfl hl.1 rfl (lv_room (Nat.le_of_ble_eq_true rfl)) d_law_law_103 ⟨Nat.le_of_ble_eq_true rfl, Nat.le_of_ble_eq_true rfl⟩) hS (fun q _ h => hFc q h) hFc (fun u t H1 locs ht hvm hw hB hz1 hk1 hS => ?_)
          obtain ⟨hP1, hK1, hD1⟩ := hB
          rw [ht] at hP1
          subst hw
          obtain ⟨hP, hD⟩ := va_join (wr := [(q0, .inr (0, [.int (nI (wd_wn (xs (nI (i + 1)).toNatClampNeg) % 146097))]))]) (w1 := [(q1, .inr (1, [.int (nI (wd_wn (xs (nI (i + 1)).toNatClampNeg) % 146097))]))]) hP hD [0] [1] rfl rfl (by decide) (by decide) hk1 hFc hP1 hD1
          generalize H1 = H at hP hS ⊢
          have hP : va_P (dC, dI) classes [(q0, .inr (0, [.int (nI (wd_wn (xs (nI (i + 1)).toNatClampNeg) % 146097))])), (q1, .inr (1, [.int (nI (wd_wn (xs (nI (i + 1)).toNatClampNeg) % 146097))]))] H := hP
          have hD : va_D (fun q : Nat => s.heap.size ≤ q) [(q0, .inr (0, [.int (nI (wd_wn (xs (nI (i + 1)).toNatClampNeg) % 146097))])), (q1, .inr (1, [.int (nI (wd_wn (xs (nI (i + 1)).toNatClampNeg) % 146097))]))] := hD
          refine lv_goto (pc := 106) (tgt := 286) hx hb d_law_law_106 (by decide) ?_
          exact back hlt (wd_wn (xs (nI (i + 1)).toNatClampNeg) % 146097) (Nat.mod_lt _ (by decide)) H locs hP hD hS ls hl
        · refine lv_tableIn (pc := 32) (off := 77) (tgt := 109) hx hb d_law_law_32 (by decide) (by decide) rfl (by decide) ?_
          refine lv_aload_n (pc := 109) hx hb d_law_law_109 rfl (lv_at hl 2 rfl) ?_
          refine q_law_D_weekday (pc := 110) S hK hP 0 rfl hDl (Nat.le_of_ble_eq_true rfl) (Nat.le_of_ble_eq_true rfl) hl.1 (Nat.le_of_ble_eq_true rfl) d_law_law_110 ⟨Nat.le_of_ble_eq_true rfl, Nat.le_of_ble_eq_true rfl⟩ ?_
          refine lv_aload_n (pc := 113) hx hb d_law_law_113 rfl (lv_at hl 1 rfl) ?_
          refine q_law_M_weekday (pc := 114) S hK hP 1 rfl hDl (Nat.le_of_ble_eq_true rfl) (Nat.le_of_ble_eq_true rfl) hl.1 (Nat.le_of_ble_eq_true rfl) d_law_law_114 ⟨Nat.le_of_ble_eq_true rfl, Nat.le_of_ble_eq_true rfl⟩ ?_
          refine lv_icmp_eq (pc := 117) (tgt := 286) hx hb d_law_law_117 (by decide) (fun he => ?_) (fun he => ?_)
          · exact back hlt D hDl H locs hP hD hS ls hl
          · exact absurd rfl he
        · refine lv_tableIn (pc := 32) (off := 90) (tgt := 122) hx hb d_law_law_32 (by decide) (by decide) rfl (by decide) ?_
          refine lv_aload_n (pc := 122) hx hb d_law_law_122 rfl (lv_at hl 2 rfl) ?_
          refine q_law_D_weekYear (pc := 123) S hK hP 0 rfl hDl (Nat.le_of_ble_eq_true rfl) (Nat.le_of_ble_eq_true rfl) hl.1 (Nat.le_of_ble_eq_true rfl) d_law_law_123 ⟨Nat.le_of_ble_eq_true rfl, Nat.le_of_ble_eq_true rfl⟩ ?_
          refine lv_aload_n (pc := 126) hx hb d_law_law_126 rfl (lv_at hl 1 rfl) ?_
          refine q_law_M_weekYear (pc := 127) S hK hP 1 rfl hDl (Nat.le_of_ble_eq_true rfl) (Nat.le_of_ble_eq_true rfl) hl.1 (Nat.le_of_ble_eq_true rfl) d_law_law_127 ⟨Nat.le_of_ble_eq_true rfl, Nat.le_of_ble_eq_true rfl⟩ ?_
          refine lv_icmp_eq (pc := 130) (tgt := 286) hx hb d_law_law_130 (by decide) (fun he => ?_) (fun he => ?_)
          · exact back hlt D hDl H locs hP hD hS ls hl
          · exact absurd rfl he
        · refine lv_tableIn (pc := 32) (off := 103) (tgt := 135) hx hb d_law_law_32 (by decide) (by decide) rfl (by decide) ?_
          refine lv_aload_n (pc := 135) hx hb d_law_law_135 rfl (lv_at hl 2 rfl) ?_
          refine q_law_D_week (pc := 136) S hK hP 0 rfl hDl (Nat.le_of_ble_eq_true rfl) (Nat.le_of_ble_eq_true rfl) hl.1 (Nat.le_of_ble_eq_true rfl) d_law_law_136 ⟨Nat.le_of_ble_eq_true rfl, Nat.le_of_ble_eq_true rfl⟩ ?_
          refine lv_aload_n (pc := 139) hx hb d_law_law_139 rfl (lv_at hl 1 rfl) ?_
          refine q_law_M_week (pc := 140) S hK hP 1 rfl hDl (Nat.le_of_ble_eq_true rfl) (Nat.le_of_ble_eq_true rfl) hl.1 (Nat.le_of_ble_eq_true rfl) d_law_law_140 ⟨Nat.le_of_ble_eq_true rfl, Nat.le_of_ble_eq_true rfl⟩ ?_
          refine lv_icmp_eq (pc := 143) (tgt := 286) hx hb d_law_law_143 (by decide) (fun he => ?_) (fun he => ?_)
          · exact back hlt D hDl H locs hP hD hS ls hl
          · exact absurd rfl he
        · refine lv_tableIn (pc := 32) (off := 116) (tgt := 148) hx hb d_law_law_32 (by decide) (by decide) rfl (by decide) ?_
          refine lv_aload_n (pc := 148) hx hb d_law_law_148 rfl (lv_at hl 2 rfl) ?_
          refine lv_aload_n (pc := 149) hx hb d_law_law_149 rfl (lv_at hl 3 rfl) ?_
          refine lv_iload_n (pc := 150) hx hb d_law_law_150 rfl (lv_at hl 0 rfl) ?_
          refine lv_iconst (pc := 151) (v := nI 1) hx hb d_law_law_151 (by decide) ?_
          refine nv_iadd (pc := 152) hx hb d_law_law_152 ?_
          refine va_sld (pc := 153) hx hb hX hbl hbA hS (vp_in_nI (by omega) (by omega)) d_law_law_153 ?_
          refine q_law_D_weeks (pc := 154) S hK hP 0 rfl (xs (nI (i + 1)).toNatClampNeg) (Nat.le_of_ble_eq_true rfl) (Nat.le_of_ble_eq_true rfl) hl.1 (Nat.le_of_ble_eq_true rfl) d_law_law_154 ⟨Nat.le_of_ble_eq_true rfl, Nat.le_of_ble_eq_true rfl⟩ ?_
          refine lv_aload_n (pc := 157) hx hb d_law_law_157 rfl (lv_at hl 1 rfl) ?_
          refine lv_aload_n (pc := 158) hx hb d_law_law_158 rfl (lv_at hl 3 rfl) ?_
          refine lv_iload_n (pc := 159) hx hb d_law_law_159 rfl (lv_at hl 0 rfl) ?_
          refine lv_iconst (pc := 160) (v := nI 1) hx hb d_law_law_160 (by decide) ?_
          refine nv_iadd (pc := 161) hx hb d_law_law_161 ?_
          refine va_sld (pc := 162) hx hb hX hbl hbA hS (vp_in_nI (by omega) (by omega)) d_law_law_162 ?_
          refine q_law_M_weeks (pc := 163) S hK hP 1 rfl (xs (nI (i + 1)).toNatClampNeg) (Nat.le_of_ble_eq_true rfl) (Nat.le_of_ble_eq_true rfl) hl.1 (Nat.le_of_ble_eq_true rfl) d_law_law_163 ⟨Nat.le_of_ble_eq_true rfl, Nat.le_of_ble_eq_true rfl⟩ ?_
          refine lv_icmp_eq (pc := 166) (tgt := 286) hx hb d_law_law_166 (by decide) (fun he => ?_) (fun he => ?_)
          · exact back hlt D hDl H locs hP hD hS ls hl
          · exact absurd rfl he
        · refine lv_tableIn (pc := 32) (off := 139) (tgt := 171) hx hb d_law_law_32 (by decide) (by decide) rfl (by decide) ?_
          refine lv_aload_n (pc := 171) hx hb d_law_law_171 rfl (lv_at hl 2 rfl) ?_
          refine lv_aload_n (pc := 172) hx hb d_law_law_172 rfl (lv_at hl 3 rfl) ?_
          refine lv_iload_n (pc := 173) hx hb d_law_law_173 rfl (lv_at hl 0 rfl) ?_
          refine lv_iconst (pc := 174) (v := nI 1) hx hb d_law_law_174 (by decide) ?_
          refine nv_iadd (pc := 175) hx hb d_law_law_175 ?_
          refine va_sld (pc := 176) hx hb hX hbl hbA hS (vp_in_nI (by omega) (by omega)) d_law_law_176 ?_
          refine lv_aload_n (pc := 177) hx hb d_law_law_177 rfl (lv_at hl 3 rfl) ?_
          refine lv_iload_n (pc := 178) hx hb d_law_law_178 rfl (lv_at hl 0 rfl) ?_
          refine lv_iconst (pc := 179) (v := nI 2) hx hb d_law_law_179 (by decide) ?_
          refine nv_iadd (pc := 180) hx hb d_law_law_180 ?_
          refine va_sld (pc := 181) hx hb hX hbl hbA hS (vp_in_nI (by omega) (by omega)) d_law_law_181 ?_
          refine lv_aload_n (pc := 182) hx hb d_law_law_182 rfl (lv_at hl 3 rfl) ?_
          refine lv_iload_n (pc := 183) hx hb d_law_law_183 rfl (lv_at hl 0 rfl) ?_
          refine lv_iconst (pc := 184) (v := nI 3) hx hb d_law_law_184 (by decide) ?_
          refine nv_iadd (pc := 185) hx hb d_law_law_185 ?_
          refine va_sld (pc := 186) hx hb hX hbl hbA hS (vp_in_nI (by omega) (by omega)) d_law_law_186 ?_
          have hPc := hP.sub (ws' := [(q0, .inr (0, [.int (nI D)]))]) [0] rfl
          have hDc := hD.sub (ws' := [(q0, .inr (0, [.int (nI D)]))]) [0] (by decide) rfl
          have hFc := va_free (wc := [(q0, .inr (0, [.int (nI D)]))]) hD hS hA [0] rfl
          refine va_calli (va_runV (As := [.int (xs (nI (i + 1)).toNatClampNeg), .int (xs (nI (i + 2)).toNatClampNeg), .int (xs (nI (i + 3)).toNatClampNeg)]) (rest := []) S (c_D_fromWeek l dC dI q0 H.size D (xs (nI (i + 1)).toNatClampNeg) (xs (nI (i + 2)).toNatClampNeg) (xs (nI (i + 3)).toNatClampNeg)) (cwV 3 hts (goodV tm_60 tm_61 tm_62 tm_1 tm_63) rfl rfl rfl (by decide +kernel) ⟨Nat.le_of_ble_eq_true rfl, Nat.le_of_ble_eq_true rfl⟩) ⟨fun a U g mk q => by obtain ⟨z0, z1, zP, zK, zD⟩ := q; exact ⟨z0, z1, zP, va_K.moved (u := U) (U := U.calling g mk a) (Vm.Alike.refl U.vm) zK, zD⟩, va_recv hK hPc (ci := 0) (q0 := 0) rfl rfl, fun U hU hW => ⟨rfl, by rw [hU], by rw [hU]; exact hPc, va_K.moved hW.alike hK, hDc.weaken (fun _ _ _ _ => trivial)⟩⟩ rfl rfl hl.1 rfl (lv_room (Nat.le_of_ble_eq_true rfl)) d_law_law_187 ⟨Nat.le_of_ble_eq_true rfl, Nat.le_of_ble_eq_true rfl⟩) hS (fun q _ h => hFc q h) hFc (fun r1 u t H1 locs ht hvm hw hB hz1 hk1 hS => ?_)
          obtain ⟨hP1, hK1, hD1⟩ := hB
          rw [ht] at hP1
          obtain ⟨hw1, hw2⟩ := hw
          subst hw1
          subst hw2
          obtain ⟨hP, hD⟩ := va_join (wr := [(q1, .inr (1, [.int (nI D)]))]) (w1 := [(q0, .inr (0, [.int (nI (wd_fwd D (xs (nI (i + 1)).toNatClampNeg) (xs (nI (i + 2)).toNatClampNeg) (xs (nI (i + 3)).toNatClampNeg)))]))]) hP hD [0] [1] rfl rfl (by decide) (by decide) hk1 hFc hP1 hD1
          generalize H1 = H at hP hS ⊢
          have hP : va_P (dC, dI) classes [(q1, .inr (1, [.int (nI D)])), (q0, .inr (0, [.int (nI (wd_fwd D (xs (nI (i + 1)).toNatClampNeg) (xs (nI (i + 2)).toNatClampNeg) (xs (nI (i + 3)).toNatClampNeg)))]))] H := hP
          have hD : va_D (fun q : Nat => s.heap.size ≤ q) [(q1, .inr (1, [.int (nI D)])), (q0, .inr (0, [.int (nI (wd_fwd D (xs (nI (i + 1)).toNatClampNeg) (xs (nI (i + 2)).toNatClampNeg) (xs (nI (i + 3)).toNatClampNeg)))]))] := hD
          refine lv_aload_n (pc := 190) hx hb d_law_law_190 rfl (lv_at hl 1 rfl) ?_
          refine lv_aload_n (pc := 191) hx hb d_law_law_191 rfl (lv_at hl 3 rfl) ?_
          refine lv_iload_n (pc := 192) hx hb d_law_law_192 rfl (lv_at hl 0 rfl) ?_
          refine lv_iconst (pc := 193) (v := nI 1) hx hb d_law_law_193 (by decide) ?_
          refine nv_iadd (pc := 194) hx hb d_law_law_194 ?_
          refine va_sld (pc := 195) hx hb hX hbl hbA hS (vp_in_nI (by omega) (by omega)) d_law_law_195 ?_
          refine lv_aload_n (pc := 196) hx hb d_law_law_196 rfl (lv_at hl 3 rfl) ?_
          refine lv_iload_n (pc := 197) hx hb d_law_law_197 rfl (lv_at hl 0 rfl) ?_
          refine lv_iconst (pc := 198) (v := nI 2) hx hb d_law_law_198 (by decide) ?_
          refine nv_iadd (pc := 199) hx hb d_law_law_199 ?_
          refine va_sld (pc := 200) hx hb hX hbl hbA hS (vp_in_nI (by omega) (by omega)) d_law_law_200 ?_
          refine lv_aload_n (pc := 201) hx hb d_law_law_201 rfl (lv_at hl 3 rfl) ?_
          refine lv_iload_n (pc := 202) hx hb d_law_law_202 rfl (lv_at hl 0 rfl) ?_
          refine lv_iconst (pc := 203) (v := nI 3) hx hb d_law_law_203 (by decide) ?_
          refine nv_iadd (pc := 204) hx hb d_law_law_204 ?_
          refine va_sld (pc := 205) hx hb hX hbl hbA hS (vp_in_nI (by omega) (by omega)) d_law_law_205 ?_
          have hPc := hP.sub (ws' := [(q1, .inr (1, [.int (nI D)]))]) [0] rfl
          have hDc := hD.sub (ws' := [(q1, .inr (1, [.int (nI D)]))]) [0] (by decide) rfl
          have hFc := va_free (wc := [(q1, .inr (1, [.int (nI D)]))]) hD hS hA [0] rfl
          refine va_calli (va_runV (As := [.int (xs (nI (i + 1)).toNatClampNeg), .int (xs (nI (i + 2)).toNatClampNeg), .int (xs (nI (i + 3)).toNatClampNeg)]) (rest := [.int (nI (wd_fwr (xs (nI (i + 1)).toNatClampNeg) (xs (nI (i + 2)).toNatClampNeg)))]) S (c_M_fromWeek l dC dI q1 H.size D (xs (nI (i + 1)).toNatClampNeg) (xs (nI (i + 2)).toNatClampNeg) (xs (nI (i + 3)).toNatClampNeg)) (cwV 3 hts (goodV tm_134 tm_135 tm_136 tm_2 tm_137) rfl rfl rfl (by decide +kernel) ⟨Nat.le_of_ble_eq_true rfl, Nat.le_of_ble_eq_true rfl⟩) ⟨fun a U g mk q => by obtain ⟨z0, z1, zP, zK, zD⟩ := q; exact ⟨z0, z1, zP, va_K.moved (u := U) (U := U.calling g mk a) (Vm.Alike.refl U.vm) zK, zD⟩, va_recv hK hPc (ci := 1) (q0 := 0) rfl rfl, fun U hU hW => ⟨rfl, by rw [hU], by rw [hU]; exact hPc, va_K.moved hW.alike hK, hDc.weaken (fun _ _ _ _ => trivial)⟩⟩ rfl rfl hl.1 rfl (lv_room (Nat.le_of_ble_eq_true rfl)) d_law_law_206 ⟨Nat.le_of_ble_eq_true rfl, Nat.le_of_ble_eq_true rfl⟩) hS (fun q _ h => hFc q h) hFc (fun r2 u t H1 locs ht hvm hw hB hz1 hk1 hS => ?_)
          obtain ⟨hP1, hK1, hD1⟩ := hB
          rw [ht] at hP1
          obtain ⟨hw1, hw2⟩ := hw
          subst hw1
          subst hw2
          obtain ⟨hP, hD⟩ := va_join (wr := [(q0, .inr (0, [.int (nI (wd_fwd D (xs (nI (i + 1)).toNatClampNeg) (xs (nI (i + 2)).toNatClampNeg) (xs (nI (i + 3)).toNatClampNeg)))]))]) (w1 := [(q1, .inr (1, [.int (nI (wd_fwd D (xs (nI (i + 1)).toNatClampNeg) (xs (nI (i + 2)).toNatClampNeg) (xs (nI (i + 3)).toNatClampNeg)))]))]) hP hD [0] [1] rfl rfl (by decide) (by decide) hk1 hFc hP1 hD1
          generalize H1 = H at hP hS ⊢
          have hP : va_P (dC, dI) classes [(q0, .inr (0, [.int (nI (wd_fwd D (xs (nI (i + 1)).toNatClampNeg) (xs (nI (i + 2)).toNatClampNeg) (xs (nI (i + 3)).toNatClampNeg)))])), (q1, .inr (1, [.int (nI (wd_fwd D (xs (nI (i + 1)).toNatClampNeg) (xs (nI (i + 2)).toNatClampNeg) (xs (nI (i + 3)).toNatClampNeg)))]))] H := hP
          have hD : va_D (fun q : Nat => s.heap.size ≤ q) [(q0, .inr (0, [.int (nI (wd_fwd D (xs (nI (i + 1)).toNatClampNeg) (xs (nI (i + 2)).toNatClampNeg) (xs (nI (i + 3)).toNatClampNeg)))])), (q1, .inr (1, [.int (nI (wd_fwd D (xs (nI (i + 1)).toNatClampNeg) (xs (nI (i + 2)).toNatClampNeg) (xs (nI (i + 3)).toNatClampNeg)))]))] := hD
          refine lv_icmp_eq (pc := 209) (tgt := 286) hx hb d_law_law_209 (by decide) (fun he => ?_) (fun he => ?_)
          · exact back hlt (wd_fwd D (xs (nI (i + 1)).toNatClampNeg) (xs (nI (i + 2)).toNatClampNeg) (xs (nI (i + 3)).toNatClampNeg)) (wd_fwd_lt hDl _ _ _) H locs hP hD hS ls hl
          · exact absurd rfl he
        · refine lv_tableIn (pc := 32) (off := 182) (tgt := 214) hx hb d_law_law_32 (by decide) (by decide) rfl (by decide) ?_
          refine lv_aload_n (pc := 214) hx hb d_law_law_214 rfl (lv_at hl 2 rfl) ?_
          refine q_law_D_dayOfYear (pc := 215) S hK hP 0 rfl hDl (Nat.le_of_ble_eq_true rfl) (Nat.le_of_ble_eq_true rfl) hl.1 (Nat.le_of_ble_eq_true rfl) d_law_law_215 ⟨Nat.le_of_ble_eq_true rfl, Nat.le_of_ble_eq_true rfl⟩ ?_
          refine lv_aload_n (pc := 218) hx hb d_law_law_218 rfl (lv_at hl 1 rfl) ?_
          refine q_law_M_dayOfYear (pc := 219) S hK hP 1 rfl hDl (Nat.le_of_ble_eq_true rfl) (Nat.le_of_ble_eq_true rfl) hl.1 (Nat.le_of_ble_eq_true rfl) d_law_law_219 ⟨Nat.le_of_ble_eq_true rfl, Nat.le_of_ble_eq_true rfl⟩ ?_
          refine lv_icmp_eq (pc := 222) (tgt := 286) hx hb d_law_law_222 (by decide) (fun he => ?_) (fun he => ?_)
          · exact back hlt D hDl H locs hP hD hS ls hl
          · exact absurd rfl he
        · refine lv_tableIn (pc := 32) (off := 195) (tgt := 227) hx hb d_law_law_32 (by decide) (by decide) rfl (by decide) ?_
          refine lv_aload_n (pc := 227) hx hb d_law_law_227 rfl (lv_at hl 2 rfl) ?_
          refine q_law_D_yearOf (pc := 228) S hK hP 0 rfl hDl (Nat.le_of_ble_eq_true rfl) (Nat.le_of_ble_eq_true rfl) hl.1 (Nat.le_of_ble_eq_true rfl) d_law_law_228 ⟨Nat.le_of_ble_eq_true rfl, Nat.le_of_ble_eq_true rfl⟩ ?_
          refine lv_aload_n (pc := 231) hx hb d_law_law_231 rfl (lv_at hl 1 rfl) ?_
          refine q_law_M_yearOf (pc := 232) S hK hP 1 rfl hDl (Nat.le_of_ble_eq_true rfl) (Nat.le_of_ble_eq_true rfl) hl.1 (Nat.le_of_ble_eq_true rfl) d_law_law_232 ⟨Nat.le_of_ble_eq_true rfl, Nat.le_of_ble_eq_true rfl⟩ ?_
          refine lv_icmp_eq (pc := 235) (tgt := 286) hx hb d_law_law_235 (by decide) (fun he => ?_) (fun he => ?_)
          · exact back hlt D hDl H locs hP hD hS ls hl
          · exact absurd rfl he
        · refine lv_tableIn (pc := 32) (off := 208) (tgt := 240) hx hb d_law_law_32 (by decide) (by decide) rfl (by decide) ?_
          refine lv_aload_n (pc := 240) hx hb d_law_law_240 rfl (lv_at hl 2 rfl) ?_
          refine lv_aload_n (pc := 241) hx hb d_law_law_241 rfl (lv_at hl 3 rfl) ?_
          refine lv_iload_n (pc := 242) hx hb d_law_law_242 rfl (lv_at hl 0 rfl) ?_
          refine lv_iconst (pc := 243) (v := nI 1) hx hb d_law_law_243 (by decide) ?_
          refine nv_iadd (pc := 244) hx hb d_law_law_244 ?_
          refine va_sld (pc := 245) hx hb hX hbl hbA hS (vp_in_nI (by omega) (by omega)) d_law_law_245 ?_
          have hT : tbOk s H := by
            obtain ⟨t1, t2, z1, a1, z2, a2⟩ := hT0
            exact ⟨t1, t2, (z1.kept hS.2.1).narrow (fun _ h => h.elim), (a1.kept hS.2.1).narrow (fun _ h => h.elim), (z2.kept hS.2.1).narrow (fun _ h => h.elim), (a2.kept hS.2.1).narrow (fun _ h => h.elim)⟩
          refine q_law_D_fridays (pc := 246) S hT hK hP 0 rfl (xs (nI (i + 1)).toNatClampNeg) (Nat.le_of_ble_eq_true rfl) (Nat.le_of_ble_eq_true rfl) hl.1 (Nat.le_of_ble_eq_true rfl) d_law_law_246 ⟨Nat.le_of_ble_eq_true rfl, Nat.le_of_ble_eq_true rfl⟩ ?_
          refine lv_aload_n (pc := 249) hx hb d_law_law_249 rfl (lv_at hl 1 rfl) ?_
          refine lv_aload_n (pc := 250) hx hb d_law_law_250 rfl (lv_at hl 3 rfl) ?_
          refine lv_iload_n (pc := 251) hx hb d_law_law_251 rfl (lv_at hl 0 rfl) ?_
          refine lv_iconst (pc := 252) (v := nI 1) hx hb d_law_law_252 (by decide) ?_
          refine nv_iadd (pc := 253) hx hb d_law_law_253 ?_
          refine va_sld (pc := 254) hx hb hX hbl hbA hS (vp_in_nI (by omega) (by omega)) d_law_law_254 ?_
          refine q_law_M_fridays (pc := 255) S hK hP 1 rfl (xs (nI (i + 1)).toNatClampNeg) (Nat.le_of_ble_eq_true rfl) (Nat.le_of_ble_eq_true rfl) hl.1 (Nat.le_of_ble_eq_true rfl) d_law_law_255 ⟨Nat.le_of_ble_eq_true rfl, Nat.le_of_ble_eq_true rfl⟩ ?_
          refine lv_icmp_eq (pc := 258) (tgt := 286) hx hb d_law_law_258 (by decide) (fun he => ?_) (fun he => ?_)
          · exact back hlt D hDl H locs hP hD hS ls hl
          · exact absurd rfl he
        · refine lv_tableIn (pc := 32) (off := 231) (tgt := 263) hx hb d_law_law_32 (by decide) (by decide) rfl (by decide) ?_
          refine lv_aload_n (pc := 263) hx hb d_law_law_263 rfl (lv_at hl 2 rfl) ?_
          refine lv_aload_n (pc := 264) hx hb d_law_law_264 rfl (lv_at hl 3 rfl) ?_
          refine lv_iload_n (pc := 265) hx hb d_law_law_265 rfl (lv_at hl 0 rfl) ?_
          refine lv_iconst (pc := 266) (v := nI 1) hx hb d_law_law_266 (by decide) ?_
          refine nv_iadd (pc := 267) hx hb d_law_law_267 ?_
          refine va_sld (pc := 268) hx hb hX hbl hbA hS (vp_in_nI (by omega) (by omega)) d_law_law_268 ?_
          refine q_law_D_easter (pc := 269) S hK hP 0 rfl (xs (nI (i + 1)).toNatClampNeg) (Nat.le_of_ble_eq_true rfl) (Nat.le_of_ble_eq_true rfl) hl.1 (Nat.le_of_ble_eq_true rfl) d_law_law_269 ⟨Nat.le_of_ble_eq_true rfl, Nat.le_of_ble_eq_true rfl⟩ ?_
          refine lv_aload_n (pc := 272) hx hb d_law_law_272 rfl (lv_at hl 1 rfl) ?_
          refine lv_aload_n (pc := 273) hx hb d_law_law_273 rfl (lv_at hl 3 rfl) ?_
          refine lv_iload_n (pc := 274) hx hb d_law_law_274 rfl (lv_at hl 0 rfl) ?_
          refine lv_iconst (pc := 275) (v := nI 1) hx hb d_law_law_275 (by decide) ?_
          refine nv_iadd (pc := 276) hx hb d_law_law_276 ?_
          refine va_sld (pc := 277) hx hb hX hbl hbA hS (vp_in_nI (by omega) (by omega)) d_law_law_277 ?_
          refine q_law_M_easter (pc := 278) S hK hP 1 rfl (xs (nI (i + 1)).toNatClampNeg) (Nat.le_of_ble_eq_true rfl) (Nat.le_of_ble_eq_true rfl) hl.1 (Nat.le_of_ble_eq_true rfl) d_law_law_278 ⟨Nat.le_of_ble_eq_true rfl, Nat.le_of_ble_eq_true rfl⟩ ?_
          refine lv_icmp_eq (pc := 281) (tgt := 286) hx hb d_law_law_281 (by decide) (fun he => ?_) (fun he => ?_)
          · exact back hlt D hDl H locs hP hD hS ls hl
          · exact absurd rfl he
end
section
set_option maxHeartbeats 4000000 in
set_option maxRecDepth 100000 in
/-- THE LAW, from its entry -/
theorem whole_start {p : Program} {e : Env} {s : State} {m : MethodId} {below : List Frame} {meth : Method} {c : Code} (l : Launch) {b L : Nat} {xs : Nat → Int32} (hL : L ≤ 2048) (C0 : lw_At p s m meth c b L xs) : W p l e room_1 s m #[Value.ref b] below meth c s.heap [] 0 0 (lw_Z below #[Value.ref b] s) (entryFrame m ([Value.ref b] : List Value).toArray 4) := by
  obtain ⟨hx, hb, hr, hml, hown, hts0, hX, hbl, hlocks, hgv⟩ := id C0
  have hts : ∀ w ∈ gT, w.before #[Value.ref b] s = true := fun w hw => hts0 w (gT_in hw)
  have S : CallFix p m c code 4 s #[Value.ref b] gT R_law := ⟨hx, hb, hml, hown, hts⟩
  have hA : ∀ q : Nat, s.heap.size ≤ q → (fun q : Nat => s.heap.size ≤ q) q := fun _ h => h
  have hfl := flat_of_before _ hgv
  have harr_LEAP : (Cond.arrayOf (.static "WeekDesk" "LEAP" "[I") .int).before #[Value.ref b] s = true := hfl _ (by decide +kernel)
  have hlen_LEAP : (Term.length (.static "WeekDesk" "LEAP" "[I")).eval #[Value.ref b] s none [] s = some (.int (Int32.ofNat 7)) := va_eqt (hfl (Cond.eq (.length (.static "WeekDesk" "LEAP" "[I")) (.int 7)) (by decide +kernel))
  have hel_LEAP : ∀ j : Nat, j < 7 → (Term.elem (.static "WeekDesk" "LEAP" "[I") (.int (Int32.ofNat j))).eval #[Value.ref b] s none [] s = some (wd_vL j) := by
    intro j hj
    rcases (show j = 0 ∨ j = 1 ∨ j = 2 ∨ j = 3 ∨ j = 4 ∨ j = 5 ∨ j = 6 by omega) with rfl | rfl | rfl | rfl | rfl | rfl | rfl
    · exact va_eqt (hfl (Cond.eq (.elem (.static "WeekDesk" "LEAP" "[I") (.int 0)) (.int 2)) (by decide +kernel))
    · exact va_eqt (hfl (Cond.eq (.elem (.static "WeekDesk" "LEAP" "[I") (.int 1)) (.int 1)) (by decide +kernel))
    · exact va_eqt (hfl (Cond.eq (.elem (.static "WeekDesk" "LEAP" "[I") (.int 2)) (.int 2)) (by decide +kernel))
    · exact va_eqt (hfl (Cond.eq (.elem (.static "WeekDesk" "LEAP" "[I") (.int 3)) (.int 2)) (by decide +kernel))
    · exact va_eqt (hfl (Cond.eq (.elem (.static "WeekDesk" "LEAP" "[I") (.int 4)) (.int 1)) (by decide +kernel))
    · exact va_eqt (hfl (Cond.eq (.elem (.static "WeekDesk" "LEAP" "[I") (.int 5)) (.int 1)) (by decide +kernel))
    · exact va_eqt (hfl (Cond.eq (.elem (.static "WeekDesk" "LEAP" "[I") (.int 6)) (.int 3)) (by decide +kernel))
  obtain ⟨t_LEAP, ev_LEAP, T_LEAP⟩ := va_Tof (A := (fun q : Nat => s.heap.size ≤ q)) (by decide) harr_LEAP hlen_LEAP hel_LEAP (fun a h => Nat.not_le.mpr h)
  have Z_LEAP := va_Zref (A := (fun q : Nat => s.heap.size ≤ q)) (hts0 (Cond.laysStatic "WeekDesk" "LEAP" "[I") (List.mem_append_right _ (List.mem_of_getElem? (i := 80) (by decide +kernel)))) (hts _ tm_1) ev_LEAP (fun a h => Nat.not_le.mpr h)
  have harr_PLAIN : (Cond.arrayOf (.static "WeekDesk" "PLAIN" "[I") .int).before #[Value.ref b] s = true := hfl _ (by decide +kernel)
  have hlen_PLAIN : (Term.length (.static "WeekDesk" "PLAIN" "[I")).eval #[Value.ref b] s none [] s = some (.int (Int32.ofNat 7)) := va_eqt (hfl (Cond.eq (.length (.static "WeekDesk" "PLAIN" "[I")) (.int 7)) (by decide +kernel))
  have hel_PLAIN : ∀ j : Nat, j < 7 → (Term.elem (.static "WeekDesk" "PLAIN" "[I") (.int (Int32.ofNat j))).eval #[Value.ref b] s none [] s = some (wd_vP j) := by
    intro j hj
    rcases (show j = 0 ∨ j = 1 ∨ j = 2 ∨ j = 3 ∨ j = 4 ∨ j = 5 ∨ j = 6 by omega) with rfl | rfl | rfl | rfl | rfl | rfl | rfl
    · exact va_eqt (hfl (Cond.eq (.elem (.static "WeekDesk" "PLAIN" "[I") (.int 0)) (.int 2)) (by decide +kernel))
    · exact va_eqt (hfl (Cond.eq (.elem (.static "WeekDesk" "PLAIN" "[I") (.int 1)) (.int 2)) (by decide +kernel))
    · exact va_eqt (hfl (Cond.eq (.elem (.static "WeekDesk" "PLAIN" "[I") (.int 2)) (.int 1)) (by decide +kernel))
    · exact va_eqt (hfl (Cond.eq (.elem (.static "WeekDesk" "PLAIN" "[I") (.int 3)) (.int 3)) (by decide +kernel))
    · exact va_eqt (hfl (Cond.eq (.elem (.static "WeekDesk" "PLAIN" "[I") (.int 4)) (.int 1)) (by decide +kernel))
    · exact va_eqt (hfl (Cond.eq (.elem (.static "WeekDesk" "PLAIN" "[I") (.int 5)) (.int 1)) (by decide +kernel))
    · exact va_eqt (hfl (Cond.eq (.elem (.static "WeekDesk" "PLAIN" "[I") (.int 6)) (.int 2)) (by decide +kernel))
  obtain ⟨t_PLAIN, ev_PLAIN, T_PLAIN⟩ := va_Tof (A := (fun q : Nat => s.heap.size ≤ q)) (by decide) harr_PLAIN hlen_PLAIN hel_PLAIN (fun a h => Nat.not_le.mpr h)
  have Z_PLAIN := va_Zref (A := (fun q : Nat => s.heap.size ≤ q)) (hts0 (Cond.laysStatic "WeekDesk" "PLAIN" "[I") (List.mem_append_right _ (List.mem_of_getElem? (i := 82) (by decide +kernel)))) (hts _ tm_1) ev_PLAIN (fun a h => Nat.not_le.mpr h)
  obtain ⟨c0, iS0, hKn0⟩ := u_known (C := R_D) (T := F_D) (N := 1) (n := 1) hts in_D (hts _ tm_5)
  obtain ⟨c1, iS1, hKn1⟩ := u_known (C := R_M) (T := F_M) (N := 1) (n := 1) hts in_M (hts _ tm_88)
  obtain ⟨dC, dI, hKc⟩ : ∃ (dC : Nat → ClassId) (dI : Nat → Nat → Nat), ∀ (k : Nat) (q : vw_C), classes[k]? = some q → u_Kn s q.1 q.2.1 q.2.2 (dC k) (dI k) := by
    refine ⟨fun k => if k = 0 then c0 else c1, fun k => if k = 0 then iS0 else iS1, ?_⟩
    intro k q hq
    match k, hq with
    | 0, hq => cases hq; exact hKn0
    | 1, hq => cases hq; exact hKn1
    | k + 2, hq => simp [classes] at hq
  have hS : va_S (fun q : Nat => s.heap.size ≤ q) s.heap s.heap [] := va_S.rf
  have hK : va_K (dC, dI) classes [] s := ⟨hKc, fun k q h => by simp at h⟩
  have hP : va_P (dC, dI) classes [] s.heap := fun k q h => by simp at h
  have hD : va_D (fun q : Nat => s.heap.size ≤ q) [] := ⟨fun i j p q h => by simp at h, fun k q h => by simp at h⟩
  have hl := lv_entry ([.ref b]) (n := 4) (Nat.le_of_ble_eq_true rfl)
  rw [lg_entry_eq]
  generalize (lg_sl ([.ref b]) ++ List.replicate (4 - (lg_sl ([.ref b])).length) Slot.unset).toArray = ls at hl ⊢
  have hl : lv_has ls 4 [(0, .ref b)] := hl
  refine va_new (pc := 0) (ci := 0) (fs := [.int (nI 0)]) (C := R_D) (T := F_D) (N := 1) hx hb hts in_D t_D t_D_ok hown (hts _ tm_4) (hts _ tm_5) (hts _ tm_1) hK hP hD hS hA rfl (fun j hj => by rcases (show j = 0 by omega) with rfl <;> rfl) (Nat.le_of_ble_eq_true rfl) (Nat.le_of_ble_eq_true rfl) d_law_law_0 (fun q0 H hP hD hS => ?_)
  have hP : va_P (dC, dI) classes [(q0, .inr (0, [.int (nI 0)]))] H := hP
  have hD : va_D (fun q : Nat => s.heap.size ≤ q) [(q0, .inr (0, [.int (nI 0)]))] := hD
  refine W.widen (k := 1) (n := 1) (by omega) (by omega) ?_
  refine lv_dup (pc := 3) hx hb d_law_law_3 rfl ?_
  have hPc := hP.sub (ws' := [(q0, .inr (0, [.int (nI 0)]))]) [0] rfl
  have hDc := hD.sub (ws' := [(q0, .inr (0, [.int (nI 0)]))]) [0] (by decide) rfl
  have hFc := va_free (wc := [(q0, .inr (0, [.int (nI 0)]))]) hD hS hA [0] rfl
  refine va_callv (va_runI (As := []) (rest := [.ref q0]) S (c_D_init l dC dI q0 H.size 0) (cwI 0 hts (goodC tm_8) rfl rfl rfl (hts _ tm_1) (hts _ tm_6) (hts _ tm_7) rfl (by decide +kernel) ⟨Nat.le_of_ble_eq_true rfl, Nat.le_of_ble_eq_true rfl⟩) ⟨fun a U g mk q => by obtain ⟨z0, z1, zP, zK, zD⟩ := q; exact ⟨z0, z1, zP, va_K.moved (u := U) (U := U.calling g mk a) (Vm.Alike.refl U.vm) zK, zD⟩, fun U hU hW => ⟨rfl, by rw [hU], by rw [hU]; exact hPc, va_K.moved hW.alike hK, hDc.weaken (fun _ _ _ _ => trivial)⟩⟩ rfl rfl hl.1 rfl (lv_room (Nat.le_of_ble_eq_true rfl)) d_law_law_4 ⟨Nat.le_of_ble_eq_true rfl, Nat.le_of_ble_eq_true rfl⟩) hS (fun q _ h => hFc q h) hFc (fun u t H1 locs ht hvm hw hB hz1 hk1 hS => ?_)
  obtain ⟨hP1, hK1, hD1⟩ := hB
  rw [ht] at hP1
  subst hw
  obtain ⟨hP, hD⟩ := va_join (wr := []) (w1 := [(q0, .inr (0, [.int (nI 0)]))]) hP hD [0] [] rfl rfl (by decide) (by decide) hk1 hFc hP1 hD1
  generalize H1 = H at hP hS ⊢
  have hP : va_P (dC, dI) classes [(q0, .inr (0, [.int (nI 0)]))] H := hP
  have hD : va_D (fun q : Nat => s.heap.size ≤ q) [(q0, .inr (0, [.int (nI 0)]))] := hD
  refine W.widen (k := 1) (n := 1) (by omega) (by omega) ?_
  refine lv_astore_n (pc := 7) (lv' := [(1, .ref q0), (0, .ref b)]) hx hb d_law_law_7 rfl hl (by decide) rfl (fun ls hl => ?_)
  refine va_new (pc := 8) (ci := 1) (fs := [.int (nI 0)]) (C := R_M) (T := F_M) (N := 1) hx hb hts in_M t_M t_M_ok hown (hts _ tm_87) (hts _ tm_88) (hts _ tm_2) hK hP hD hS hA rfl (fun j hj => by rcases (show j = 0 by omega) with rfl <;> rfl) (Nat.le_of_ble_eq_true rfl) (Nat.le_of_ble_eq_true rfl) d_law_law_8 (fun q1 H hP hD hS => ?_)
  have hP : va_P (dC, dI) classes [(q0, .inr (0, [.int (nI 0)])), (q1, .inr (1, [.int (nI 0)]))] H := hP
  have hD : va_D (fun q : Nat => s.heap.size ≤ q) [(q0, .inr (0, [.int (nI 0)])), (q1, .inr (1, [.int (nI 0)]))] := hD
  refine W.widen (k := 2) (n := 2) (by omega) (by omega) ?_
  refine lv_dup (pc := 11) hx hb d_law_law_11 rfl ?_
  have hPc := hP.sub (ws' := [(q1, .inr (1, [.int (nI 0)]))]) [1] rfl
  have hDc := hD.sub (ws' := [(q1, .inr (1, [.int (nI 0)]))]) [1] (by decide) rfl
  have hFc := va_free (wc := [(q1, .inr (1, [.int (nI 0)]))]) hD hS hA [1] rfl
  refine va_callv (va_runI (As := []) (rest := [.ref q1]) S (c_M_init l dC dI q1 H.size 0) (cwI 0 hts (goodC tm_91) rfl rfl rfl (hts _ tm_2) (hts _ tm_89) (hts _ tm_90) rfl (by decide +kernel) ⟨Nat.le_of_ble_eq_true rfl, Nat.le_of_ble_eq_true rfl⟩) ⟨fun a U g mk q => by obtain ⟨z0, z1, zP, zK, zD⟩ := q; exact ⟨z0, z1, zP, va_K.moved (u := U) (U := U.calling g mk a) (Vm.Alike.refl U.vm) zK, zD⟩, fun U hU hW => ⟨rfl, by rw [hU], by rw [hU]; exact hPc, va_K.moved hW.alike hK, hDc.weaken (fun _ _ _ _ => trivial)⟩⟩ rfl rfl hl.1 rfl (lv_room (Nat.le_of_ble_eq_true rfl)) d_law_law_12 ⟨Nat.le_of_ble_eq_true rfl, Nat.le_of_ble_eq_true rfl⟩) hS (fun q _ h => hFc q h) hFc (fun u t H1 locs ht hvm hw hB hz1 hk1 hS => ?_)
  obtain ⟨hP1, hK1, hD1⟩ := hB
  rw [ht] at hP1
  subst hw
  obtain ⟨hP, hD⟩ := va_join (wr := [(q0, .inr (0, [.int (nI 0)]))]) (w1 := [(q1, .inr (1, [.int (nI 0)]))]) hP hD [1] [0] rfl rfl (by decide) (by decide) hk1 hFc hP1 hD1
  generalize H1 = H at hP hS ⊢
  have hP : va_P (dC, dI) classes [(q0, .inr (0, [.int (nI 0)])), (q1, .inr (1, [.int (nI 0)]))] H := hP
  have hD : va_D (fun q : Nat => s.heap.size ≤ q) [(q0, .inr (0, [.int (nI 0)])), (q1, .inr (1, [.int (nI 0)]))] := hD
  refine W.widen (k := 2) (n := 2) (by omega) (by omega) ?_
  refine lv_astore_n (pc := 15) (lv' := [(2, .ref q1), (1, .ref q0), (0, .ref b)]) hx hb d_law_law_15 rfl hl (by decide) rfl (fun ls hl => ?_)
  refine lv_iconst (pc := 16) (v := nI 0) hx hb d_law_law_16 (by decide) ?_
  refine lv_istore_n (pc := 17) (lv' := [(3, .int (nI 0)), (2, .ref q1), (1, .ref q0), (0, .ref b)]) hx hb d_law_law_17 rfl hl (by decide) rfl (fun ls hl => ?_)
  exact law_loop hL C0 ⟨t_LEAP, t_PLAIN, Z_LEAP, T_LEAP, Z_PLAIN, T_PLAIN⟩ (L + 1) 0 (Nat.zero_le L) (by omega) 0 (by decide) q0 q1 H locs hK hP hD hS ls (lv_sub hl [0, 1, 2, 3] rfl)
end
section
set_option maxHeartbeats 4000000 in
theorem lw_walk (l : Launch) (b : Addr) (xs : List Int32) : MetFree l x (headSpec (Jvm.Cond.code x code maxLocals ret :: tables_1) room_1) (lw_P b xs) (fun _ _ _ _ _ => True) lw_Q := by
  refine MetFree.of_bodyS (code := code) (maxLocals := maxLocals) (ret := ret) (by decide) ?_ ?_
  · intro args s m h hn
    obtain ⟨meth, c, h1, h2, h3, h4, h5, h6, -, -⟩ := Cond.code_spec hn (atoms_spec (ws := Jvm.Cond.code x code maxLocals ret :: tables_1) h _ List.mem_cons_self)
    exact ⟨meth, c, h1, h2, h3, h4, h5, h6⟩
  · intro p e s m args below meth c s₁ B hml0 hP _
    obtain ⟨rfl, hx, hbd, hgv⟩ := hP
    obtain ⟨scr, harrAt, hlist, hof, hsmall⟩ := hx
    obtain ⟨hcb, hkn, -, -⟩ := State.arrayAt?_spec harrAt
    have hown : s.vm.findClass R_law = some m.cls := findClass_of_methodNamed B.named
    have hts0 : ∀ c ∈ (Jvm.Cond.code x code maxLocals ret :: tables_1), c.before #[Value.ref b] s = true := atoms_spec (ws := Jvm.Cond.code x code maxLocals ret :: tables_1) B.pre
    have hts : ∀ w ∈ lw_tbl, w.before #[Value.ref b] s = true := k2_hts_sels lw_privs (fun w hw => hts0 w (List.mem_cons_of_mem _ hw)) lw_privs_ok
    have hml : c.maxLocals = 4 := B.maxLocals_eq (hts0 _ List.mem_cons_self)
    have X₀ : Stand p l e room_1 s m #[Value.ref b] below meth c s₁ [] 0 0 := Stand.of_body B
    have hh0 : s₁.heap = s.heap := by rw [B.state]; rfl
    have hsz : scr.slots.size = xs.length := by rw [← Array.length_toList, hlist, List.length_map]
    have hval : ∀ j : Nat, j < xs.length → scr.slots[j]? = some (.int (xs.getD j 0)) := fun j hj => by
      rw [← Array.getElem?_toList, hlist]
      simp [hj]
    have hbl : b < s.heap.size := (Array.getElem?_eq_some_iff.mp hcb).1
    have hX : va_X b xs.length (fun j => xs.getD j 0) s s.heap := ⟨scr, hcb, hof, hkn, hsz, hval⟩
    have K : W p l e room_1 s m #[Value.ref b] below meth c s₁.heap [] 0 0 (lw_Z below #[Value.ref b] s) (entryFrame m ([Value.ref b] : List Value).toArray 4) := by
      rw [hh0]
      exact whole_start l hbd ⟨B.exec, B.bytes, B.returns, hml, hown, hts, hX, hbl, B.notSynchronized, hgv⟩
    obtain ⟨t, a1, o, b1, b2, b3⟩ := K s₁ rfl X₀
    exact ⟨t, o, a1, b1, b2, b3⟩
theorem lw_pre_spec {args : Array Value} {s : State} (h : (Jvm.Cond.and given_1 narrow_1).before args s = true) (hr : rest_1_c.before args s = true) : ∃ (b : Addr) (xs : List Int32), lw_P b xs args s := by
  have hs := flat_of_before _ h
  have hq := flat_of_before _ hr
  have hc : (Cond.count 1).before args s = true := hs _ (by decide +kernel)
  have harr : (Cond.arrayOf (.arg 0) .int).before args s = true := hs _ (by decide +kernel)
  have hle : (Cond.le (.length (.arg 0)) (.int 2048)).before args s = true := hs _ (by decide +kernel)
  have hlen : (Cond.isInt (.length (.arg 0))).before args s = true := hq _ (by decide +kernel)
  have hall : (Cond.all (.arg 0) (.isInt (.elem (.arg 0) (.index 0)))).before args s = true := hq _ (by decide +kernel)
  obtain ⟨b, xs, hb, hx⟩ := State.ints_of_pre rfl harr hlen hall
  have hsm : xs.length < 2 ^ 31 := hx.choose_spec.2.2.2
  have hev : (Term.length (.arg 0)).eval args s none [] s = some (.int xs.length.toInt32) := hx.length_eval hb
  have hv := Cond.le_ints hev (show (Term.int 2048).eval args s none [] s = some (.int 2048) from rfl)
  have hd : xs.length.toInt32 ≤ 2048 := by
    simpa [Cond.before, Cond.holds, hv] using hle
  have hN : xs.length ≤ 2048 := (Int32.ofNat_le_ofNat hsm (by decide)).mp (show Int32.ofNat xs.length ≤ Int32.ofNat 2048 from hd)
  exact ⟨b, xs, Cond.one_arg hc (show args[0]? = some (.ref b) from hb), hx, hN, h⟩
theorem lw_comes (l : Launch) : Comes l x (Jvm.Cond.code x code maxLocals ret :: tables_1) room_1 (fun tb e args s => Calls_1 tb e args s ∧ rest_1 tb e args s ∧ Pre_1 tb e args s)
    (fun _ _ args s o t => lw_Q args s o t) := by
  intro p e ha hc hk s m args below hf hfit hheap happ hpre
  obtain ⟨b, xs, hP⟩ := lw_pre_spec hpre.2.2 hpre.2.1
  obtain ⟨k, o, h1, h2, h3, hQ⟩ := lw_walk l b xs p e ha hc hk s m args below hf ((Spec.applies_iff_loose hf).mp happ).1 hP trivial
  exact ⟨k, o, h1, h2, h3, hQ⟩
theorem lw_frame {s t : State} {o : Outcome} {args : Array Value} (h : Framed s o t [] 2 2) :
    Framed s o t (fieldLocs frame_1_writes args s ++ arrayLocs frame_1_arrays args s ++ staticLocs frame_1_statics s) 2 2 := h
theorem lw_limb (L : Cond) (hL : ∀ (args : Array Value) (s t : State), L.after args s (.returned (some (.int 1))) t = true) :
    ArmFor flags0 classFile x code maxLocals ret World_1 tables_1 room_1 Calls_1 rest_1 Pre_1
      (fun tb e a s o t => postC L tb e a s o t ∧ Framed s o t (fieldLocs frame_1_writes a s ++ arrayLocs frame_1_arrays a s ++ staticLocs frame_1_statics s) 2 2) := by
  intro l _ _ _ p e ha hc hk s m args below hf hfit hheap happ hpre
  obtain ⟨k, o, h1, h2, h3, rfl, hF⟩ := lw_comes l p e ha hc hk s m args below hf hfit hheap happ hpre
  exact ⟨k, _, h1, h2, h3, hL args s _, lw_frame hF⟩
theorem i_vc : Claimed_1_1 ∧ Claimed_1_2 := ⟨lw_limb limb_1_1 (fun args s t => by simp [limb_1_1, Cond.after, Cond.holds, Cond.value]), lw_limb limb_1_2 (fun args s t => Cond.after_iff.mpr (by
  first | (rw [show limb_1_2 = Cond.eq .result (.int 1) from rfl, Cond.eq_ints (x := 1) (y := 1) rfl rfl]; simp; done) | (simp [limb_1_2, Cond.value, Term.eval]; done)))⟩
end
