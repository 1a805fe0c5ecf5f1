section
-- ===== PART A: goes FIRST, ahead of the names: the tables' words, and 'selects' of the private methods out of them =====
/-- a private method of a class that the tables say can be made, by its rows of tables_1 -/
def lw_okq (q : MethodName × Nat) : Prop := (q.1.cls ≠ "java/lang/invoke/MethodHandle" ∧ q.1.cls ≠ "java/lang/invoke/VarHandle") ∧ Cond.instantiable q.1.cls q.2 ∈ tables_1 ∧ Cond.privateMethod q.1 ∈ tables_1 ∧ Cond.instanceMethod q.1 ∈ tables_1
theorem lw_p0 : lw_okq (⟨"NoteMix", "work", "()V"⟩, 5) := ⟨⟨by decide +kernel, by decide +kernel⟩, List.mem_of_getElem? (i := 10) (by decide +kernel), List.mem_of_getElem? (i := 40) (by decide +kernel), List.mem_of_getElem? (i := 41) (by decide +kernel)⟩
theorem lw_p1 : lw_okq (⟨"NoteMix", "before", "(II)I"⟩, 5) := ⟨⟨by decide +kernel, by decide +kernel⟩, List.mem_of_getElem? (i := 10) (by decide +kernel), List.mem_of_getElem? (i := 44) (by decide +kernel), List.mem_of_getElem? (i := 45) (by decide +kernel)⟩
theorem lw_p2 : lw_okq (⟨"java/lang/Throwable", "fillInStackTrace", "(I)Ljava/lang/Throwable;"⟩, 6) := ⟨⟨by decide +kernel, by decide +kernel⟩, List.mem_of_getElem? (i := 103) (by decide +kernel), List.mem_of_getElem? (i := 101) (by decide +kernel), List.mem_of_getElem? (i := 102) (by decide +kernel)⟩
theorem lw_p3 : lw_okq (⟨"NoteMix", "found", "(I)I"⟩, 5) := ⟨⟨by decide +kernel, by decide +kernel⟩, List.mem_of_getElem? (i := 10) (by decide +kernel), List.mem_of_getElem? (i := 136) (by decide +kernel), List.mem_of_getElem? (i := 137) (by decide +kernel)⟩
theorem lw_p4 : lw_okq (⟨"NoteMix", "mix", "(I)I"⟩, 5) := ⟨⟨by decide +kernel, by decide +kernel⟩, List.mem_of_getElem? (i := 10) (by decide +kernel), List.mem_of_getElem? (i := 140) (by decide +kernel), List.mem_of_getElem? (i := 141) (by decide +kernel)⟩
theorem lw_p5 : lw_okq (⟨"NoteMix", "atMost", "(III)I"⟩, 5) := ⟨⟨by decide +kernel, by decide +kernel⟩, List.mem_of_getElem? (i := 10) (by decide +kernel), List.mem_of_getElem? (i := 173) (by decide +kernel), List.mem_of_getElem? (i := 174) (by decide +kernel)⟩
theorem lw_p6 : lw_okq (⟨"NoteMixModel", "isBest", "(I)Z"⟩, 7) := ⟨⟨by decide +kernel, by decide +kernel⟩, List.mem_of_getElem? (i := 198) (by decide +kernel), List.mem_of_getElem? (i := 242) (by decide +kernel), List.mem_of_getElem? (i := 243) (by decide +kernel)⟩
theorem lw_p7 : lw_okq (⟨"NoteMixModel", "look", "(I)V"⟩, 7) := ⟨⟨by decide +kernel, by decide +kernel⟩, List.mem_of_getElem? (i := 198) (by decide +kernel), List.mem_of_getElem? (i := 246) (by decide +kernel), List.mem_of_getElem? (i := 247) (by decide +kernel)⟩
theorem lw_p8 : lw_okq (⟨"NoteMixModel", "all", "()V"⟩, 7) := ⟨⟨by decide +kernel, by decide +kernel⟩, List.mem_of_getElem? (i := 198) (by decide +kernel), List.mem_of_getElem? (i := 269) (by decide +kernel), List.mem_of_getElem? (i := 270) (by decide +kernel)⟩
def lw_privs_1 : List (MethodName × Nat) := [(⟨"NoteMix", "work", "()V"⟩, 5), (⟨"NoteMix", "before", "(II)I"⟩, 5), (⟨"java/lang/Throwable", "fillInStackTrace", "(I)Ljava/lang/Throwable;"⟩, 6), (⟨"NoteMix", "found", "(I)I"⟩, 5), (⟨"NoteMix", "mix", "(I)I"⟩, 5), (⟨"NoteMix", "atMost", "(III)I"⟩, 5), (⟨"NoteMixModel", "isBest", "(I)Z"⟩, 7), (⟨"NoteMixModel", "look", "(I)V"⟩, 7), (⟨"NoteMixModel", "all", "()V"⟩, 7)]
theorem lw_r1 : ∀ q ∈ lw_privs_1, lw_okq q := List.forall_mem_cons.mpr ⟨lw_p0, List.forall_mem_cons.mpr ⟨lw_p1, List.forall_mem_cons.mpr ⟨lw_p2, List.forall_mem_cons.mpr ⟨lw_p3, List.forall_mem_cons.mpr ⟨lw_p4, List.forall_mem_cons.mpr ⟨lw_p5, List.forall_mem_cons.mpr ⟨lw_p6, List.forall_mem_cons.mpr ⟨lw_p7, List.forall_mem_cons.mpr ⟨lw_p8, fun _ h => absurd h List.not_mem_nil⟩⟩⟩⟩⟩⟩⟩⟩⟩
def lw_privs : List (MethodName × Nat) := lw_privs_1
def lw_tbl : List Cond := k2_sels lw_privs ++ tables_1
theorem lw_privs_ok : ∀ q ∈ lw_privs, lw_okq q := lw_r1
-- ===== the words that every contract of ours takes: all of lw_tbl that speak of the tables alone, and two pairs that aren't castable =====
def tb_ls : Cond → Bool
  | .laysStatic .. => true
  | _ => false
def tb_no : List Cond := [.not (.castable "java/util/NoSuchElementException" "java/lang/IllegalArgumentException")]
def tb : List Cond := (lw_tbl.filter (fun w => !tb_ls w)) ++ tb_no
theorem tb_of {w : Cond} (h : w ∈ lw_tbl) (hl : tb_ls w = false) : w ∈ tb := List.mem_append_left _ (List.mem_filter.mpr ⟨h, by rw [hl]; rfl⟩)
theorem tb_t {w : Cond} (h : w ∈ tables_1) (hl : tb_ls w = false) : w ∈ tb := tb_of (List.mem_append_right _ h) hl
theorem tb_s {w : Cond} (h : w ∈ k2_sels lw_privs) (hl : tb_ls w = false) : w ∈ tb := tb_of (List.mem_append_left _ h) hl
/-- a word that looks at the tables alone, and stays true while they grow warmer -/
def tb_good : Cond → Bool
  | .not (.castable _ _) => true
  | .arrayClass _ => true
  | w => w.onTables && w.keepsFace
theorem tb_all : tb.all tb_good = true := by decide +kernel
theorem tb_at {args a' : Array Value} {s U : State} (hW : s.WarmedH U.vm) (h : ∀ w ∈ tb, w.before args s = true) : ∀ w ∈ tb, w.before a' U = true := by
  intro w hw
  have hg : tb_good w = true := List.all_eq_true.mp tb_all w hw
  have h0 := h w hw
  have gen : (w.onTables && w.keepsFace) = true → w.before a' U = true := by
    intro hk
    rw [Bool.and_eq_true] at hk
    have h1 := Cond.before_shiftedFace (State.Shifted.of_warmed hW) w hk.2 h0
    rw [Cond.onTables_vm (A' := a') (U' := U) U.vm w hk.1, State.setVm_self] at h1
    exact h1
  cases w with
  | arrayClass ty =>
    have h1 : (Cond.arrayClass ty).before args (s.setVm U.vm) = true := Cond.before_shiftedFace (State.Shifted.of_warmed hW) _ rfl h0
    exact h1
  | not c =>
    cases c with
    | castable a b =>
      have h1 := Cond.castAtom_setVm hW.alike _ rfl h0
      exact h1
    | _ => exact gen hg
  | _ => exact gen hg
theorem tw_0 : Cond.initialized "NoteMixLaw" ∈ tb := tb_t (List.mem_of_getElem? (i := 0) (by decide +kernel)) rfl
theorem tw_1 : Cond.initialized "NoteMix" ∈ tb := tb_t (List.mem_of_getElem? (i := 1) (by decide +kernel)) rfl
theorem tw_2 : Cond.initialized "NoteMixModel" ∈ tb := tb_t (List.mem_of_getElem? (i := 2) (by decide +kernel)) rfl
theorem tw_3 : Cond.initialized "java/lang/Throwable" ∈ tb := tb_t (List.mem_of_getElem? (i := 3) (by decide +kernel)) rfl
theorem tw_4 : Cond.initialized "java/lang/Exception" ∈ tb := tb_t (List.mem_of_getElem? (i := 4) (by decide +kernel)) rfl
theorem tw_5 : Cond.initialized "java/lang/RuntimeException" ∈ tb := tb_t (List.mem_of_getElem? (i := 5) (by decide +kernel)) rfl
theorem tw_6 : Cond.initialized "java/lang/IllegalArgumentException" ∈ tb := tb_t (List.mem_of_getElem? (i := 6) (by decide +kernel)) rfl
theorem tw_7 : Cond.initialized "java/util/NoSuchElementException" ∈ tb := tb_t (List.mem_of_getElem? (i := 7) (by decide +kernel)) rfl
theorem tw_8 : Cond.initialized "java/lang/Math" ∈ tb := tb_t (List.mem_of_getElem? (i := 8) (by decide +kernel)) rfl
theorem tw_9 : Cond.classLink "NoteMixLaw" 8 "NoteMix" ∈ tb := tb_t (List.mem_of_getElem? (i := 9) (by decide +kernel)) rfl
theorem tw_10 : Cond.instantiable "NoteMix" 5 ∈ tb := tb_t (List.mem_of_getElem? (i := 10) (by decide +kernel)) rfl
theorem tw_11 : Cond.methodLink "NoteMixLaw" 38 ⟨"NoteMix", "<init>", "()V"⟩ ∈ tb := tb_t (List.mem_of_getElem? (i := 11) (by decide +kernel)) rfl
theorem tw_12 : Cond.instanceMethod ⟨"NoteMix", "<init>", "()V"⟩ ∈ tb := tb_t (List.mem_of_getElem? (i := 12) (by decide +kernel)) rfl
theorem tw_13 : Cond.code ⟨"NoteMix", "<init>", "()V"⟩ prog_1_method_1_code 2 none ∈ tb := tb_t (List.mem_of_getElem? (i := 13) (by decide +kernel)) rfl
theorem tw_14 : Cond.methodLink "NoteMix" 1 ⟨"java/lang/Object", "<init>", "()V"⟩ ∈ tb := tb_t (List.mem_of_getElem? (i := 14) (by decide +kernel)) rfl
theorem tw_15 : Cond.instanceMethod ⟨"java/lang/Object", "<init>", "()V"⟩ ∈ tb := tb_t (List.mem_of_getElem? (i := 15) (by decide +kernel)) rfl
theorem tw_16 : Cond.code ⟨"java/lang/Object", "<init>", "()V"⟩ object_method_1_code 1 none ∈ tb := tb_t (List.mem_of_getElem? (i := 16) (by decide +kernel)) rfl
theorem tw_17 : Cond.fieldLink "NoteMix" 9 "NoteMix" "worth" "[I" ∈ tb := tb_t (List.mem_of_getElem? (i := 17) (by decide +kernel)) rfl
theorem tw_18 : Cond.fieldLink "NoteMix" 13 "NoteMix" "notes" "[I" ∈ tb := tb_t (List.mem_of_getElem? (i := 18) (by decide +kernel)) rfl
theorem tw_19 : Cond.fieldLink "NoteMix" 16 "NoteMix" "fewest" "[B" ∈ tb := tb_t (List.mem_of_getElem? (i := 19) (by decide +kernel)) rfl
theorem tw_20 : Cond.fieldLink "NoteMix" 34 "NoteMix" "known" "Z" ∈ tb := tb_t (List.mem_of_getElem? (i := 20) (by decide +kernel)) rfl
theorem tw_21 : Cond.fieldLink "NoteMix" 20 "NoteMix" "parts" "[I" ∈ tb := tb_t (List.mem_of_getElem? (i := 21) (by decide +kernel)) rfl
theorem tw_22 : Cond.laysFinal "NoteMix" "NoteMix" "worth" "[I" ∈ tb := tb_t (List.mem_of_getElem? (i := 22) (by decide +kernel)) rfl
theorem tw_23 : Cond.soleField "NoteMix" "worth" ∈ tb := tb_t (List.mem_of_getElem? (i := 23) (by decide +kernel)) rfl
theorem tw_24 : Cond.laysFinal "NoteMix" "NoteMix" "notes" "[I" ∈ tb := tb_t (List.mem_of_getElem? (i := 24) (by decide +kernel)) rfl
theorem tw_25 : Cond.soleField "NoteMix" "notes" ∈ tb := tb_t (List.mem_of_getElem? (i := 25) (by decide +kernel)) rfl
theorem tw_26 : Cond.laysFinal "NoteMix" "NoteMix" "fewest" "[B" ∈ tb := tb_t (List.mem_of_getElem? (i := 26) (by decide +kernel)) rfl
theorem tw_27 : Cond.soleField "NoteMix" "fewest" ∈ tb := tb_t (List.mem_of_getElem? (i := 27) (by decide +kernel)) rfl
theorem tw_28 : Cond.lays "NoteMix" "NoteMix" "known" "Z" ∈ tb := tb_t (List.mem_of_getElem? (i := 28) (by decide +kernel)) rfl
theorem tw_29 : Cond.soleField "NoteMix" "known" ∈ tb := tb_t (List.mem_of_getElem? (i := 29) (by decide +kernel)) rfl
theorem tw_30 : Cond.laysFinal "NoteMix" "NoteMix" "parts" "[I" ∈ tb := tb_t (List.mem_of_getElem? (i := 30) (by decide +kernel)) rfl
theorem tw_31 : Cond.soleField "NoteMix" "parts" ∈ tb := tb_t (List.mem_of_getElem? (i := 31) (by decide +kernel)) rfl
theorem tw_32 : Cond.superclass "NoteMix" "java/lang/Object" ∈ tb := tb_t (List.mem_of_getElem? (i := 32) (by decide +kernel)) rfl
theorem tw_33 : Cond.arrayClass .int ∈ tb := tb_t (List.mem_of_getElem? (i := 33) (by decide +kernel)) rfl
theorem tw_34 : Cond.arrayClass .byte ∈ tb := tb_t (List.mem_of_getElem? (i := 34) (by decide +kernel)) rfl
theorem tw_35 : Cond.methodLink "NoteMixLaw" 69 ⟨"NoteMix", "reach", "()I"⟩ ∈ tb := tb_t (List.mem_of_getElem? (i := 35) (by decide +kernel)) rfl
theorem tw_36 : Cond.instanceMethod ⟨"NoteMix", "reach", "()I"⟩ ∈ tb := tb_t (List.mem_of_getElem? (i := 36) (by decide +kernel)) rfl
theorem tw_37 : Cond.selects "NoteMix" ⟨"NoteMix", "reach", "()I"⟩ ⟨"NoteMix", "reach", "()I"⟩ ∈ tb := tb_t (List.mem_of_getElem? (i := 37) (by decide +kernel)) rfl
theorem tw_38 : Cond.code ⟨"NoteMix", "reach", "()I"⟩ prog_1_method_15_code 3 (some .int) ∈ tb := tb_t (List.mem_of_getElem? (i := 38) (by decide +kernel)) rfl
theorem tw_39 : Cond.methodLink "NoteMix" 42 ⟨"NoteMix", "work", "()V"⟩ ∈ tb := tb_t (List.mem_of_getElem? (i := 39) (by decide +kernel)) rfl
theorem tw_40 : Cond.privateMethod ⟨"NoteMix", "work", "()V"⟩ ∈ tb := tb_t (List.mem_of_getElem? (i := 40) (by decide +kernel)) rfl
theorem tw_41 : Cond.instanceMethod ⟨"NoteMix", "work", "()V"⟩ ∈ tb := tb_t (List.mem_of_getElem? (i := 41) (by decide +kernel)) rfl
theorem tw_42 : Cond.code ⟨"NoteMix", "work", "()V"⟩ prog_1_method_6_code 7 none ∈ tb := tb_t (List.mem_of_getElem? (i := 42) (by decide +kernel)) rfl
theorem tw_43 : Cond.methodLink "NoteMix" 38 ⟨"NoteMix", "before", "(II)I"⟩ ∈ tb := tb_t (List.mem_of_getElem? (i := 43) (by decide +kernel)) rfl
theorem tw_44 : Cond.privateMethod ⟨"NoteMix", "before", "(II)I"⟩ ∈ tb := tb_t (List.mem_of_getElem? (i := 44) (by decide +kernel)) rfl
theorem tw_45 : Cond.instanceMethod ⟨"NoteMix", "before", "(II)I"⟩ ∈ tb := tb_t (List.mem_of_getElem? (i := 45) (by decide +kernel)) rfl
theorem tw_46 : Cond.code ⟨"NoteMix", "before", "(II)I"⟩ prog_1_method_5_code 3 (some .int) ∈ tb := tb_t (List.mem_of_getElem? (i := 46) (by decide +kernel)) rfl
theorem tw_47 : Cond.methodLink "NoteMixLaw" 77 ⟨"NoteMix", "value", "()I"⟩ ∈ tb := tb_t (List.mem_of_getElem? (i := 47) (by decide +kernel)) rfl
theorem tw_48 : Cond.instanceMethod ⟨"NoteMix", "value", "()I"⟩ ∈ tb := tb_t (List.mem_of_getElem? (i := 48) (by decide +kernel)) rfl
theorem tw_49 : Cond.selects "NoteMix" ⟨"NoteMix", "value", "()I"⟩ ⟨"NoteMix", "value", "()I"⟩ ∈ tb := tb_t (List.mem_of_getElem? (i := 49) (by decide +kernel)) rfl
theorem tw_50 : Cond.code ⟨"NoteMix", "value", "()I"⟩ prog_1_method_17_code 3 (some .int) ∈ tb := tb_t (List.mem_of_getElem? (i := 50) (by decide +kernel)) rfl
theorem tw_51 : Cond.methodLink "NoteMixLaw" 42 ⟨"NoteMixLaw", "load", "(LNoteMix;III)I"⟩ ∈ tb := tb_t (List.mem_of_getElem? (i := 51) (by decide +kernel)) rfl
theorem tw_52 : Cond.static ⟨"NoteMixLaw", "load", "(LNoteMix;III)I"⟩ ∈ tb := tb_t (List.mem_of_getElem? (i := 52) (by decide +kernel)) rfl
theorem tw_53 : Cond.codeWith ⟨"NoteMixLaw", "load", "(LNoteMix;III)I"⟩ method_3_code 5 (some .int) [(0, 7, 10, 13)] ∈ tb := tb_t (List.mem_of_getElem? (i := 53) (by decide +kernel)) rfl
theorem tw_54 : Cond.classLink "NoteMixLaw" 13 "java/lang/IllegalArgumentException" ∈ tb := tb_t (List.mem_of_getElem? (i := 54) (by decide +kernel)) rfl
theorem tw_55 : Cond.methodLink "NoteMixLaw" 7 ⟨"NoteMix", "load", "(III)V"⟩ ∈ tb := tb_t (List.mem_of_getElem? (i := 55) (by decide +kernel)) rfl
theorem tw_56 : Cond.instanceMethod ⟨"NoteMix", "load", "(III)V"⟩ ∈ tb := tb_t (List.mem_of_getElem? (i := 56) (by decide +kernel)) rfl
theorem tw_57 : Cond.selects "NoteMix" ⟨"NoteMix", "load", "(III)V"⟩ ⟨"NoteMix", "load", "(III)V"⟩ ∈ tb := tb_t (List.mem_of_getElem? (i := 57) (by decide +kernel)) rfl
theorem tw_58 : Cond.code ⟨"NoteMix", "load", "(III)V"⟩ prog_1_method_4_code 4 none ∈ tb := tb_t (List.mem_of_getElem? (i := 58) (by decide +kernel)) rfl
theorem tw_59 : Cond.methodLink "NoteMix" 26 ⟨"NoteMix", "in", "(III)Z"⟩ ∈ tb := tb_t (List.mem_of_getElem? (i := 59) (by decide +kernel)) rfl
theorem tw_60 : Cond.static ⟨"NoteMix", "in", "(III)Z"⟩ ∈ tb := tb_t (List.mem_of_getElem? (i := 60) (by decide +kernel)) rfl
theorem tw_61 : Cond.code ⟨"NoteMix", "in", "(III)Z"⟩ prog_1_method_3_code 3 (some .boolean) ∈ tb := tb_t (List.mem_of_getElem? (i := 61) (by decide +kernel)) rfl
theorem tw_62 : Cond.methodLink "NoteMix" 30 ⟨"NoteMix", "right", "(Z)V"⟩ ∈ tb := tb_t (List.mem_of_getElem? (i := 62) (by decide +kernel)) rfl
theorem tw_63 : Cond.static ⟨"NoteMix", "right", "(Z)V"⟩ ∈ tb := tb_t (List.mem_of_getElem? (i := 63) (by decide +kernel)) rfl
theorem tw_64 : Cond.code ⟨"NoteMix", "right", "(Z)V"⟩ prog_1_method_2_code 1 none ∈ tb := tb_t (List.mem_of_getElem? (i := 64) (by decide +kernel)) rfl
theorem tw_65 : Cond.classLink "NoteMix" 23 "java/lang/IllegalArgumentException" ∈ tb := tb_t (List.mem_of_getElem? (i := 65) (by decide +kernel)) rfl
theorem tw_66 : Cond.instantiable "java/lang/IllegalArgumentException" 6 ∈ tb := tb_t (List.mem_of_getElem? (i := 66) (by decide +kernel)) rfl
theorem tw_67 : Cond.castable "java/lang/IllegalArgumentException" "java/lang/IllegalArgumentException" ∈ tb := tb_t (List.mem_of_getElem? (i := 67) (by decide +kernel)) rfl
theorem tw_68 : Cond.declares ⟨"java/lang/RuntimeException", "<init>", "()V"⟩ ∈ tb := tb_t (List.mem_of_getElem? (i := 68) (by decide +kernel)) rfl
theorem tw_69 : Cond.declares ⟨"java/lang/RuntimeException", "<init>", "(Ljava/lang/String;)V"⟩ ∈ tb := tb_t (List.mem_of_getElem? (i := 69) (by decide +kernel)) rfl
theorem tw_70 : Cond.declares ⟨"java/lang/Exception", "<init>", "()V"⟩ ∈ tb := tb_t (List.mem_of_getElem? (i := 70) (by decide +kernel)) rfl
theorem tw_71 : Cond.declares ⟨"java/lang/Exception", "<init>", "(Ljava/lang/String;)V"⟩ ∈ tb := tb_t (List.mem_of_getElem? (i := 71) (by decide +kernel)) rfl
theorem tw_72 : Cond.declares ⟨"java/lang/Throwable", "<init>", "()V"⟩ ∈ tb := tb_t (List.mem_of_getElem? (i := 72) (by decide +kernel)) rfl
theorem tw_73 : Cond.declares ⟨"java/lang/Throwable", "<init>", "(Ljava/lang/String;)V"⟩ ∈ tb := tb_t (List.mem_of_getElem? (i := 73) (by decide +kernel)) rfl
theorem tw_74 : Cond.selects "java/lang/IllegalArgumentException" ⟨"java/lang/Throwable", "fillInStackTrace", "(I)Ljava/lang/Throwable;"⟩ ⟨"java/lang/Throwable", "fillInStackTrace", "(I)Ljava/lang/Throwable;"⟩ ∈ tb := tb_t (List.mem_of_getElem? (i := 74) (by decide +kernel)) rfl
theorem tw_75 : Cond.selects "java/lang/IllegalArgumentException" ⟨"java/lang/Throwable", "fillInStackTrace", "()Ljava/lang/Throwable;"⟩ ⟨"java/lang/Throwable", "fillInStackTrace", "()Ljava/lang/Throwable;"⟩ ∈ tb := tb_t (List.mem_of_getElem? (i := 75) (by decide +kernel)) rfl
theorem tw_76 : Cond.lays "java/lang/IllegalArgumentException" "java/lang/Throwable" "cause" "Ljava/lang/Throwable;" ∈ tb := tb_t (List.mem_of_getElem? (i := 76) (by decide +kernel)) rfl
theorem tw_77 : Cond.lays "java/lang/Throwable" "java/lang/Throwable" "cause" "Ljava/lang/Throwable;" ∈ tb := tb_t (List.mem_of_getElem? (i := 77) (by decide +kernel)) rfl
theorem tw_78 : Cond.lays "java/lang/IllegalArgumentException" "java/lang/Throwable" "stackTrace" "[Ljava/lang/StackTraceElement;" ∈ tb := tb_t (List.mem_of_getElem? (i := 78) (by decide +kernel)) rfl
theorem tw_79 : Cond.lays "java/lang/Throwable" "java/lang/Throwable" "stackTrace" "[Ljava/lang/StackTraceElement;" ∈ tb := tb_t (List.mem_of_getElem? (i := 79) (by decide +kernel)) rfl
theorem tw_80 : Cond.lays "java/lang/IllegalArgumentException" "java/lang/Throwable" "suppressedExceptions" "Ljava/util/List;" ∈ tb := tb_t (List.mem_of_getElem? (i := 80) (by decide +kernel)) rfl
theorem tw_81 : Cond.lays "java/lang/Throwable" "java/lang/Throwable" "suppressedExceptions" "Ljava/util/List;" ∈ tb := tb_t (List.mem_of_getElem? (i := 81) (by decide +kernel)) rfl
theorem tw_82 : Cond.lays "java/lang/IllegalArgumentException" "java/lang/Throwable" "detailMessage" "Ljava/lang/String;" ∈ tb := tb_t (List.mem_of_getElem? (i := 82) (by decide +kernel)) rfl
theorem tw_83 : Cond.lays "java/lang/Throwable" "java/lang/Throwable" "detailMessage" "Ljava/lang/String;" ∈ tb := tb_t (List.mem_of_getElem? (i := 83) (by decide +kernel)) rfl
theorem tw_84 : Cond.lays "java/lang/IllegalArgumentException" "java/lang/Throwable" "backtrace" "Ljava/lang/Object;" ∈ tb := tb_t (List.mem_of_getElem? (i := 84) (by decide +kernel)) rfl
theorem tw_85 : Cond.lays "java/lang/Throwable" "java/lang/Throwable" "backtrace" "Ljava/lang/Object;" ∈ tb := tb_t (List.mem_of_getElem? (i := 85) (by decide +kernel)) rfl
theorem tw_86 : Cond.fieldLink "java/lang/Throwable" 198 "java/lang/Throwable" "backtrace" "Ljava/lang/Object;" ∈ tb := tb_t (List.mem_of_getElem? (i := 86) (by decide +kernel)) rfl
theorem tw_87 : Cond.superclass "java/lang/Throwable" "java/lang/Object" ∈ tb := tb_t (List.mem_of_getElem? (i := 87) (by decide +kernel)) rfl
theorem tw_88 : Cond.instanceMethod ⟨"java/lang/Throwable", "<init>", "()V"⟩ ∈ tb := tb_t (List.mem_of_getElem? (i := 88) (by decide +kernel)) rfl
theorem tw_89 : Cond.code ⟨"java/lang/Throwable", "<init>", "()V"⟩ prog_8_method_1_code 1 none ∈ tb := tb_t (List.mem_of_getElem? (i := 89) (by decide +kernel)) rfl
theorem tw_90 : Cond.methodLink "java/lang/Throwable" 1 ⟨"java/lang/Object", "<init>", "()V"⟩ ∈ tb := tb_t (List.mem_of_getElem? (i := 90) (by decide +kernel)) rfl
theorem tw_91 : Cond.fieldLink "java/lang/Throwable" 13 "java/lang/Throwable" "UNASSIGNED_STACK" "[Ljava/lang/StackTraceElement;" ∈ tb := tb_t (List.mem_of_getElem? (i := 91) (by decide +kernel)) rfl
theorem tw_93 : Cond.fieldLink "java/lang/Throwable" 20 "java/lang/Throwable" "SUPPRESSED_SENTINEL" "Ljava/util/List;" ∈ tb := tb_t (List.mem_of_getElem? (i := 93) (by decide +kernel)) rfl
theorem tw_95 : Cond.methodLink "java/lang/Throwable" 27 ⟨"java/lang/Throwable", "fillInStackTrace", "()Ljava/lang/Throwable;"⟩ ∈ tb := tb_t (List.mem_of_getElem? (i := 95) (by decide +kernel)) rfl
theorem tw_96 : Cond.instanceMethod ⟨"java/lang/Throwable", "fillInStackTrace", "()Ljava/lang/Throwable;"⟩ ∈ tb := tb_t (List.mem_of_getElem? (i := 96) (by decide +kernel)) rfl
theorem tw_97 : Cond.sameMethod "java/lang/Throwable" "java/lang/Throwable" "fillInStackTrace" "()Ljava/lang/Throwable;" ∈ tb := tb_t (List.mem_of_getElem? (i := 97) (by decide +kernel)) rfl
theorem tw_98 : Cond.selects "java/util/NoSuchElementException" ⟨"java/lang/Throwable", "fillInStackTrace", "()Ljava/lang/Throwable;"⟩ ⟨"java/lang/Throwable", "fillInStackTrace", "()Ljava/lang/Throwable;"⟩ ∈ tb := tb_t (List.mem_of_getElem? (i := 98) (by decide +kernel)) rfl
theorem tw_99 : Cond.codeSync ⟨"java/lang/Throwable", "fillInStackTrace", "()Ljava/lang/Throwable;"⟩ prog_8_method_18_code 1 (Option.some (.object "java/lang/Throwable")) ∈ tb := tb_t (List.mem_of_getElem? (i := 99) (by decide +kernel)) rfl
theorem tw_100 : Cond.methodLink "java/lang/Throwable" 202 ⟨"java/lang/Throwable", "fillInStackTrace", "(I)Ljava/lang/Throwable;"⟩ ∈ tb := tb_t (List.mem_of_getElem? (i := 100) (by decide +kernel)) rfl
theorem tw_101 : Cond.privateMethod ⟨"java/lang/Throwable", "fillInStackTrace", "(I)Ljava/lang/Throwable;"⟩ ∈ tb := tb_t (List.mem_of_getElem? (i := 101) (by decide +kernel)) rfl
theorem tw_102 : Cond.instanceMethod ⟨"java/lang/Throwable", "fillInStackTrace", "(I)Ljava/lang/Throwable;"⟩ ∈ tb := tb_t (List.mem_of_getElem? (i := 102) (by decide +kernel)) rfl
theorem tw_103 : Cond.instantiable "java/lang/Throwable" 6 ∈ tb := tb_t (List.mem_of_getElem? (i := 103) (by decide +kernel)) rfl
theorem tw_104 : Cond.native ⟨"java/lang/Throwable", "fillInStackTrace", "(I)Ljava/lang/Throwable;"⟩ ∈ tb := tb_t (List.mem_of_getElem? (i := 104) (by decide +kernel)) rfl
theorem tw_105 : Cond.methodLink "NoteMix" 25 ⟨"java/lang/IllegalArgumentException", "<init>", "()V"⟩ ∈ tb := tb_t (List.mem_of_getElem? (i := 105) (by decide +kernel)) rfl
theorem tw_106 : Cond.instanceMethod ⟨"java/lang/IllegalArgumentException", "<init>", "()V"⟩ ∈ tb := tb_t (List.mem_of_getElem? (i := 106) (by decide +kernel)) rfl
theorem tw_107 : Cond.code ⟨"java/lang/IllegalArgumentException", "<init>", "()V"⟩ prog_5_method_1_code 1 none ∈ tb := tb_t (List.mem_of_getElem? (i := 107) (by decide +kernel)) rfl
theorem tw_108 : Cond.methodLink "java/lang/IllegalArgumentException" 1 ⟨"java/lang/RuntimeException", "<init>", "()V"⟩ ∈ tb := tb_t (List.mem_of_getElem? (i := 108) (by decide +kernel)) rfl
theorem tw_109 : Cond.instanceMethod ⟨"java/lang/RuntimeException", "<init>", "()V"⟩ ∈ tb := tb_t (List.mem_of_getElem? (i := 109) (by decide +kernel)) rfl
theorem tw_110 : Cond.code ⟨"java/lang/RuntimeException", "<init>", "()V"⟩ prog_7_method_1_code 1 none ∈ tb := tb_t (List.mem_of_getElem? (i := 110) (by decide +kernel)) rfl
theorem tw_111 : Cond.methodLink "java/lang/RuntimeException" 1 ⟨"java/lang/Exception", "<init>", "()V"⟩ ∈ tb := tb_t (List.mem_of_getElem? (i := 111) (by decide +kernel)) rfl
theorem tw_112 : Cond.instanceMethod ⟨"java/lang/Exception", "<init>", "()V"⟩ ∈ tb := tb_t (List.mem_of_getElem? (i := 112) (by decide +kernel)) rfl
theorem tw_113 : Cond.code ⟨"java/lang/Exception", "<init>", "()V"⟩ prog_4_method_1_code 1 none ∈ tb := tb_t (List.mem_of_getElem? (i := 113) (by decide +kernel)) rfl
theorem tw_114 : Cond.methodLink "java/lang/Exception" 1 ⟨"java/lang/Throwable", "<init>", "()V"⟩ ∈ tb := tb_t (List.mem_of_getElem? (i := 114) (by decide +kernel)) rfl
theorem tw_115 : Cond.fieldLink "java/lang/Throwable" 198 "java/lang/Throwable" "backtrace" "Ljava/lang/Object;" ∈ tb := tb_t (List.mem_of_getElem? (i := 115) (by decide +kernel)) rfl
theorem tw_116 : Cond.fieldLink "java/lang/Throwable" 7 "java/lang/Throwable" "cause" "Ljava/lang/Throwable;" ∈ tb := tb_t (List.mem_of_getElem? (i := 116) (by decide +kernel)) rfl
theorem tw_117 : Cond.fieldLink "java/lang/Throwable" 17 "java/lang/Throwable" "stackTrace" "[Ljava/lang/StackTraceElement;" ∈ tb := tb_t (List.mem_of_getElem? (i := 117) (by decide +kernel)) rfl
theorem tw_118 : Cond.fieldLink "java/lang/Throwable" 24 "java/lang/Throwable" "suppressedExceptions" "Ljava/util/List;" ∈ tb := tb_t (List.mem_of_getElem? (i := 118) (by decide +kernel)) rfl
theorem tw_119 : Cond.soleField "java/lang/Throwable" "backtrace" ∈ tb := tb_t (List.mem_of_getElem? (i := 119) (by decide +kernel)) rfl
theorem tw_120 : Cond.soleField "java/lang/Throwable" "detailMessage" ∈ tb := tb_t (List.mem_of_getElem? (i := 120) (by decide +kernel)) rfl
theorem tw_121 : Cond.soleField "java/lang/Throwable" "cause" ∈ tb := tb_t (List.mem_of_getElem? (i := 121) (by decide +kernel)) rfl
theorem tw_122 : Cond.soleField "java/lang/Throwable" "stackTrace" ∈ tb := tb_t (List.mem_of_getElem? (i := 122) (by decide +kernel)) rfl
theorem tw_123 : Cond.lays "java/lang/IllegalArgumentException" "java/lang/Throwable" "depth" "I" ∈ tb := tb_t (List.mem_of_getElem? (i := 123) (by decide +kernel)) rfl
theorem tw_124 : Cond.soleField "java/lang/Throwable" "depth" ∈ tb := tb_t (List.mem_of_getElem? (i := 124) (by decide +kernel)) rfl
theorem tw_125 : Cond.soleField "java/lang/Throwable" "suppressedExceptions" ∈ tb := tb_t (List.mem_of_getElem? (i := 125) (by decide +kernel)) rfl
theorem tw_126 : Cond.superclass "java/lang/IllegalArgumentException" "java/lang/RuntimeException" ∈ tb := tb_t (List.mem_of_getElem? (i := 126) (by decide +kernel)) rfl
theorem tw_127 : Cond.methodLink "NoteMixLaw" 52 ⟨"NoteMixLaw", "best", "(LNoteMix;I[J)I"⟩ ∈ tb := tb_t (List.mem_of_getElem? (i := 127) (by decide +kernel)) rfl
theorem tw_128 : Cond.static ⟨"NoteMixLaw", "best", "(LNoteMix;I[J)I"⟩ ∈ tb := tb_t (List.mem_of_getElem? (i := 128) (by decide +kernel)) rfl
theorem tw_129 : Cond.codeWith ⟨"NoteMixLaw", "best", "(LNoteMix;I[J)I"⟩ method_4_code 4 (some .int) [(0, 9, 12, 13), (0, 9, 15, 19)] ∈ tb := tb_t (List.mem_of_getElem? (i := 129) (by decide +kernel)) rfl
theorem tw_130 : Cond.classLink "NoteMixLaw" 19 "java/util/NoSuchElementException" ∈ tb := tb_t (List.mem_of_getElem? (i := 130) (by decide +kernel)) rfl
theorem tw_131 : Cond.methodLink "NoteMixLaw" 15 ⟨"NoteMix", "best", "(I)I"⟩ ∈ tb := tb_t (List.mem_of_getElem? (i := 131) (by decide +kernel)) rfl
theorem tw_132 : Cond.instanceMethod ⟨"NoteMix", "best", "(I)I"⟩ ∈ tb := tb_t (List.mem_of_getElem? (i := 132) (by decide +kernel)) rfl
theorem tw_133 : Cond.selects "NoteMix" ⟨"NoteMix", "best", "(I)I"⟩ ⟨"NoteMix", "best", "(I)I"⟩ ∈ tb := tb_t (List.mem_of_getElem? (i := 133) (by decide +kernel)) rfl
theorem tw_134 : Cond.code ⟨"NoteMix", "best", "(I)I"⟩ prog_1_method_9_code 2 (some .int) ∈ tb := tb_t (List.mem_of_getElem? (i := 134) (by decide +kernel)) rfl
theorem tw_135 : Cond.methodLink "NoteMix" 52 ⟨"NoteMix", "found", "(I)I"⟩ ∈ tb := tb_t (List.mem_of_getElem? (i := 135) (by decide +kernel)) rfl
theorem tw_136 : Cond.privateMethod ⟨"NoteMix", "found", "(I)I"⟩ ∈ tb := tb_t (List.mem_of_getElem? (i := 136) (by decide +kernel)) rfl
theorem tw_137 : Cond.instanceMethod ⟨"NoteMix", "found", "(I)I"⟩ ∈ tb := tb_t (List.mem_of_getElem? (i := 137) (by decide +kernel)) rfl
theorem tw_138 : Cond.code ⟨"NoteMix", "found", "(I)I"⟩ prog_1_method_8_code 3 (some .int) ∈ tb := tb_t (List.mem_of_getElem? (i := 138) (by decide +kernel)) rfl
theorem tw_139 : Cond.methodLink "NoteMix" 45 ⟨"NoteMix", "mix", "(I)I"⟩ ∈ tb := tb_t (List.mem_of_getElem? (i := 139) (by decide +kernel)) rfl
theorem tw_140 : Cond.privateMethod ⟨"NoteMix", "mix", "(I)I"⟩ ∈ tb := tb_t (List.mem_of_getElem? (i := 140) (by decide +kernel)) rfl
theorem tw_141 : Cond.instanceMethod ⟨"NoteMix", "mix", "(I)I"⟩ ∈ tb := tb_t (List.mem_of_getElem? (i := 141) (by decide +kernel)) rfl
theorem tw_142 : Cond.code ⟨"NoteMix", "mix", "(I)I"⟩ prog_1_method_7_code 7 (some .int) ∈ tb := tb_t (List.mem_of_getElem? (i := 142) (by decide +kernel)) rfl
theorem tw_143 : Cond.classLink "NoteMix" 49 "java/util/NoSuchElementException" ∈ tb := tb_t (List.mem_of_getElem? (i := 143) (by decide +kernel)) rfl
theorem tw_144 : Cond.instantiable "java/util/NoSuchElementException" 6 ∈ tb := tb_t (List.mem_of_getElem? (i := 144) (by decide +kernel)) rfl
theorem tw_145 : Cond.castable "java/util/NoSuchElementException" "java/util/NoSuchElementException" ∈ tb := tb_t (List.mem_of_getElem? (i := 145) (by decide +kernel)) rfl
theorem tw_146 : Cond.selects "java/util/NoSuchElementException" ⟨"java/lang/Throwable", "fillInStackTrace", "(I)Ljava/lang/Throwable;"⟩ ⟨"java/lang/Throwable", "fillInStackTrace", "(I)Ljava/lang/Throwable;"⟩ ∈ tb := tb_t (List.mem_of_getElem? (i := 146) (by decide +kernel)) rfl
theorem tw_147 : Cond.lays "java/util/NoSuchElementException" "java/lang/Throwable" "cause" "Ljava/lang/Throwable;" ∈ tb := tb_t (List.mem_of_getElem? (i := 147) (by decide +kernel)) rfl
theorem tw_148 : Cond.lays "java/util/NoSuchElementException" "java/lang/Throwable" "stackTrace" "[Ljava/lang/StackTraceElement;" ∈ tb := tb_t (List.mem_of_getElem? (i := 148) (by decide +kernel)) rfl
theorem tw_149 : Cond.lays "java/util/NoSuchElementException" "java/lang/Throwable" "suppressedExceptions" "Ljava/util/List;" ∈ tb := tb_t (List.mem_of_getElem? (i := 149) (by decide +kernel)) rfl
theorem tw_150 : Cond.lays "java/util/NoSuchElementException" "java/lang/Throwable" "detailMessage" "Ljava/lang/String;" ∈ tb := tb_t (List.mem_of_getElem? (i := 150) (by decide +kernel)) rfl
theorem tw_151 : Cond.lays "java/util/NoSuchElementException" "java/lang/Throwable" "backtrace" "Ljava/lang/Object;" ∈ tb := tb_t (List.mem_of_getElem? (i := 151) (by decide +kernel)) rfl
theorem tw_152 : Cond.methodLink "NoteMix" 51 ⟨"java/util/NoSuchElementException", "<init>", "()V"⟩ ∈ tb := tb_t (List.mem_of_getElem? (i := 152) (by decide +kernel)) rfl
theorem tw_153 : Cond.instanceMethod ⟨"java/util/NoSuchElementException", "<init>", "()V"⟩ ∈ tb := tb_t (List.mem_of_getElem? (i := 153) (by decide +kernel)) rfl
theorem tw_154 : Cond.code ⟨"java/util/NoSuchElementException", "<init>", "()V"⟩ prog_9_method_1_code 1 none ∈ tb := tb_t (List.mem_of_getElem? (i := 154) (by decide +kernel)) rfl
theorem tw_155 : Cond.methodLink "java/util/NoSuchElementException" 1 ⟨"java/lang/RuntimeException", "<init>", "()V"⟩ ∈ tb := tb_t (List.mem_of_getElem? (i := 155) (by decide +kernel)) rfl
theorem tw_156 : Cond.lays "java/util/NoSuchElementException" "java/lang/Throwable" "depth" "I" ∈ tb := tb_t (List.mem_of_getElem? (i := 156) (by decide +kernel)) rfl
theorem tw_157 : Cond.superclass "java/util/NoSuchElementException" "java/lang/RuntimeException" ∈ tb := tb_t (List.mem_of_getElem? (i := 157) (by decide +kernel)) rfl
theorem tw_158 : Cond.methodLink "NoteMixLaw" 56 ⟨"NoteMixLaw", "part", "(LNoteMix;II[J)I"⟩ ∈ tb := tb_t (List.mem_of_getElem? (i := 158) (by decide +kernel)) rfl
theorem tw_159 : Cond.static ⟨"NoteMixLaw", "part", "(LNoteMix;II[J)I"⟩ ∈ tb := tb_t (List.mem_of_getElem? (i := 159) (by decide +kernel)) rfl
theorem tw_160 : Cond.codeWith ⟨"NoteMixLaw", "part", "(LNoteMix;II[J)I"⟩ method_5_code 5 (some .int) [(0, 10, 13, 13), (0, 10, 17, 19)] ∈ tb := tb_t (List.mem_of_getElem? (i := 160) (by decide +kernel)) rfl
theorem tw_161 : Cond.methodLink "NoteMixLaw" 21 ⟨"NoteMix", "part", "(II)I"⟩ ∈ tb := tb_t (List.mem_of_getElem? (i := 161) (by decide +kernel)) rfl
theorem tw_162 : Cond.instanceMethod ⟨"NoteMix", "part", "(II)I"⟩ ∈ tb := tb_t (List.mem_of_getElem? (i := 162) (by decide +kernel)) rfl
theorem tw_163 : Cond.selects "NoteMix" ⟨"NoteMix", "part", "(II)I"⟩ ⟨"NoteMix", "part", "(II)I"⟩ ∈ tb := tb_t (List.mem_of_getElem? (i := 163) (by decide +kernel)) rfl
theorem tw_164 : Cond.code ⟨"NoteMix", "part", "(II)I"⟩ prog_1_method_10_code 3 (some .int) ∈ tb := tb_t (List.mem_of_getElem? (i := 164) (by decide +kernel)) rfl
theorem tw_165 : Cond.methodLink "NoteMixLaw" 60 ⟨"NoteMixLaw", "ways", "(LNoteMix;I[J)I"⟩ ∈ tb := tb_t (List.mem_of_getElem? (i := 165) (by decide +kernel)) rfl
theorem tw_166 : Cond.static ⟨"NoteMixLaw", "ways", "(LNoteMix;I[J)I"⟩ ∈ tb := tb_t (List.mem_of_getElem? (i := 166) (by decide +kernel)) rfl
theorem tw_167 : Cond.codeWith ⟨"NoteMixLaw", "ways", "(LNoteMix;I[J)I"⟩ method_6_code 4 (some .int) [(0, 9, 12, 13)] ∈ tb := tb_t (List.mem_of_getElem? (i := 167) (by decide +kernel)) rfl
theorem tw_168 : Cond.methodLink "NoteMixLaw" 25 ⟨"NoteMix", "ways", "(I)I"⟩ ∈ tb := tb_t (List.mem_of_getElem? (i := 168) (by decide +kernel)) rfl
theorem tw_169 : Cond.instanceMethod ⟨"NoteMix", "ways", "(I)I"⟩ ∈ tb := tb_t (List.mem_of_getElem? (i := 169) (by decide +kernel)) rfl
theorem tw_170 : Cond.selects "NoteMix" ⟨"NoteMix", "ways", "(I)I"⟩ ⟨"NoteMix", "ways", "(I)I"⟩ ∈ tb := tb_t (List.mem_of_getElem? (i := 170) (by decide +kernel)) rfl
theorem tw_171 : Cond.code ⟨"NoteMix", "ways", "(I)I"⟩ prog_1_method_12_code 9 (some .int) ∈ tb := tb_t (List.mem_of_getElem? (i := 171) (by decide +kernel)) rfl
theorem tw_172 : Cond.methodLink "NoteMix" 55 ⟨"NoteMix", "atMost", "(III)I"⟩ ∈ tb := tb_t (List.mem_of_getElem? (i := 172) (by decide +kernel)) rfl
theorem tw_173 : Cond.privateMethod ⟨"NoteMix", "atMost", "(III)I"⟩ ∈ tb := tb_t (List.mem_of_getElem? (i := 173) (by decide +kernel)) rfl
theorem tw_174 : Cond.instanceMethod ⟨"NoteMix", "atMost", "(III)I"⟩ ∈ tb := tb_t (List.mem_of_getElem? (i := 174) (by decide +kernel)) rfl
theorem tw_175 : Cond.code ⟨"NoteMix", "atMost", "(III)I"⟩ prog_1_method_11_code 5 (some .int) ∈ tb := tb_t (List.mem_of_getElem? (i := 175) (by decide +kernel)) rfl
theorem tw_176 : Cond.methodLink "NoteMixLaw" 63 ⟨"NoteMixLaw", "pay", "(LNoteMix;II[J)I"⟩ ∈ tb := tb_t (List.mem_of_getElem? (i := 176) (by decide +kernel)) rfl
theorem tw_177 : Cond.static ⟨"NoteMixLaw", "pay", "(LNoteMix;II[J)I"⟩ ∈ tb := tb_t (List.mem_of_getElem? (i := 177) (by decide +kernel)) rfl
theorem tw_178 : Cond.codeWith ⟨"NoteMixLaw", "pay", "(LNoteMix;II[J)I"⟩ method_7_code 5 (some .int) [(0, 10, 13, 13), (0, 10, 17, 19)] ∈ tb := tb_t (List.mem_of_getElem? (i := 178) (by decide +kernel)) rfl
theorem tw_179 : Cond.methodLink "NoteMixLaw" 28 ⟨"NoteMix", "pay", "(II)I"⟩ ∈ tb := tb_t (List.mem_of_getElem? (i := 179) (by decide +kernel)) rfl
theorem tw_180 : Cond.instanceMethod ⟨"NoteMix", "pay", "(II)I"⟩ ∈ tb := tb_t (List.mem_of_getElem? (i := 180) (by decide +kernel)) rfl
theorem tw_181 : Cond.selects "NoteMix" ⟨"NoteMix", "pay", "(II)I"⟩ ⟨"NoteMix", "pay", "(II)I"⟩ ∈ tb := tb_t (List.mem_of_getElem? (i := 181) (by decide +kernel)) rfl
theorem tw_182 : Cond.code ⟨"NoteMix", "pay", "(II)I"⟩ prog_1_method_13_code 7 (some .int) ∈ tb := tb_t (List.mem_of_getElem? (i := 182) (by decide +kernel)) rfl
theorem tw_183 : Cond.methodLink "NoteMixLaw" 66 ⟨"NoteMixLaw", "next", "(LNoteMix;I[J)I"⟩ ∈ tb := tb_t (List.mem_of_getElem? (i := 183) (by decide +kernel)) rfl
theorem tw_184 : Cond.static ⟨"NoteMixLaw", "next", "(LNoteMix;I[J)I"⟩ ∈ tb := tb_t (List.mem_of_getElem? (i := 184) (by decide +kernel)) rfl
theorem tw_185 : Cond.codeWith ⟨"NoteMixLaw", "next", "(LNoteMix;I[J)I"⟩ method_8_code 4 (some .int) [(0, 9, 12, 13)] ∈ tb := tb_t (List.mem_of_getElem? (i := 185) (by decide +kernel)) rfl
theorem tw_186 : Cond.methodLink "NoteMixLaw" 31 ⟨"NoteMix", "next", "(I)I"⟩ ∈ tb := tb_t (List.mem_of_getElem? (i := 186) (by decide +kernel)) rfl
theorem tw_187 : Cond.instanceMethod ⟨"NoteMix", "next", "(I)I"⟩ ∈ tb := tb_t (List.mem_of_getElem? (i := 187) (by decide +kernel)) rfl
theorem tw_188 : Cond.selects "NoteMix" ⟨"NoteMix", "next", "(I)I"⟩ ⟨"NoteMix", "next", "(I)I"⟩ ∈ tb := tb_t (List.mem_of_getElem? (i := 188) (by decide +kernel)) rfl
theorem tw_189 : Cond.code ⟨"NoteMix", "next", "(I)I"⟩ prog_1_method_14_code 3 (some .int) ∈ tb := tb_t (List.mem_of_getElem? (i := 189) (by decide +kernel)) rfl
theorem tw_190 : Cond.methodLink "NoteMixLaw" 73 ⟨"NoteMixLaw", "cassette", "(LNoteMix;IZ[J)I"⟩ ∈ tb := tb_t (List.mem_of_getElem? (i := 190) (by decide +kernel)) rfl
theorem tw_191 : Cond.static ⟨"NoteMixLaw", "cassette", "(LNoteMix;IZ[J)I"⟩ ∈ tb := tb_t (List.mem_of_getElem? (i := 191) (by decide +kernel)) rfl
theorem tw_192 : Cond.codeWith ⟨"NoteMixLaw", "cassette", "(LNoteMix;IZ[J)I"⟩ method_9_code 5 (some .int) [(0, 10, 13, 13)] ∈ tb := tb_t (List.mem_of_getElem? (i := 192) (by decide +kernel)) rfl
theorem tw_193 : Cond.methodLink "NoteMixLaw" 34 ⟨"NoteMix", "cassette", "(IZ)I"⟩ ∈ tb := tb_t (List.mem_of_getElem? (i := 193) (by decide +kernel)) rfl
theorem tw_194 : Cond.instanceMethod ⟨"NoteMix", "cassette", "(IZ)I"⟩ ∈ tb := tb_t (List.mem_of_getElem? (i := 194) (by decide +kernel)) rfl
theorem tw_195 : Cond.selects "NoteMix" ⟨"NoteMix", "cassette", "(IZ)I"⟩ ⟨"NoteMix", "cassette", "(IZ)I"⟩ ∈ tb := tb_t (List.mem_of_getElem? (i := 195) (by decide +kernel)) rfl
theorem tw_196 : Cond.code ⟨"NoteMix", "cassette", "(IZ)I"⟩ prog_1_method_16_code 3 (some .int) ∈ tb := tb_t (List.mem_of_getElem? (i := 196) (by decide +kernel)) rfl
theorem tw_197 : Cond.classLink "NoteMixLaw" 39 "NoteMixModel" ∈ tb := tb_t (List.mem_of_getElem? (i := 197) (by decide +kernel)) rfl
theorem tw_198 : Cond.instantiable "NoteMixModel" 7 ∈ tb := tb_t (List.mem_of_getElem? (i := 198) (by decide +kernel)) rfl
theorem tw_199 : Cond.methodLink "NoteMixLaw" 41 ⟨"NoteMixModel", "<init>", "()V"⟩ ∈ tb := tb_t (List.mem_of_getElem? (i := 199) (by decide +kernel)) rfl
theorem tw_200 : Cond.instanceMethod ⟨"NoteMixModel", "<init>", "()V"⟩ ∈ tb := tb_t (List.mem_of_getElem? (i := 200) (by decide +kernel)) rfl
theorem tw_201 : Cond.code ⟨"NoteMixModel", "<init>", "()V"⟩ prog_3_method_1_code 1 none ∈ tb := tb_t (List.mem_of_getElem? (i := 201) (by decide +kernel)) rfl
theorem tw_202 : Cond.methodLink "NoteMixModel" 1 ⟨"java/lang/Object", "<init>", "()V"⟩ ∈ tb := tb_t (List.mem_of_getElem? (i := 202) (by decide +kernel)) rfl
theorem tw_203 : Cond.fieldLink "NoteMixModel" 7 "NoteMixModel" "worth" "[I" ∈ tb := tb_t (List.mem_of_getElem? (i := 203) (by decide +kernel)) rfl
theorem tw_204 : Cond.fieldLink "NoteMixModel" 13 "NoteMixModel" "notes" "[I" ∈ tb := tb_t (List.mem_of_getElem? (i := 204) (by decide +kernel)) rfl
theorem tw_205 : Cond.fieldLink "NoteMixModel" 16 "NoteMixModel" "chosen" "[I" ∈ tb := tb_t (List.mem_of_getElem? (i := 205) (by decide +kernel)) rfl
theorem tw_206 : Cond.fieldLink "NoteMixModel" 19 "NoteMixModel" "can" "[Z" ∈ tb := tb_t (List.mem_of_getElem? (i := 206) (by decide +kernel)) rfl
theorem tw_207 : Cond.fieldLink "NoteMixModel" 34 "NoteMixModel" "fewest" "I" ∈ tb := tb_t (List.mem_of_getElem? (i := 207) (by decide +kernel)) rfl
theorem tw_208 : Cond.fieldLink "NoteMixModel" 31 "NoteMixModel" "mixes" "I" ∈ tb := tb_t (List.mem_of_getElem? (i := 208) (by decide +kernel)) rfl
theorem tw_209 : Cond.fieldLink "NoteMixModel" 23 "NoteMixModel" "thrown" "I" ∈ tb := tb_t (List.mem_of_getElem? (i := 209) (by decide +kernel)) rfl
theorem tw_210 : Cond.laysFinal "NoteMixModel" "NoteMixModel" "worth" "[I" ∈ tb := tb_t (List.mem_of_getElem? (i := 210) (by decide +kernel)) rfl
theorem tw_211 : Cond.soleField "NoteMixModel" "worth" ∈ tb := tb_t (List.mem_of_getElem? (i := 211) (by decide +kernel)) rfl
theorem tw_212 : Cond.laysFinal "NoteMixModel" "NoteMixModel" "notes" "[I" ∈ tb := tb_t (List.mem_of_getElem? (i := 212) (by decide +kernel)) rfl
theorem tw_213 : Cond.soleField "NoteMixModel" "notes" ∈ tb := tb_t (List.mem_of_getElem? (i := 213) (by decide +kernel)) rfl
theorem tw_214 : Cond.laysFinal "NoteMixModel" "NoteMixModel" "chosen" "[I" ∈ tb := tb_t (List.mem_of_getElem? (i := 214) (by decide +kernel)) rfl
theorem tw_215 : Cond.soleField "NoteMixModel" "chosen" ∈ tb := tb_t (List.mem_of_getElem? (i := 215) (by decide +kernel)) rfl
theorem tw_216 : Cond.laysFinal "NoteMixModel" "NoteMixModel" "can" "[Z" ∈ tb := tb_t (List.mem_of_getElem? (i := 216) (by decide +kernel)) rfl
theorem tw_217 : Cond.soleField "NoteMixModel" "can" ∈ tb := tb_t (List.mem_of_getElem? (i := 217) (by decide +kernel)) rfl
theorem tw_218 : Cond.lays "NoteMixModel" "NoteMixModel" "fewest" "I" ∈ tb := tb_t (List.mem_of_getElem? (i := 218) (by decide +kernel)) rfl
theorem tw_219 : Cond.soleField "NoteMixModel" "fewest" ∈ tb := tb_t (List.mem_of_getElem? (i := 219) (by decide +kernel)) rfl
theorem tw_220 : Cond.lays "NoteMixModel" "NoteMixModel" "mixes" "I" ∈ tb := tb_t (List.mem_of_getElem? (i := 220) (by decide +kernel)) rfl
theorem tw_221 : Cond.soleField "NoteMixModel" "mixes" ∈ tb := tb_t (List.mem_of_getElem? (i := 221) (by decide +kernel)) rfl
theorem tw_222 : Cond.lays "NoteMixModel" "NoteMixModel" "thrown" "I" ∈ tb := tb_t (List.mem_of_getElem? (i := 222) (by decide +kernel)) rfl
theorem tw_223 : Cond.soleField "NoteMixModel" "thrown" ∈ tb := tb_t (List.mem_of_getElem? (i := 223) (by decide +kernel)) rfl
theorem tw_224 : Cond.superclass "NoteMixModel" "java/lang/Object" ∈ tb := tb_t (List.mem_of_getElem? (i := 224) (by decide +kernel)) rfl
theorem tw_225 : Cond.arrayClass .boolean ∈ tb := tb_t (List.mem_of_getElem? (i := 225) (by decide +kernel)) rfl
theorem tw_226 : Cond.methodLink "NoteMixLaw" 48 ⟨"NoteMixModel", "thrown", "()I"⟩ ∈ tb := tb_t (List.mem_of_getElem? (i := 226) (by decide +kernel)) rfl
theorem tw_227 : Cond.instanceMethod ⟨"NoteMixModel", "thrown", "()I"⟩ ∈ tb := tb_t (List.mem_of_getElem? (i := 227) (by decide +kernel)) rfl
theorem tw_228 : Cond.selects "NoteMixModel" ⟨"NoteMixModel", "thrown", "()I"⟩ ⟨"NoteMixModel", "thrown", "()I"⟩ ∈ tb := tb_t (List.mem_of_getElem? (i := 228) (by decide +kernel)) rfl
theorem tw_229 : Cond.code ⟨"NoteMixModel", "thrown", "()I"⟩ prog_3_method_2_code 1 (some .int) ∈ tb := tb_t (List.mem_of_getElem? (i := 229) (by decide +kernel)) rfl
theorem tw_230 : Cond.methodLink "NoteMixLaw" 47 ⟨"NoteMixModel", "load", "(III)V"⟩ ∈ tb := tb_t (List.mem_of_getElem? (i := 230) (by decide +kernel)) rfl
theorem tw_231 : Cond.instanceMethod ⟨"NoteMixModel", "load", "(III)V"⟩ ∈ tb := tb_t (List.mem_of_getElem? (i := 231) (by decide +kernel)) rfl
theorem tw_232 : Cond.selects "NoteMixModel" ⟨"NoteMixModel", "load", "(III)V"⟩ ⟨"NoteMixModel", "load", "(III)V"⟩ ∈ tb := tb_t (List.mem_of_getElem? (i := 232) (by decide +kernel)) rfl
theorem tw_233 : Cond.code ⟨"NoteMixModel", "load", "(III)V"⟩ prog_3_method_4_code 4 none ∈ tb := tb_t (List.mem_of_getElem? (i := 233) (by decide +kernel)) rfl
theorem tw_234 : Cond.methodLink "NoteMixModel" 27 ⟨"NoteMixModel", "in", "(III)Z"⟩ ∈ tb := tb_t (List.mem_of_getElem? (i := 234) (by decide +kernel)) rfl
theorem tw_235 : Cond.static ⟨"NoteMixModel", "in", "(III)Z"⟩ ∈ tb := tb_t (List.mem_of_getElem? (i := 235) (by decide +kernel)) rfl
theorem tw_236 : Cond.code ⟨"NoteMixModel", "in", "(III)Z"⟩ prog_3_method_3_code 3 (some .boolean) ∈ tb := tb_t (List.mem_of_getElem? (i := 236) (by decide +kernel)) rfl
theorem tw_237 : Cond.methodLink "NoteMixLaw" 55 ⟨"NoteMixModel", "best", "(I)I"⟩ ∈ tb := tb_t (List.mem_of_getElem? (i := 237) (by decide +kernel)) rfl
theorem tw_238 : Cond.instanceMethod ⟨"NoteMixModel", "best", "(I)I"⟩ ∈ tb := tb_t (List.mem_of_getElem? (i := 238) (by decide +kernel)) rfl
theorem tw_239 : Cond.selects "NoteMixModel" ⟨"NoteMixModel", "best", "(I)I"⟩ ⟨"NoteMixModel", "best", "(I)I"⟩ ∈ tb := tb_t (List.mem_of_getElem? (i := 239) (by decide +kernel)) rfl
theorem tw_240 : Cond.code ⟨"NoteMixModel", "best", "(I)I"⟩ prog_3_method_7_code 2 (some .int) ∈ tb := tb_t (List.mem_of_getElem? (i := 240) (by decide +kernel)) rfl
theorem tw_241 : Cond.methodLink "NoteMixModel" 47 ⟨"NoteMixModel", "isBest", "(I)Z"⟩ ∈ tb := tb_t (List.mem_of_getElem? (i := 241) (by decide +kernel)) rfl
theorem tw_242 : Cond.privateMethod ⟨"NoteMixModel", "isBest", "(I)Z"⟩ ∈ tb := tb_t (List.mem_of_getElem? (i := 242) (by decide +kernel)) rfl
theorem tw_243 : Cond.instanceMethod ⟨"NoteMixModel", "isBest", "(I)Z"⟩ ∈ tb := tb_t (List.mem_of_getElem? (i := 243) (by decide +kernel)) rfl
theorem tw_244 : Cond.code ⟨"NoteMixModel", "isBest", "(I)Z"⟩ prog_3_method_6_code 2 (some .boolean) ∈ tb := tb_t (List.mem_of_getElem? (i := 244) (by decide +kernel)) rfl
theorem tw_245 : Cond.methodLink "NoteMixModel" 43 ⟨"NoteMixModel", "look", "(I)V"⟩ ∈ tb := tb_t (List.mem_of_getElem? (i := 245) (by decide +kernel)) rfl
theorem tw_246 : Cond.privateMethod ⟨"NoteMixModel", "look", "(I)V"⟩ ∈ tb := tb_t (List.mem_of_getElem? (i := 246) (by decide +kernel)) rfl
theorem tw_247 : Cond.instanceMethod ⟨"NoteMixModel", "look", "(I)V"⟩ ∈ tb := tb_t (List.mem_of_getElem? (i := 247) (by decide +kernel)) rfl
theorem tw_248 : Cond.code ⟨"NoteMixModel", "look", "(I)V"⟩ prog_3_method_5_code 7 none ∈ tb := tb_t (List.mem_of_getElem? (i := 248) (by decide +kernel)) rfl
theorem tw_249 : Cond.methodLink "NoteMixModel" 37 ⟨"java/lang/Math", "min", "(II)I"⟩ ∈ tb := tb_t (List.mem_of_getElem? (i := 249) (by decide +kernel)) rfl
theorem tw_250 : Cond.static ⟨"java/lang/Math", "min", "(II)I"⟩ ∈ tb := tb_t (List.mem_of_getElem? (i := 250) (by decide +kernel)) rfl
theorem tw_251 : Cond.code ⟨"java/lang/Math", "min", "(II)I"⟩ prog_6_method_69_code 2 (some .int) ∈ tb := tb_t (List.mem_of_getElem? (i := 251) (by decide +kernel)) rfl
theorem tw_252 : Cond.methodLink "NoteMixLaw" 59 ⟨"NoteMixModel", "part", "(II)I"⟩ ∈ tb := tb_t (List.mem_of_getElem? (i := 252) (by decide +kernel)) rfl
theorem tw_253 : Cond.instanceMethod ⟨"NoteMixModel", "part", "(II)I"⟩ ∈ tb := tb_t (List.mem_of_getElem? (i := 253) (by decide +kernel)) rfl
theorem tw_254 : Cond.selects "NoteMixModel" ⟨"NoteMixModel", "part", "(II)I"⟩ ⟨"NoteMixModel", "part", "(II)I"⟩ ∈ tb := tb_t (List.mem_of_getElem? (i := 254) (by decide +kernel)) rfl
theorem tw_255 : Cond.code ⟨"NoteMixModel", "part", "(II)I"⟩ prog_3_method_8_code 3 (some .int) ∈ tb := tb_t (List.mem_of_getElem? (i := 255) (by decide +kernel)) rfl
theorem tw_256 : Cond.methodLink "NoteMixLaw" 62 ⟨"NoteMixModel", "ways", "(I)I"⟩ ∈ tb := tb_t (List.mem_of_getElem? (i := 256) (by decide +kernel)) rfl
theorem tw_257 : Cond.instanceMethod ⟨"NoteMixModel", "ways", "(I)I"⟩ ∈ tb := tb_t (List.mem_of_getElem? (i := 257) (by decide +kernel)) rfl
theorem tw_258 : Cond.selects "NoteMixModel" ⟨"NoteMixModel", "ways", "(I)I"⟩ ⟨"NoteMixModel", "ways", "(I)I"⟩ ∈ tb := tb_t (List.mem_of_getElem? (i := 258) (by decide +kernel)) rfl
theorem tw_259 : Cond.code ⟨"NoteMixModel", "ways", "(I)I"⟩ prog_3_method_9_code 2 (some .int) ∈ tb := tb_t (List.mem_of_getElem? (i := 259) (by decide +kernel)) rfl
theorem tw_260 : Cond.methodLink "NoteMixLaw" 65 ⟨"NoteMixModel", "pay", "(II)I"⟩ ∈ tb := tb_t (List.mem_of_getElem? (i := 260) (by decide +kernel)) rfl
theorem tw_261 : Cond.instanceMethod ⟨"NoteMixModel", "pay", "(II)I"⟩ ∈ tb := tb_t (List.mem_of_getElem? (i := 261) (by decide +kernel)) rfl
theorem tw_262 : Cond.selects "NoteMixModel" ⟨"NoteMixModel", "pay", "(II)I"⟩ ⟨"NoteMixModel", "pay", "(II)I"⟩ ∈ tb := tb_t (List.mem_of_getElem? (i := 262) (by decide +kernel)) rfl
theorem tw_263 : Cond.code ⟨"NoteMixModel", "pay", "(II)I"⟩ prog_3_method_10_code 7 (some .int) ∈ tb := tb_t (List.mem_of_getElem? (i := 263) (by decide +kernel)) rfl
theorem tw_264 : Cond.methodLink "NoteMixLaw" 68 ⟨"NoteMixModel", "next", "(I)I"⟩ ∈ tb := tb_t (List.mem_of_getElem? (i := 264) (by decide +kernel)) rfl
theorem tw_265 : Cond.instanceMethod ⟨"NoteMixModel", "next", "(I)I"⟩ ∈ tb := tb_t (List.mem_of_getElem? (i := 265) (by decide +kernel)) rfl
theorem tw_266 : Cond.selects "NoteMixModel" ⟨"NoteMixModel", "next", "(I)I"⟩ ⟨"NoteMixModel", "next", "(I)I"⟩ ∈ tb := tb_t (List.mem_of_getElem? (i := 266) (by decide +kernel)) rfl
theorem tw_267 : Cond.code ⟨"NoteMixModel", "next", "(I)I"⟩ prog_3_method_12_code 3 (some .int) ∈ tb := tb_t (List.mem_of_getElem? (i := 267) (by decide +kernel)) rfl
theorem tw_268 : Cond.methodLink "NoteMixModel" 51 ⟨"NoteMixModel", "all", "()V"⟩ ∈ tb := tb_t (List.mem_of_getElem? (i := 268) (by decide +kernel)) rfl
theorem tw_269 : Cond.privateMethod ⟨"NoteMixModel", "all", "()V"⟩ ∈ tb := tb_t (List.mem_of_getElem? (i := 269) (by decide +kernel)) rfl
theorem tw_270 : Cond.instanceMethod ⟨"NoteMixModel", "all", "()V"⟩ ∈ tb := tb_t (List.mem_of_getElem? (i := 270) (by decide +kernel)) rfl
theorem tw_271 : Cond.code ⟨"NoteMixModel", "all", "()V"⟩ prog_3_method_11_code 6 none ∈ tb := tb_t (List.mem_of_getElem? (i := 271) (by decide +kernel)) rfl
theorem tw_272 : Cond.methodLink "NoteMixLaw" 72 ⟨"NoteMixModel", "reach", "()I"⟩ ∈ tb := tb_t (List.mem_of_getElem? (i := 272) (by decide +kernel)) rfl
theorem tw_273 : Cond.instanceMethod ⟨"NoteMixModel", "reach", "()I"⟩ ∈ tb := tb_t (List.mem_of_getElem? (i := 273) (by decide +kernel)) rfl
theorem tw_274 : Cond.selects "NoteMixModel" ⟨"NoteMixModel", "reach", "()I"⟩ ⟨"NoteMixModel", "reach", "()I"⟩ ∈ tb := tb_t (List.mem_of_getElem? (i := 274) (by decide +kernel)) rfl
theorem tw_275 : Cond.code ⟨"NoteMixModel", "reach", "()I"⟩ prog_3_method_13_code 3 (some .int) ∈ tb := tb_t (List.mem_of_getElem? (i := 275) (by decide +kernel)) rfl
theorem tw_276 : Cond.methodLink "NoteMixLaw" 76 ⟨"NoteMixModel", "cassette", "(IZ)I"⟩ ∈ tb := tb_t (List.mem_of_getElem? (i := 276) (by decide +kernel)) rfl
theorem tw_277 : Cond.instanceMethod ⟨"NoteMixModel", "cassette", "(IZ)I"⟩ ∈ tb := tb_t (List.mem_of_getElem? (i := 277) (by decide +kernel)) rfl
theorem tw_278 : Cond.selects "NoteMixModel" ⟨"NoteMixModel", "cassette", "(IZ)I"⟩ ⟨"NoteMixModel", "cassette", "(IZ)I"⟩ ∈ tb := tb_t (List.mem_of_getElem? (i := 278) (by decide +kernel)) rfl
theorem tw_279 : Cond.code ⟨"NoteMixModel", "cassette", "(IZ)I"⟩ prog_3_method_14_code 3 (some .int) ∈ tb := tb_t (List.mem_of_getElem? (i := 279) (by decide +kernel)) rfl
theorem tw_280 : Cond.methodLink "NoteMixLaw" 80 ⟨"NoteMixModel", "value", "()I"⟩ ∈ tb := tb_t (List.mem_of_getElem? (i := 280) (by decide +kernel)) rfl
theorem tw_281 : Cond.instanceMethod ⟨"NoteMixModel", "value", "()I"⟩ ∈ tb := tb_t (List.mem_of_getElem? (i := 281) (by decide +kernel)) rfl
theorem tw_282 : Cond.selects "NoteMixModel" ⟨"NoteMixModel", "value", "()I"⟩ ⟨"NoteMixModel", "value", "()I"⟩ ∈ tb := tb_t (List.mem_of_getElem? (i := 282) (by decide +kernel)) rfl
theorem tw_283 : Cond.code ⟨"NoteMixModel", "value", "()I"⟩ prog_3_method_15_code 3 (some .int) ∈ tb := tb_t (List.mem_of_getElem? (i := 283) (by decide +kernel)) rfl
theorem tw_284 : Cond.arrayClass .long ∈ tb := tb_t (List.mem_of_getElem? (i := 284) (by decide +kernel)) rfl
theorem tw_285 : Cond.sameMethod "java/lang/Throwable" "java/lang/Throwable" "fillInStackTrace" "(I)Ljava/lang/Throwable;" ∈ tb := tb_t (List.mem_of_getElem? (i := 285) (by decide +kernel)) rfl
theorem ts_0 : Cond.selects "NoteMix" ⟨"NoteMix", "work", "()V"⟩ ⟨"NoteMix", "work", "()V"⟩ ∈ tb := tb_s (List.mem_of_getElem? (i := 0) (by decide +kernel)) rfl
theorem ts_1 : Cond.selects "NoteMix" ⟨"NoteMix", "before", "(II)I"⟩ ⟨"NoteMix", "before", "(II)I"⟩ ∈ tb := tb_s (List.mem_of_getElem? (i := 1) (by decide +kernel)) rfl
theorem ts_2 : Cond.selects "java/lang/Throwable" ⟨"java/lang/Throwable", "fillInStackTrace", "(I)Ljava/lang/Throwable;"⟩ ⟨"java/lang/Throwable", "fillInStackTrace", "(I)Ljava/lang/Throwable;"⟩ ∈ tb := tb_s (List.mem_of_getElem? (i := 2) (by decide +kernel)) rfl
theorem ts_3 : Cond.selects "NoteMix" ⟨"NoteMix", "found", "(I)I"⟩ ⟨"NoteMix", "found", "(I)I"⟩ ∈ tb := tb_s (List.mem_of_getElem? (i := 3) (by decide +kernel)) rfl
theorem ts_4 : Cond.selects "NoteMix" ⟨"NoteMix", "mix", "(I)I"⟩ ⟨"NoteMix", "mix", "(I)I"⟩ ∈ tb := tb_s (List.mem_of_getElem? (i := 4) (by decide +kernel)) rfl
theorem ts_5 : Cond.selects "NoteMix" ⟨"NoteMix", "atMost", "(III)I"⟩ ⟨"NoteMix", "atMost", "(III)I"⟩ ∈ tb := tb_s (List.mem_of_getElem? (i := 5) (by decide +kernel)) rfl
theorem ts_6 : Cond.selects "NoteMixModel" ⟨"NoteMixModel", "isBest", "(I)Z"⟩ ⟨"NoteMixModel", "isBest", "(I)Z"⟩ ∈ tb := tb_s (List.mem_of_getElem? (i := 6) (by decide +kernel)) rfl
theorem ts_7 : Cond.selects "NoteMixModel" ⟨"NoteMixModel", "look", "(I)V"⟩ ⟨"NoteMixModel", "look", "(I)V"⟩ ∈ tb := tb_s (List.mem_of_getElem? (i := 7) (by decide +kernel)) rfl
theorem ts_8 : Cond.selects "NoteMixModel" ⟨"NoteMixModel", "all", "()V"⟩ ⟨"NoteMixModel", "all", "()V"⟩ ∈ tb := tb_s (List.mem_of_getElem? (i := 8) (by decide +kernel)) rfl
theorem tn_0 : Cond.not (.castable "java/util/NoSuchElementException" "java/lang/IllegalArgumentException") ∈ tb := List.mem_append_right _ (List.mem_of_getElem? (i := 0) rfl)
end
section
/-! names: classes, their fields in the order of the slots, methods -/
abbrev R_X : String := "NoteMix"
def F_X : u_T := fun k => match k with
  | 0 => ("NoteMix", "worth", "[I", true)
  | 1 => ("NoteMix", "notes", "[I", true)
  | 2 => ("NoteMix", "fewest", "[B", true)
  | 3 => ("NoteMix", "known", "Z", false)
  | _ => ("NoteMix", "parts", "[I", true)
def t_X : Nat → FieldType := fun k => match k with
  | 0 => .array .int
  | 1 => .array .int
  | 2 => .array .byte
  | 3 => .boolean
  | _ => .array .int
theorem n_X : ∀ a, a < 5 → ∀ b, b < 5 → a ≠ b → (F_X a).2.1 ≠ (F_X b).2.1 := by decide +kernel
theorem t_X_ok : ∀ k, k < 5 → parseFieldDescriptor (F_X k).2.2.1 = some (t_X k) := by decide +kernel
theorem u_X : ∀ w ∈ u_ws R_X F_X 5, w ∈ tb := by decide +kernel
abbrev R_M : String := "NoteMixModel"
def F_M : u_T := fun k => match k with
  | 0 => ("NoteMixModel", "worth", "[I", true)
  | 1 => ("NoteMixModel", "notes", "[I", true)
  | 2 => ("NoteMixModel", "chosen", "[I", true)
  | 3 => ("NoteMixModel", "can", "[Z", true)
  | 4 => ("NoteMixModel", "fewest", "I", false)
  | 5 => ("NoteMixModel", "mixes", "I", false)
  | _ => ("NoteMixModel", "thrown", "I", false)
def t_M : Nat → FieldType := fun k => match k with
  | 0 => .array .int
  | 1 => .array .int
  | 2 => .array .int
  | 3 => .array .boolean
  | 4 => .int
  | 5 => .int
  | _ => .int
theorem n_M : ∀ a, a < 7 → ∀ b, b < 7 → a ≠ b → (F_M a).2.1 ≠ (F_M b).2.1 := by decide +kernel
theorem t_M_ok : ∀ k, k < 7 → parseFieldDescriptor (F_M k).2.2.1 = some (t_M k) := by decide +kernel
theorem u_M : ∀ w ∈ u_ws R_M F_M 7, w ∈ tb := by decide +kernel
abbrev R_L : String := "NoteMixLaw"
abbrev cl : List vw_C := [(R_X, F_X, 5), (R_M, F_M, 7)]
abbrev b_X_init : ByteArray := prog_1_method_1_code
abbrev y_X_init : MethodName := ⟨"NoteMix", "<init>", "()V"⟩
abbrev cd_X_init : Cond := .code y_X_init b_X_init 2 none
theorem kc_X_init : cd_X_init ∈ tb := tw_13
abbrev b_X_reach : ByteArray := prog_1_method_15_code
abbrev y_X_reach : MethodName := ⟨"NoteMix", "reach", "()I"⟩
abbrev cd_X_reach : Cond := .code y_X_reach b_X_reach 3 (some .int)
theorem kc_X_reach : cd_X_reach ∈ tb := tw_38
abbrev b_X_work : ByteArray := prog_1_method_6_code
abbrev y_X_work : MethodName := ⟨"NoteMix", "work", "()V"⟩
abbrev cd_X_work : Cond := .code y_X_work b_X_work 7 none
theorem kc_X_work : cd_X_work ∈ tb := tw_42
abbrev b_X_before : ByteArray := prog_1_method_5_code
abbrev y_X_before : MethodName := ⟨"NoteMix", "before", "(II)I"⟩
abbrev cd_X_before : Cond := .code y_X_before b_X_before 3 (some .int)
theorem kc_X_before : cd_X_before ∈ tb := tw_46
abbrev b_X_value : ByteArray := prog_1_method_17_code
abbrev y_X_value : MethodName := ⟨"NoteMix", "value", "()I"⟩
abbrev cd_X_value : Cond := .code y_X_value b_X_value 3 (some .int)
theorem kc_X_value : cd_X_value ∈ tb := tw_50
abbrev b_L_load : ByteArray := method_3_code
abbrev y_L_load : MethodName := ⟨"NoteMixLaw", "load", "(LNoteMix;III)I"⟩
abbrev cd_L_load : Cond := .codeWith y_L_load b_L_load 5 (some .int) [(0, 7, 10, 13)]
theorem kc_L_load : cd_L_load ∈ tb := tw_53
abbrev b_X_load : ByteArray := prog_1_method_4_code
abbrev y_X_load : MethodName := ⟨"NoteMix", "load", "(III)V"⟩
abbrev cd_X_load : Cond := .code y_X_load b_X_load 4 none
theorem kc_X_load : cd_X_load ∈ tb := tw_58
abbrev b_X_in : ByteArray := prog_1_method_3_code
abbrev y_X_in : MethodName := ⟨"NoteMix", "in", "(III)Z"⟩
abbrev cd_X_in : Cond := .code y_X_in b_X_in 3 (some .boolean)
theorem kc_X_in : cd_X_in ∈ tb := tw_61
abbrev b_X_right : ByteArray := prog_1_method_2_code
abbrev y_X_right : MethodName := ⟨"NoteMix", "right", "(Z)V"⟩
abbrev cd_X_right : Cond := .code y_X_right b_X_right 1 none
theorem kc_X_right : cd_X_right ∈ tb := tw_64
abbrev b_L_best : ByteArray := method_4_code
abbrev y_L_best : MethodName := ⟨"NoteMixLaw", "best", "(LNoteMix;I[J)I"⟩
abbrev cd_L_best : Cond := .codeWith y_L_best b_L_best 4 (some .int) [(0, 9, 12, 13), (0, 9, 15, 19)]
theorem kc_L_best : cd_L_best ∈ tb := tw_129
abbrev b_X_best : ByteArray := prog_1_method_9_code
abbrev y_X_best : MethodName := ⟨"NoteMix", "best", "(I)I"⟩
abbrev cd_X_best : Cond := .code y_X_best b_X_best 2 (some .int)
theorem kc_X_best : cd_X_best ∈ tb := tw_134
abbrev b_X_found : ByteArray := prog_1_method_8_code
abbrev y_X_found : MethodName := ⟨"NoteMix", "found", "(I)I"⟩
abbrev cd_X_found : Cond := .code y_X_found b_X_found 3 (some .int)
theorem kc_X_found : cd_X_found ∈ tb := tw_138
abbrev b_X_mix : ByteArray := prog_1_method_7_code
abbrev y_X_mix : MethodName := ⟨"NoteMix", "mix", "(I)I"⟩
abbrev cd_X_mix : Cond := .code y_X_mix b_X_mix 7 (some .int)
theorem kc_X_mix : cd_X_mix ∈ tb := tw_142
abbrev b_L_part : ByteArray := method_5_code
abbrev y_L_part : MethodName := ⟨"NoteMixLaw", "part", "(LNoteMix;II[J)I"⟩
abbrev cd_L_part : Cond := .codeWith y_L_part b_L_part 5 (some .int) [(0, 10, 13, 13), (0, 10, 17, 19)]
theorem kc_L_part : cd_L_part ∈ tb := tw_160
abbrev b_X_part : ByteArray := prog_1_method_10_code
abbrev y_X_part : MethodName := ⟨"NoteMix", "part", "(II)I"⟩
abbrev cd_X_part : Cond := .code y_X_part b_X_part 3 (some .int)
theorem kc_X_part : cd_X_part ∈ tb := tw_164
abbrev b_L_ways : ByteArray := method_6_code
abbrev y_L_ways : MethodName := ⟨"NoteMixLaw", "ways", "(LNoteMix;I[J)I"⟩
abbrev cd_L_ways : Cond := .codeWith y_L_ways b_L_ways 4 (some .int) [(0, 9, 12, 13)]
theorem kc_L_ways : cd_L_ways ∈ tb := tw_167
abbrev b_X_ways : ByteArray := prog_1_method_12_code
abbrev y_X_ways : MethodName := ⟨"NoteMix", "ways", "(I)I"⟩
abbrev cd_X_ways : Cond := .code y_X_ways b_X_ways 9 (some .int)
theorem kc_X_ways : cd_X_ways ∈ tb := tw_171
abbrev b_X_atMost : ByteArray := prog_1_method_11_code
abbrev y_X_atMost : MethodName := ⟨"NoteMix", "atMost", "(III)I"⟩
abbrev cd_X_atMost : Cond := .code y_X_atMost b_X_atMost 5 (some .int)
theorem kc_X_atMost : cd_X_atMost ∈ tb := tw_175
abbrev b_L_pay : ByteArray := method_7_code
abbrev y_L_pay : MethodName := ⟨"NoteMixLaw", "pay", "(LNoteMix;II[J)I"⟩
abbrev cd_L_pay : Cond := .codeWith y_L_pay b_L_pay 5 (some .int) [(0, 10, 13, 13), (0, 10, 17, 19)]
theorem kc_L_pay : cd_L_pay ∈ tb := tw_178
abbrev b_X_pay : ByteArray := prog_1_method_13_code
abbrev y_X_pay : MethodName := ⟨"NoteMix", "pay", "(II)I"⟩
abbrev cd_X_pay : Cond := .code y_X_pay b_X_pay 7 (some .int)
theorem kc_X_pay : cd_X_pay ∈ tb := tw_182
abbrev b_L_next : ByteArray := method_8_code
abbrev y_L_next : MethodName := ⟨"NoteMixLaw", "next", "(LNoteMix;I[J)I"⟩
abbrev cd_L_next : Cond := .codeWith y_L_next b_L_next 4 (some .int) [(0, 9, 12, 13)]
theorem kc_L_next : cd_L_next ∈ tb := tw_185
abbrev b_X_next : ByteArray := prog_1_method_14_code
abbrev y_X_next : MethodName := ⟨"NoteMix", "next", "(I)I"⟩
abbrev cd_X_next : Cond := .code y_X_next b_X_next 3 (some .int)
theorem kc_X_next : cd_X_next ∈ tb := tw_189
abbrev b_L_cassette : ByteArray := method_9_code
abbrev y_L_cassette : MethodName := ⟨"NoteMixLaw", "cassette", "(LNoteMix;IZ[J)I"⟩
abbrev cd_L_cassette : Cond := .codeWith y_L_cassette b_L_cassette 5 (some .int) [(0, 10, 13, 13)]
theorem kc_L_cassette : cd_L_cassette ∈ tb := tw_192
abbrev b_X_cassette : ByteArray := prog_1_method_16_code
abbrev y_X_cassette : MethodName := ⟨"NoteMix", "cassette", "(IZ)I"⟩
abbrev cd_X_cassette : Cond := .code y_X_cassette b_X_cassette 3 (some .int)
theorem kc_X_cassette : cd_X_cassette ∈ tb := tw_196
abbrev b_M_init : ByteArray := prog_3_method_1_code
abbrev y_M_init : MethodName := ⟨"NoteMixModel", "<init>", "()V"⟩
abbrev cd_M_init : Cond := .code y_M_init b_M_init 1 none
theorem kc_M_init : cd_M_init ∈ tb := tw_201
abbrev b_M_thrown : ByteArray := prog_3_method_2_code
abbrev y_M_thrown : MethodName := ⟨"NoteMixModel", "thrown", "()I"⟩
abbrev cd_M_thrown : Cond := .code y_M_thrown b_M_thrown 1 (some .int)
theorem kc_M_thrown : cd_M_thrown ∈ tb := tw_229
abbrev b_M_load : ByteArray := prog_3_method_4_code
abbrev y_M_load : MethodName := ⟨"NoteMixModel", "load", "(III)V"⟩
abbrev cd_M_load : Cond := .code y_M_load b_M_load 4 none
theorem kc_M_load : cd_M_load ∈ tb := tw_233
abbrev b_M_in : ByteArray := prog_3_method_3_code
abbrev y_M_in : MethodName := ⟨"NoteMixModel", "in", "(III)Z"⟩
abbrev cd_M_in : Cond := .code y_M_in b_M_in 3 (some .boolean)
theorem kc_M_in : cd_M_in ∈ tb := tw_236
abbrev b_M_best : ByteArray := prog_3_method_7_code
abbrev y_M_best : MethodName := ⟨"NoteMixModel", "best", "(I)I"⟩
abbrev cd_M_best : Cond := .code y_M_best b_M_best 2 (some .int)
theorem kc_M_best : cd_M_best ∈ tb := tw_240
abbrev b_M_isBest : ByteArray := prog_3_method_6_code
abbrev y_M_isBest : MethodName := ⟨"NoteMixModel", "isBest", "(I)Z"⟩
abbrev cd_M_isBest : Cond := .code y_M_isBest b_M_isBest 2 (some .boolean)
theorem kc_M_isBest : cd_M_isBest ∈ tb := tw_244
abbrev b_M_look : ByteArray := prog_3_method_5_code
abbrev y_M_look : MethodName := ⟨"NoteMixModel", "look", "(I)V"⟩
abbrev cd_M_look : Cond := .code y_M_look b_M_look 7 none
theorem kc_M_look : cd_M_look ∈ tb := tw_248
abbrev b_M_part : ByteArray := prog_3_method_8_code
abbrev y_M_part : MethodName := ⟨"NoteMixModel", "part", "(II)I"⟩
abbrev cd_M_part : Cond := .code y_M_part b_M_part 3 (some .int)
theorem kc_M_part : cd_M_part ∈ tb := tw_255
abbrev b_M_ways : ByteArray := prog_3_method_9_code
abbrev y_M_ways : MethodName := ⟨"NoteMixModel", "ways", "(I)I"⟩
abbrev cd_M_ways : Cond := .code y_M_ways b_M_ways 2 (some .int)
theorem kc_M_ways : cd_M_ways ∈ tb := tw_259
abbrev b_M_pay : ByteArray := prog_3_method_10_code
abbrev y_M_pay : MethodName := ⟨"NoteMixModel", "pay", "(II)I"⟩
abbrev cd_M_pay : Cond := .code y_M_pay b_M_pay 7 (some .int)
theorem kc_M_pay : cd_M_pay ∈ tb := tw_263
abbrev b_M_next : ByteArray := prog_3_method_12_code
abbrev y_M_next : MethodName := ⟨"NoteMixModel", "next", "(I)I"⟩
abbrev cd_M_next : Cond := .code y_M_next b_M_next 3 (some .int)
theorem kc_M_next : cd_M_next ∈ tb := tw_267
abbrev b_M_all : ByteArray := prog_3_method_11_code
abbrev y_M_all : MethodName := ⟨"NoteMixModel", "all", "()V"⟩
abbrev cd_M_all : Cond := .code y_M_all b_M_all 6 none
theorem kc_M_all : cd_M_all ∈ tb := tw_271
abbrev b_M_reach : ByteArray := prog_3_method_13_code
abbrev y_M_reach : MethodName := ⟨"NoteMixModel", "reach", "()I"⟩
abbrev cd_M_reach : Cond := .code y_M_reach b_M_reach 3 (some .int)
theorem kc_M_reach : cd_M_reach ∈ tb := tw_275
abbrev b_M_cassette : ByteArray := prog_3_method_14_code
abbrev y_M_cassette : MethodName := ⟨"NoteMixModel", "cassette", "(IZ)I"⟩
abbrev cd_M_cassette : Cond := .code y_M_cassette b_M_cassette 3 (some .int)
theorem kc_M_cassette : cd_M_cassette ∈ tb := tw_279
abbrev b_M_value : ByteArray := prog_3_method_15_code
abbrev y_M_value : MethodName := ⟨"NoteMixModel", "value", "()I"⟩
abbrev cd_M_value : Cond := .code y_M_value b_M_value 3 (some .int)
theorem kc_M_value : cd_M_value ∈ tb := tw_283
end
section
/-! decode rows -/
theorem d_X_init_0 : decode b_X_init 0 = .ok (.aload_n 0, 1) := by decide +kernel
theorem d_X_init_1 : decode b_X_init 1 = .ok (.invokespecial 1, 3) := by decide +kernel
theorem d_X_init_4 : decode b_X_init 4 = .ok (.aload_n 0, 1) := by decide +kernel
theorem d_X_init_5 : decode b_X_init 5 = .ok (.iconst 4, 1) := by decide +kernel
theorem d_X_init_6 : decode b_X_init 6 = .ok (.newarray .int, 2) := by decide +kernel
theorem d_X_init_8 : decode b_X_init 8 = .ok (.putfield 9, 3) := by decide +kernel
theorem d_X_init_11 : decode b_X_init 11 = .ok (.aload_n 0, 1) := by decide +kernel
theorem d_X_init_12 : decode b_X_init 12 = .ok (.iconst 4, 1) := by decide +kernel
theorem d_X_init_13 : decode b_X_init 13 = .ok (.newarray .int, 2) := by decide +kernel
theorem d_X_init_15 : decode b_X_init 15 = .ok (.putfield 13, 3) := by decide +kernel
theorem d_X_init_18 : decode b_X_init 18 = .ok (.aload_n 0, 1) := by decide +kernel
theorem d_X_init_19 : decode b_X_init 19 = .ok (.sipush 8004, 3) := by decide +kernel
theorem d_X_init_22 : decode b_X_init 22 = .ok (.newarray .byte, 2) := by decide +kernel
theorem d_X_init_24 : decode b_X_init 24 = .ok (.putfield 16, 3) := by decide +kernel
theorem d_X_init_27 : decode b_X_init 27 = .ok (.aload_n 0, 1) := by decide +kernel
theorem d_X_init_28 : decode b_X_init 28 = .ok (.iconst 4, 1) := by decide +kernel
theorem d_X_init_29 : decode b_X_init 29 = .ok (.newarray .int, 2) := by decide +kernel
theorem d_X_init_31 : decode b_X_init 31 = .ok (.putfield 20, 3) := by decide +kernel
theorem d_X_init_34 : decode b_X_init 34 = .ok (.iconst 0, 1) := by decide +kernel
theorem d_X_init_35 : decode b_X_init 35 = .ok (.istore_n 1, 1) := by decide +kernel
theorem d_X_init_36 : decode b_X_init 36 = .ok (.iload_n 1, 1) := by decide +kernel
theorem d_X_init_37 : decode b_X_init 37 = .ok (.iconst 4, 1) := by decide +kernel
theorem d_X_init_38 : decode b_X_init 38 = .ok (.if_icmp .ge 17, 3) := by decide +kernel
theorem d_X_init_41 : decode b_X_init 41 = .ok (.aload_n 0, 1) := by decide +kernel
theorem d_X_init_42 : decode b_X_init 42 = .ok (.getfield 13, 3) := by decide +kernel
theorem d_X_init_45 : decode b_X_init 45 = .ok (.iload_n 1, 1) := by decide +kernel
theorem d_X_init_46 : decode b_X_init 46 = .ok (.bipush 30, 2) := by decide +kernel
theorem d_X_init_48 : decode b_X_init 48 = .ok (.iastore, 1) := by decide +kernel
theorem d_X_init_49 : decode b_X_init 49 = .ok (.iinc 1 1, 3) := by decide +kernel
theorem d_X_init_52 : decode b_X_init 52 = .ok (.goto (-16), 3) := by decide +kernel
theorem d_X_init_55 : decode b_X_init 55 = .ok (.aload_n 0, 1) := by decide +kernel
theorem d_X_init_56 : decode b_X_init 56 = .ok (.getfield 9, 3) := by decide +kernel
theorem d_X_init_59 : decode b_X_init 59 = .ok (.iconst 0, 1) := by decide +kernel
theorem d_X_init_60 : decode b_X_init 60 = .ok (.iconst 5, 1) := by decide +kernel
theorem d_X_init_61 : decode b_X_init 61 = .ok (.iastore, 1) := by decide +kernel
theorem d_X_init_62 : decode b_X_init 62 = .ok (.aload_n 0, 1) := by decide +kernel
theorem d_X_init_63 : decode b_X_init 63 = .ok (.getfield 9, 3) := by decide +kernel
theorem d_X_init_66 : decode b_X_init 66 = .ok (.iconst 1, 1) := by decide +kernel
theorem d_X_init_67 : decode b_X_init 67 = .ok (.bipush 10, 2) := by decide +kernel
theorem d_X_init_69 : decode b_X_init 69 = .ok (.iastore, 1) := by decide +kernel
theorem d_X_init_70 : decode b_X_init 70 = .ok (.aload_n 0, 1) := by decide +kernel
theorem d_X_init_71 : decode b_X_init 71 = .ok (.getfield 9, 3) := by decide +kernel
theorem d_X_init_74 : decode b_X_init 74 = .ok (.iconst 2, 1) := by decide +kernel
theorem d_X_init_75 : decode b_X_init 75 = .ok (.bipush 20, 2) := by decide +kernel
theorem d_X_init_77 : decode b_X_init 77 = .ok (.iastore, 1) := by decide +kernel
theorem d_X_init_78 : decode b_X_init 78 = .ok (.aload_n 0, 1) := by decide +kernel
theorem d_X_init_79 : decode b_X_init 79 = .ok (.getfield 9, 3) := by decide +kernel
theorem d_X_init_82 : decode b_X_init 82 = .ok (.iconst 3, 1) := by decide +kernel
theorem d_X_init_83 : decode b_X_init 83 = .ok (.bipush 50, 2) := by decide +kernel
theorem d_X_init_85 : decode b_X_init 85 = .ok (.iastore, 1) := by decide +kernel
theorem d_X_init_86 : decode b_X_init 86 = .ok (.return_, 1) := by decide +kernel
theorem d_X_right_0 : decode b_X_right 0 = .ok (.iload_n 0, 1) := by decide +kernel
theorem d_X_right_1 : decode b_X_right 1 = .ok (.ifCond .ne 11, 3) := by decide +kernel
theorem d_X_right_4 : decode b_X_right 4 = .ok (.new 23, 3) := by decide +kernel
theorem d_X_right_7 : decode b_X_right 7 = .ok (.dup, 1) := by decide +kernel
theorem d_X_right_8 : decode b_X_right 8 = .ok (.invokespecial 25, 3) := by decide +kernel
theorem d_X_right_11 : decode b_X_right 11 = .ok (.athrow, 1) := by decide +kernel
theorem d_X_right_12 : decode b_X_right 12 = .ok (.return_, 1) := by decide +kernel
theorem d_X_in_0 : decode b_X_in 0 = .ok (.iload_n 0, 1) := by decide +kernel
theorem d_X_in_1 : decode b_X_in 1 = .ok (.iload_n 1, 1) := by decide +kernel
theorem d_X_in_2 : decode b_X_in 2 = .ok (.if_icmp .lt 12, 3) := by decide +kernel
theorem d_X_in_5 : decode b_X_in 5 = .ok (.iload_n 0, 1) := by decide +kernel
theorem d_X_in_6 : decode b_X_in 6 = .ok (.iload_n 2, 1) := by decide +kernel
theorem d_X_in_7 : decode b_X_in 7 = .ok (.if_icmp .gt 7, 3) := by decide +kernel
theorem d_X_in_10 : decode b_X_in 10 = .ok (.iconst 1, 1) := by decide +kernel
theorem d_X_in_11 : decode b_X_in 11 = .ok (.goto 4, 3) := by decide +kernel
theorem d_X_in_14 : decode b_X_in 14 = .ok (.iconst 0, 1) := by decide +kernel
theorem d_X_in_15 : decode b_X_in 15 = .ok (.ireturn, 1) := by decide +kernel
theorem d_X_load_0 : decode b_X_load 0 = .ok (.iload_n 1, 1) := by decide +kernel
theorem d_X_load_1 : decode b_X_load 1 = .ok (.iconst 0, 1) := by decide +kernel
theorem d_X_load_2 : decode b_X_load 2 = .ok (.iconst 3, 1) := by decide +kernel
theorem d_X_load_3 : decode b_X_load 3 = .ok (.invokestatic 26, 3) := by decide +kernel
theorem d_X_load_6 : decode b_X_load 6 = .ok (.ifCond .eq 29, 3) := by decide +kernel
theorem d_X_load_9 : decode b_X_load 9 = .ok (.iload_n 2, 1) := by decide +kernel
theorem d_X_load_10 : decode b_X_load 10 = .ok (.iconst 1, 1) := by decide +kernel
theorem d_X_load_11 : decode b_X_load 11 = .ok (.sipush 500, 3) := by decide +kernel
theorem d_X_load_14 : decode b_X_load 14 = .ok (.invokestatic 26, 3) := by decide +kernel
theorem d_X_load_17 : decode b_X_load 17 = .ok (.ifCond .eq 18, 3) := by decide +kernel
theorem d_X_load_20 : decode b_X_load 20 = .ok (.iload_n 3, 1) := by decide +kernel
theorem d_X_load_21 : decode b_X_load 21 = .ok (.iconst 0, 1) := by decide +kernel
theorem d_X_load_22 : decode b_X_load 22 = .ok (.sipush 500, 3) := by decide +kernel
theorem d_X_load_25 : decode b_X_load 25 = .ok (.invokestatic 26, 3) := by decide +kernel
theorem d_X_load_28 : decode b_X_load 28 = .ok (.ifCond .eq 7, 3) := by decide +kernel
theorem d_X_load_31 : decode b_X_load 31 = .ok (.iconst 1, 1) := by decide +kernel
theorem d_X_load_32 : decode b_X_load 32 = .ok (.goto 4, 3) := by decide +kernel
theorem d_X_load_35 : decode b_X_load 35 = .ok (.iconst 0, 1) := by decide +kernel
theorem d_X_load_36 : decode b_X_load 36 = .ok (.invokestatic 30, 3) := by decide +kernel
theorem d_X_load_39 : decode b_X_load 39 = .ok (.aload_n 0, 1) := by decide +kernel
theorem d_X_load_40 : decode b_X_load 40 = .ok (.getfield 9, 3) := by decide +kernel
theorem d_X_load_43 : decode b_X_load 43 = .ok (.iload_n 1, 1) := by decide +kernel
theorem d_X_load_44 : decode b_X_load 44 = .ok (.iload_n 2, 1) := by decide +kernel
theorem d_X_load_45 : decode b_X_load 45 = .ok (.iastore, 1) := by decide +kernel
theorem d_X_load_46 : decode b_X_load 46 = .ok (.aload_n 0, 1) := by decide +kernel
theorem d_X_load_47 : decode b_X_load 47 = .ok (.getfield 13, 3) := by decide +kernel
theorem d_X_load_50 : decode b_X_load 50 = .ok (.iload_n 1, 1) := by decide +kernel
theorem d_X_load_51 : decode b_X_load 51 = .ok (.iload_n 3, 1) := by decide +kernel
theorem d_X_load_52 : decode b_X_load 52 = .ok (.iastore, 1) := by decide +kernel
theorem d_X_load_53 : decode b_X_load 53 = .ok (.aload_n 0, 1) := by decide +kernel
theorem d_X_load_54 : decode b_X_load 54 = .ok (.iconst 0, 1) := by decide +kernel
theorem d_X_load_55 : decode b_X_load 55 = .ok (.putfield 34, 3) := by decide +kernel
theorem d_X_load_58 : decode b_X_load 58 = .ok (.return_, 1) := by decide +kernel
theorem d_X_before_0 : decode b_X_before 0 = .ok (.iload_n 1, 1) := by decide +kernel
theorem d_X_before_1 : decode b_X_before 1 = .ok (.ifCond .le 20, 3) := by decide +kernel
theorem d_X_before_4 : decode b_X_before 4 = .ok (.aload_n 0, 1) := by decide +kernel
theorem d_X_before_5 : decode b_X_before 5 = .ok (.getfield 16, 3) := by decide +kernel
theorem d_X_before_8 : decode b_X_before 8 = .ok (.iload_n 1, 1) := by decide +kernel
theorem d_X_before_9 : decode b_X_before 9 = .ok (.iconst 1, 1) := by decide +kernel
theorem d_X_before_10 : decode b_X_before 10 = .ok (.isub, 1) := by decide +kernel
theorem d_X_before_11 : decode b_X_before 11 = .ok (.sipush 2001, 3) := by decide +kernel
theorem d_X_before_14 : decode b_X_before 14 = .ok (.imul, 1) := by decide +kernel
theorem d_X_before_15 : decode b_X_before 15 = .ok (.iload_n 2, 1) := by decide +kernel
theorem d_X_before_16 : decode b_X_before 16 = .ok (.iadd, 1) := by decide +kernel
theorem d_X_before_17 : decode b_X_before 17 = .ok (.baload, 1) := by decide +kernel
theorem d_X_before_18 : decode b_X_before 18 = .ok (.goto 13, 3) := by decide +kernel
theorem d_X_before_21 : decode b_X_before 21 = .ok (.iload_n 2, 1) := by decide +kernel
theorem d_X_before_22 : decode b_X_before 22 = .ok (.ifCond .ne 7, 3) := by decide +kernel
theorem d_X_before_25 : decode b_X_before 25 = .ok (.iconst 0, 1) := by decide +kernel
theorem d_X_before_26 : decode b_X_before 26 = .ok (.goto 5, 3) := by decide +kernel
theorem d_X_before_29 : decode b_X_before 29 = .ok (.bipush 41, 2) := by decide +kernel
theorem d_X_before_31 : decode b_X_before 31 = .ok (.ireturn, 1) := by decide +kernel
theorem d_X_work_0 : decode b_X_work 0 = .ok (.aload_n 0, 1) := by decide +kernel
theorem d_X_work_1 : decode b_X_work 1 = .ok (.getfield 34, 3) := by decide +kernel
theorem d_X_work_4 : decode b_X_work 4 = .ok (.ifCond .eq 4, 3) := by decide +kernel
theorem d_X_work_7 : decode b_X_work 7 = .ok (.return_, 1) := by decide +kernel
theorem d_X_work_8 : decode b_X_work 8 = .ok (.aload_n 0, 1) := by decide +kernel
theorem d_X_work_9 : decode b_X_work 9 = .ok (.iconst 1, 1) := by decide +kernel
theorem d_X_work_10 : decode b_X_work 10 = .ok (.putfield 34, 3) := by decide +kernel
theorem d_X_work_13 : decode b_X_work 13 = .ok (.iconst 0, 1) := by decide +kernel
theorem d_X_work_14 : decode b_X_work 14 = .ok (.istore_n 1, 1) := by decide +kernel
theorem d_X_work_15 : decode b_X_work 15 = .ok (.iload_n 1, 1) := by decide +kernel
theorem d_X_work_16 : decode b_X_work 16 = .ok (.iconst 4, 1) := by decide +kernel
theorem d_X_work_17 : decode b_X_work 17 = .ok (.if_icmp .ge 126, 3) := by decide +kernel
theorem d_X_work_20 : decode b_X_work 20 = .ok (.aload_n 0, 1) := by decide +kernel
theorem d_X_work_21 : decode b_X_work 21 = .ok (.getfield 13, 3) := by decide +kernel
theorem d_X_work_24 : decode b_X_work 24 = .ok (.iload_n 1, 1) := by decide +kernel
theorem d_X_work_25 : decode b_X_work 25 = .ok (.iaload, 1) := by decide +kernel
theorem d_X_work_26 : decode b_X_work 26 = .ok (.bipush 40, 2) := by decide +kernel
theorem d_X_work_28 : decode b_X_work 28 = .ok (.if_icmp .ge 12, 3) := by decide +kernel
theorem d_X_work_31 : decode b_X_work 31 = .ok (.aload_n 0, 1) := by decide +kernel
theorem d_X_work_32 : decode b_X_work 32 = .ok (.getfield 13, 3) := by decide +kernel
theorem d_X_work_35 : decode b_X_work 35 = .ok (.iload_n 1, 1) := by decide +kernel
theorem d_X_work_36 : decode b_X_work 36 = .ok (.iaload, 1) := by decide +kernel
theorem d_X_work_37 : decode b_X_work 37 = .ok (.goto 5, 3) := by decide +kernel
theorem d_X_work_40 : decode b_X_work 40 = .ok (.bipush 40, 2) := by decide +kernel
theorem d_X_work_42 : decode b_X_work 42 = .ok (.istore_n 2, 1) := by decide +kernel
theorem d_X_work_43 : decode b_X_work 43 = .ok (.iconst 0, 1) := by decide +kernel
theorem d_X_work_44 : decode b_X_work 44 = .ok (.istore_n 3, 1) := by decide +kernel
theorem d_X_work_45 : decode b_X_work 45 = .ok (.iload_n 3, 1) := by decide +kernel
theorem d_X_work_46 : decode b_X_work 46 = .ok (.sipush 2000, 3) := by decide +kernel
theorem d_X_work_49 : decode b_X_work 49 = .ok (.if_icmp .gt 88, 3) := by decide +kernel
theorem d_X_work_52 : decode b_X_work 52 = .ok (.bipush 41, 2) := by decide +kernel
theorem d_X_work_54 : decode b_X_work 54 = .ok (.istore 4, 2) := by decide +kernel
theorem d_X_work_56 : decode b_X_work 56 = .ok (.iconst 0, 1) := by decide +kernel
theorem d_X_work_57 : decode b_X_work 57 = .ok (.istore 5, 2) := by decide +kernel
theorem d_X_work_59 : decode b_X_work 59 = .ok (.iload 5, 2) := by decide +kernel
theorem d_X_work_61 : decode b_X_work 61 = .ok (.iload_n 2, 1) := by decide +kernel
theorem d_X_work_62 : decode b_X_work 62 = .ok (.if_icmp .gt 54, 3) := by decide +kernel
theorem d_X_work_65 : decode b_X_work 65 = .ok (.iload 5, 2) := by decide +kernel
theorem d_X_work_67 : decode b_X_work 67 = .ok (.aload_n 0, 1) := by decide +kernel
theorem d_X_work_68 : decode b_X_work 68 = .ok (.getfield 9, 3) := by decide +kernel
theorem d_X_work_71 : decode b_X_work 71 = .ok (.iload_n 1, 1) := by decide +kernel
theorem d_X_work_72 : decode b_X_work 72 = .ok (.iaload, 1) := by decide +kernel
theorem d_X_work_73 : decode b_X_work 73 = .ok (.imul, 1) := by decide +kernel
theorem d_X_work_74 : decode b_X_work 74 = .ok (.iload_n 3, 1) := by decide +kernel
theorem d_X_work_75 : decode b_X_work 75 = .ok (.if_icmp .gt 41, 3) := by decide +kernel
theorem d_X_work_78 : decode b_X_work 78 = .ok (.aload_n 0, 1) := by decide +kernel
theorem d_X_work_79 : decode b_X_work 79 = .ok (.iload_n 1, 1) := by decide +kernel
theorem d_X_work_80 : decode b_X_work 80 = .ok (.iload_n 3, 1) := by decide +kernel
theorem d_X_work_81 : decode b_X_work 81 = .ok (.iload 5, 2) := by decide +kernel
theorem d_X_work_83 : decode b_X_work 83 = .ok (.aload_n 0, 1) := by decide +kernel
theorem d_X_work_84 : decode b_X_work 84 = .ok (.getfield 9, 3) := by decide +kernel
theorem d_X_work_87 : decode b_X_work 87 = .ok (.iload_n 1, 1) := by decide +kernel
theorem d_X_work_88 : decode b_X_work 88 = .ok (.iaload, 1) := by decide +kernel
theorem d_X_work_89 : decode b_X_work 89 = .ok (.imul, 1) := by decide +kernel
theorem d_X_work_90 : decode b_X_work 90 = .ok (.isub, 1) := by decide +kernel
theorem d_X_work_91 : decode b_X_work 91 = .ok (.invokevirtual 38, 3) := by decide +kernel
theorem d_X_work_94 : decode b_X_work 94 = .ok (.iload 5, 2) := by decide +kernel
theorem d_X_work_96 : decode b_X_work 96 = .ok (.iadd, 1) := by decide +kernel
theorem d_X_work_97 : decode b_X_work 97 = .ok (.istore 6, 2) := by decide +kernel
theorem d_X_work_99 : decode b_X_work 99 = .ok (.iload 6, 2) := by decide +kernel
theorem d_X_work_101 : decode b_X_work 101 = .ok (.iload 4, 2) := by decide +kernel
theorem d_X_work_103 : decode b_X_work 103 = .ok (.if_icmp .ge 7, 3) := by decide +kernel
theorem d_X_work_106 : decode b_X_work 106 = .ok (.iload 6, 2) := by decide +kernel
theorem d_X_work_108 : decode b_X_work 108 = .ok (.istore 4, 2) := by decide +kernel
theorem d_X_work_110 : decode b_X_work 110 = .ok (.iinc 5 1, 3) := by decide +kernel
theorem d_X_work_113 : decode b_X_work 113 = .ok (.goto (-54), 3) := by decide +kernel
theorem d_X_work_116 : decode b_X_work 116 = .ok (.aload_n 0, 1) := by decide +kernel
theorem d_X_work_117 : decode b_X_work 117 = .ok (.getfield 16, 3) := by decide +kernel
theorem d_X_work_120 : decode b_X_work 120 = .ok (.iload_n 1, 1) := by decide +kernel
theorem d_X_work_121 : decode b_X_work 121 = .ok (.sipush 2001, 3) := by decide +kernel
theorem d_X_work_124 : decode b_X_work 124 = .ok (.imul, 1) := by decide +kernel
theorem d_X_work_125 : decode b_X_work 125 = .ok (.iload_n 3, 1) := by decide +kernel
theorem d_X_work_126 : decode b_X_work 126 = .ok (.iadd, 1) := by decide +kernel
theorem d_X_work_127 : decode b_X_work 127 = .ok (.iload 4, 2) := by decide +kernel
theorem d_X_work_129 : decode b_X_work 129 = .ok (.i2b, 1) := by decide +kernel
theorem d_X_work_130 : decode b_X_work 130 = .ok (.bastore, 1) := by decide +kernel
theorem d_X_work_131 : decode b_X_work 131 = .ok (.iinc 3 1, 3) := by decide +kernel
theorem d_X_work_134 : decode b_X_work 134 = .ok (.goto (-89), 3) := by decide +kernel
theorem d_X_work_137 : decode b_X_work 137 = .ok (.iinc 1 1, 3) := by decide +kernel
theorem d_X_work_140 : decode b_X_work 140 = .ok (.goto (-125), 3) := by decide +kernel
theorem d_X_work_143 : decode b_X_work 143 = .ok (.return_, 1) := by decide +kernel
theorem d_X_mix_0 : decode b_X_mix 0 = .ok (.aload_n 0, 1) := by decide +kernel
theorem d_X_mix_1 : decode b_X_mix 1 = .ok (.invokevirtual 42, 3) := by decide +kernel
theorem d_X_mix_4 : decode b_X_mix 4 = .ok (.aload_n 0, 1) := by decide +kernel
theorem d_X_mix_5 : decode b_X_mix 5 = .ok (.getfield 16, 3) := by decide +kernel
theorem d_X_mix_8 : decode b_X_mix 8 = .ok (.sipush 6003, 3) := by decide +kernel
theorem d_X_mix_11 : decode b_X_mix 11 = .ok (.iload_n 1, 1) := by decide +kernel
theorem d_X_mix_12 : decode b_X_mix 12 = .ok (.iadd, 1) := by decide +kernel
theorem d_X_mix_13 : decode b_X_mix 13 = .ok (.baload, 1) := by decide +kernel
theorem d_X_mix_14 : decode b_X_mix 14 = .ok (.istore_n 2, 1) := by decide +kernel
theorem d_X_mix_15 : decode b_X_mix 15 = .ok (.iload_n 2, 1) := by decide +kernel
theorem d_X_mix_16 : decode b_X_mix 16 = .ok (.bipush 41, 2) := by decide +kernel
theorem d_X_mix_18 : decode b_X_mix 18 = .ok (.if_icmp .ne 5, 3) := by decide +kernel
theorem d_X_mix_21 : decode b_X_mix 21 = .ok (.iconst (-1), 1) := by decide +kernel
theorem d_X_mix_22 : decode b_X_mix 22 = .ok (.ireturn, 1) := by decide +kernel
theorem d_X_mix_23 : decode b_X_mix 23 = .ok (.iload_n 2, 1) := by decide +kernel
theorem d_X_mix_24 : decode b_X_mix 24 = .ok (.istore_n 3, 1) := by decide +kernel
theorem d_X_mix_25 : decode b_X_mix 25 = .ok (.iload_n 1, 1) := by decide +kernel
theorem d_X_mix_26 : decode b_X_mix 26 = .ok (.istore 4, 2) := by decide +kernel
theorem d_X_mix_28 : decode b_X_mix 28 = .ok (.iconst 3, 1) := by decide +kernel
theorem d_X_mix_29 : decode b_X_mix 29 = .ok (.istore 5, 2) := by decide +kernel
theorem d_X_mix_31 : decode b_X_mix 31 = .ok (.iload 5, 2) := by decide +kernel
theorem d_X_mix_33 : decode b_X_mix 33 = .ok (.ifCond .lt 109, 3) := by decide +kernel
theorem d_X_mix_36 : decode b_X_mix 36 = .ok (.aload_n 0, 1) := by decide +kernel
theorem d_X_mix_37 : decode b_X_mix 37 = .ok (.getfield 13, 3) := by decide +kernel
theorem d_X_mix_40 : decode b_X_mix 40 = .ok (.iload 5, 2) := by decide +kernel
theorem d_X_mix_42 : decode b_X_mix 42 = .ok (.iaload, 1) := by decide +kernel
theorem d_X_mix_43 : decode b_X_mix 43 = .ok (.iload_n 3, 1) := by decide +kernel
theorem d_X_mix_44 : decode b_X_mix 44 = .ok (.if_icmp .ge 13, 3) := by decide +kernel
theorem d_X_mix_47 : decode b_X_mix 47 = .ok (.aload_n 0, 1) := by decide +kernel
theorem d_X_mix_48 : decode b_X_mix 48 = .ok (.getfield 13, 3) := by decide +kernel
theorem d_X_mix_51 : decode b_X_mix 51 = .ok (.iload 5, 2) := by decide +kernel
theorem d_X_mix_53 : decode b_X_mix 53 = .ok (.iaload, 1) := by decide +kernel
theorem d_X_mix_54 : decode b_X_mix 54 = .ok (.goto 4, 3) := by decide +kernel
theorem d_X_mix_57 : decode b_X_mix 57 = .ok (.iload_n 3, 1) := by decide +kernel
theorem d_X_mix_58 : decode b_X_mix 58 = .ok (.istore 6, 2) := by decide +kernel
theorem d_X_mix_60 : decode b_X_mix 60 = .ok (.iload 6, 2) := by decide +kernel
theorem d_X_mix_62 : decode b_X_mix 62 = .ok (.aload_n 0, 1) := by decide +kernel
theorem d_X_mix_63 : decode b_X_mix 63 = .ok (.getfield 9, 3) := by decide +kernel
theorem d_X_mix_66 : decode b_X_mix 66 = .ok (.iload 5, 2) := by decide +kernel
theorem d_X_mix_68 : decode b_X_mix 68 = .ok (.iaload, 1) := by decide +kernel
theorem d_X_mix_69 : decode b_X_mix 69 = .ok (.imul, 1) := by decide +kernel
theorem d_X_mix_70 : decode b_X_mix 70 = .ok (.iload 4, 2) := by decide +kernel
theorem d_X_mix_72 : decode b_X_mix 72 = .ok (.if_icmp .gt 29, 3) := by decide +kernel
theorem d_X_mix_75 : decode b_X_mix 75 = .ok (.aload_n 0, 1) := by decide +kernel
theorem d_X_mix_76 : decode b_X_mix 76 = .ok (.iload 5, 2) := by decide +kernel
theorem d_X_mix_78 : decode b_X_mix 78 = .ok (.iload 4, 2) := by decide +kernel
theorem d_X_mix_80 : decode b_X_mix 80 = .ok (.iload 6, 2) := by decide +kernel
theorem d_X_mix_82 : decode b_X_mix 82 = .ok (.aload_n 0, 1) := by decide +kernel
theorem d_X_mix_83 : decode b_X_mix 83 = .ok (.getfield 9, 3) := by decide +kernel
theorem d_X_mix_86 : decode b_X_mix 86 = .ok (.iload 5, 2) := by decide +kernel
theorem d_X_mix_88 : decode b_X_mix 88 = .ok (.iaload, 1) := by decide +kernel
theorem d_X_mix_89 : decode b_X_mix 89 = .ok (.imul, 1) := by decide +kernel
theorem d_X_mix_90 : decode b_X_mix 90 = .ok (.isub, 1) := by decide +kernel
theorem d_X_mix_91 : decode b_X_mix 91 = .ok (.invokevirtual 38, 3) := by decide +kernel
theorem d_X_mix_94 : decode b_X_mix 94 = .ok (.iload_n 3, 1) := by decide +kernel
theorem d_X_mix_95 : decode b_X_mix 95 = .ok (.iload 6, 2) := by decide +kernel
theorem d_X_mix_97 : decode b_X_mix 97 = .ok (.isub, 1) := by decide +kernel
theorem d_X_mix_98 : decode b_X_mix 98 = .ok (.if_icmp .eq 9, 3) := by decide +kernel
theorem d_X_mix_101 : decode b_X_mix 101 = .ok (.iinc 6 (-1), 3) := by decide +kernel
theorem d_X_mix_104 : decode b_X_mix 104 = .ok (.goto (-44), 3) := by decide +kernel
theorem d_X_mix_107 : decode b_X_mix 107 = .ok (.aload_n 0, 1) := by decide +kernel
theorem d_X_mix_108 : decode b_X_mix 108 = .ok (.getfield 20, 3) := by decide +kernel
theorem d_X_mix_111 : decode b_X_mix 111 = .ok (.iload 5, 2) := by decide +kernel
theorem d_X_mix_113 : decode b_X_mix 113 = .ok (.iload 6, 2) := by decide +kernel
theorem d_X_mix_115 : decode b_X_mix 115 = .ok (.iastore, 1) := by decide +kernel
theorem d_X_mix_116 : decode b_X_mix 116 = .ok (.iload_n 3, 1) := by decide +kernel
theorem d_X_mix_117 : decode b_X_mix 117 = .ok (.iload 6, 2) := by decide +kernel
theorem d_X_mix_119 : decode b_X_mix 119 = .ok (.isub, 1) := by decide +kernel
theorem d_X_mix_120 : decode b_X_mix 120 = .ok (.istore_n 3, 1) := by decide +kernel
theorem d_X_mix_121 : decode b_X_mix 121 = .ok (.iload 4, 2) := by decide +kernel
theorem d_X_mix_123 : decode b_X_mix 123 = .ok (.iload 6, 2) := by decide +kernel
theorem d_X_mix_125 : decode b_X_mix 125 = .ok (.aload_n 0, 1) := by decide +kernel
theorem d_X_mix_126 : decode b_X_mix 126 = .ok (.getfield 9, 3) := by decide +kernel
theorem d_X_mix_129 : decode b_X_mix 129 = .ok (.iload 5, 2) := by decide +kernel
theorem d_X_mix_131 : decode b_X_mix 131 = .ok (.iaload, 1) := by decide +kernel
theorem d_X_mix_132 : decode b_X_mix 132 = .ok (.imul, 1) := by decide +kernel
theorem d_X_mix_133 : decode b_X_mix 133 = .ok (.isub, 1) := by decide +kernel
theorem d_X_mix_134 : decode b_X_mix 134 = .ok (.istore 4, 2) := by decide +kernel
theorem d_X_mix_136 : decode b_X_mix 136 = .ok (.iinc 5 (-1), 3) := by decide +kernel
theorem d_X_mix_139 : decode b_X_mix 139 = .ok (.goto (-108), 3) := by decide +kernel
theorem d_X_mix_142 : decode b_X_mix 142 = .ok (.iload_n 2, 1) := by decide +kernel
theorem d_X_mix_143 : decode b_X_mix 143 = .ok (.ireturn, 1) := by decide +kernel
theorem d_X_found_0 : decode b_X_found 0 = .ok (.iload_n 1, 1) := by decide +kernel
theorem d_X_found_1 : decode b_X_found 1 = .ok (.iconst 0, 1) := by decide +kernel
theorem d_X_found_2 : decode b_X_found 2 = .ok (.sipush 2000, 3) := by decide +kernel
theorem d_X_found_5 : decode b_X_found 5 = .ok (.invokestatic 26, 3) := by decide +kernel
theorem d_X_found_8 : decode b_X_found 8 = .ok (.invokestatic 30, 3) := by decide +kernel
theorem d_X_found_11 : decode b_X_found 11 = .ok (.aload_n 0, 1) := by decide +kernel
theorem d_X_found_12 : decode b_X_found 12 = .ok (.iload_n 1, 1) := by decide +kernel
theorem d_X_found_13 : decode b_X_found 13 = .ok (.invokevirtual 45, 3) := by decide +kernel
theorem d_X_found_16 : decode b_X_found 16 = .ok (.istore_n 2, 1) := by decide +kernel
theorem d_X_found_17 : decode b_X_found 17 = .ok (.iload_n 2, 1) := by decide +kernel
theorem d_X_found_18 : decode b_X_found 18 = .ok (.ifCond .ge 11, 3) := by decide +kernel
theorem d_X_found_21 : decode b_X_found 21 = .ok (.new 49, 3) := by decide +kernel
theorem d_X_found_24 : decode b_X_found 24 = .ok (.dup, 1) := by decide +kernel
end
section
/-! decode rows -/
theorem d_X_found_25 : decode b_X_found 25 = .ok (.invokespecial 51, 3) := by decide +kernel
theorem d_X_found_28 : decode b_X_found 28 = .ok (.athrow, 1) := by decide +kernel
theorem d_X_found_29 : decode b_X_found 29 = .ok (.iload_n 2, 1) := by decide +kernel
theorem d_X_found_30 : decode b_X_found 30 = .ok (.ireturn, 1) := by decide +kernel
theorem d_X_best_0 : decode b_X_best 0 = .ok (.aload_n 0, 1) := by decide +kernel
theorem d_X_best_1 : decode b_X_best 1 = .ok (.iload_n 1, 1) := by decide +kernel
theorem d_X_best_2 : decode b_X_best 2 = .ok (.invokevirtual 52, 3) := by decide +kernel
theorem d_X_best_5 : decode b_X_best 5 = .ok (.ireturn, 1) := by decide +kernel
theorem d_X_part_0 : decode b_X_part 0 = .ok (.iload_n 2, 1) := by decide +kernel
theorem d_X_part_1 : decode b_X_part 1 = .ok (.iconst 0, 1) := by decide +kernel
theorem d_X_part_2 : decode b_X_part 2 = .ok (.iconst 3, 1) := by decide +kernel
theorem d_X_part_3 : decode b_X_part 3 = .ok (.invokestatic 26, 3) := by decide +kernel
theorem d_X_part_6 : decode b_X_part 6 = .ok (.invokestatic 30, 3) := by decide +kernel
theorem d_X_part_9 : decode b_X_part 9 = .ok (.aload_n 0, 1) := by decide +kernel
theorem d_X_part_10 : decode b_X_part 10 = .ok (.iload_n 1, 1) := by decide +kernel
theorem d_X_part_11 : decode b_X_part 11 = .ok (.invokevirtual 52, 3) := by decide +kernel
theorem d_X_part_14 : decode b_X_part 14 = .ok (.pop, 1) := by decide +kernel
theorem d_X_part_15 : decode b_X_part 15 = .ok (.aload_n 0, 1) := by decide +kernel
theorem d_X_part_16 : decode b_X_part 16 = .ok (.getfield 20, 3) := by decide +kernel
theorem d_X_part_19 : decode b_X_part 19 = .ok (.iload_n 2, 1) := by decide +kernel
theorem d_X_part_20 : decode b_X_part 20 = .ok (.iaload, 1) := by decide +kernel
theorem d_X_part_21 : decode b_X_part 21 = .ok (.ireturn, 1) := by decide +kernel
theorem d_X_atMost_0 : decode b_X_atMost 0 = .ok (.iload_n 3, 1) := by decide +kernel
theorem d_X_atMost_1 : decode b_X_atMost 1 = .ok (.aload_n 0, 1) := by decide +kernel
theorem d_X_atMost_2 : decode b_X_atMost 2 = .ok (.getfield 9, 3) := by decide +kernel
theorem d_X_atMost_5 : decode b_X_atMost 5 = .ok (.iload_n 1, 1) := by decide +kernel
theorem d_X_atMost_6 : decode b_X_atMost 6 = .ok (.iaload, 1) := by decide +kernel
theorem d_X_atMost_7 : decode b_X_atMost 7 = .ok (.idiv, 1) := by decide +kernel
theorem d_X_atMost_8 : decode b_X_atMost 8 = .ok (.istore 4, 2) := by decide +kernel
theorem d_X_atMost_10 : decode b_X_atMost 10 = .ok (.iload 4, 2) := by decide +kernel
theorem d_X_atMost_12 : decode b_X_atMost 12 = .ok (.aload_n 0, 1) := by decide +kernel
theorem d_X_atMost_13 : decode b_X_atMost 13 = .ok (.getfield 13, 3) := by decide +kernel
theorem d_X_atMost_16 : decode b_X_atMost 16 = .ok (.iload_n 1, 1) := by decide +kernel
theorem d_X_atMost_17 : decode b_X_atMost 17 = .ok (.iaload, 1) := by decide +kernel
theorem d_X_atMost_18 : decode b_X_atMost 18 = .ok (.if_icmp .ge 8, 3) := by decide +kernel
theorem d_X_atMost_21 : decode b_X_atMost 21 = .ok (.iload 4, 2) := by decide +kernel
theorem d_X_atMost_23 : decode b_X_atMost 23 = .ok (.goto 9, 3) := by decide +kernel
theorem d_X_atMost_26 : decode b_X_atMost 26 = .ok (.aload_n 0, 1) := by decide +kernel
theorem d_X_atMost_27 : decode b_X_atMost 27 = .ok (.getfield 13, 3) := by decide +kernel
theorem d_X_atMost_30 : decode b_X_atMost 30 = .ok (.iload_n 1, 1) := by decide +kernel
theorem d_X_atMost_31 : decode b_X_atMost 31 = .ok (.iaload, 1) := by decide +kernel
theorem d_X_atMost_32 : decode b_X_atMost 32 = .ok (.istore 4, 2) := by decide +kernel
theorem d_X_atMost_34 : decode b_X_atMost 34 = .ok (.iload 4, 2) := by decide +kernel
theorem d_X_atMost_36 : decode b_X_atMost 36 = .ok (.iload_n 2, 1) := by decide +kernel
theorem d_X_atMost_37 : decode b_X_atMost 37 = .ok (.if_icmp .ge 8, 3) := by decide +kernel
theorem d_X_atMost_40 : decode b_X_atMost 40 = .ok (.iload 4, 2) := by decide +kernel
theorem d_X_atMost_42 : decode b_X_atMost 42 = .ok (.goto 4, 3) := by decide +kernel
theorem d_X_atMost_45 : decode b_X_atMost 45 = .ok (.iload_n 2, 1) := by decide +kernel
theorem d_X_atMost_46 : decode b_X_atMost 46 = .ok (.ireturn, 1) := by decide +kernel
theorem d_X_ways_0 : decode b_X_ways 0 = .ok (.iload_n 1, 1) := by decide +kernel
theorem d_X_ways_1 : decode b_X_ways 1 = .ok (.iconst 0, 1) := by decide +kernel
theorem d_X_ways_2 : decode b_X_ways 2 = .ok (.sipush 2000, 3) := by decide +kernel
theorem d_X_ways_5 : decode b_X_ways 5 = .ok (.invokestatic 26, 3) := by decide +kernel
theorem d_X_ways_8 : decode b_X_ways 8 = .ok (.invokestatic 30, 3) := by decide +kernel
theorem d_X_ways_11 : decode b_X_ways 11 = .ok (.iconst 0, 1) := by decide +kernel
theorem d_X_ways_12 : decode b_X_ways 12 = .ok (.istore_n 2, 1) := by decide +kernel
theorem d_X_ways_13 : decode b_X_ways 13 = .ok (.aload_n 0, 1) := by decide +kernel
theorem d_X_ways_14 : decode b_X_ways 14 = .ok (.iconst 3, 1) := by decide +kernel
theorem d_X_ways_15 : decode b_X_ways 15 = .ok (.bipush 40, 2) := by decide +kernel
theorem d_X_ways_17 : decode b_X_ways 17 = .ok (.iload_n 1, 1) := by decide +kernel
theorem d_X_ways_18 : decode b_X_ways 18 = .ok (.invokevirtual 55, 3) := by decide +kernel
theorem d_X_ways_21 : decode b_X_ways 21 = .ok (.istore_n 3, 1) := by decide +kernel
theorem d_X_ways_22 : decode b_X_ways 22 = .ok (.iload_n 3, 1) := by decide +kernel
theorem d_X_ways_23 : decode b_X_ways 23 = .ok (.ifCond .lt 144, 3) := by decide +kernel
theorem d_X_ways_26 : decode b_X_ways 26 = .ok (.iload_n 1, 1) := by decide +kernel
theorem d_X_ways_27 : decode b_X_ways 27 = .ok (.iload_n 3, 1) := by decide +kernel
theorem d_X_ways_28 : decode b_X_ways 28 = .ok (.aload_n 0, 1) := by decide +kernel
theorem d_X_ways_29 : decode b_X_ways 29 = .ok (.getfield 9, 3) := by decide +kernel
theorem d_X_ways_32 : decode b_X_ways 32 = .ok (.iconst 3, 1) := by decide +kernel
theorem d_X_ways_33 : decode b_X_ways 33 = .ok (.iaload, 1) := by decide +kernel
theorem d_X_ways_34 : decode b_X_ways 34 = .ok (.imul, 1) := by decide +kernel
theorem d_X_ways_35 : decode b_X_ways 35 = .ok (.isub, 1) := by decide +kernel
theorem d_X_ways_36 : decode b_X_ways 36 = .ok (.istore 4, 2) := by decide +kernel
theorem d_X_ways_38 : decode b_X_ways 38 = .ok (.aload_n 0, 1) := by decide +kernel
theorem d_X_ways_39 : decode b_X_ways 39 = .ok (.iconst 2, 1) := by decide +kernel
theorem d_X_ways_40 : decode b_X_ways 40 = .ok (.bipush 40, 2) := by decide +kernel
theorem d_X_ways_42 : decode b_X_ways 42 = .ok (.iload_n 3, 1) := by decide +kernel
theorem d_X_ways_43 : decode b_X_ways 43 = .ok (.isub, 1) := by decide +kernel
theorem d_X_ways_44 : decode b_X_ways 44 = .ok (.iload 4, 2) := by decide +kernel
theorem d_X_ways_46 : decode b_X_ways 46 = .ok (.invokevirtual 55, 3) := by decide +kernel
theorem d_X_ways_49 : decode b_X_ways 49 = .ok (.istore 5, 2) := by decide +kernel
theorem d_X_ways_51 : decode b_X_ways 51 = .ok (.iload 5, 2) := by decide +kernel
theorem d_X_ways_53 : decode b_X_ways 53 = .ok (.ifCond .lt 108, 3) := by decide +kernel
theorem d_X_ways_56 : decode b_X_ways 56 = .ok (.iload 4, 2) := by decide +kernel
theorem d_X_ways_58 : decode b_X_ways 58 = .ok (.iload 5, 2) := by decide +kernel
theorem d_X_ways_60 : decode b_X_ways 60 = .ok (.aload_n 0, 1) := by decide +kernel
theorem d_X_ways_61 : decode b_X_ways 61 = .ok (.getfield 9, 3) := by decide +kernel
theorem d_X_ways_64 : decode b_X_ways 64 = .ok (.iconst 2, 1) := by decide +kernel
theorem d_X_ways_65 : decode b_X_ways 65 = .ok (.iaload, 1) := by decide +kernel
theorem d_X_ways_66 : decode b_X_ways 66 = .ok (.imul, 1) := by decide +kernel
theorem d_X_ways_67 : decode b_X_ways 67 = .ok (.isub, 1) := by decide +kernel
theorem d_X_ways_68 : decode b_X_ways 68 = .ok (.istore 6, 2) := by decide +kernel
theorem d_X_ways_70 : decode b_X_ways 70 = .ok (.aload_n 0, 1) := by decide +kernel
theorem d_X_ways_71 : decode b_X_ways 71 = .ok (.iconst 1, 1) := by decide +kernel
theorem d_X_ways_72 : decode b_X_ways 72 = .ok (.bipush 40, 2) := by decide +kernel
theorem d_X_ways_74 : decode b_X_ways 74 = .ok (.iload_n 3, 1) := by decide +kernel
theorem d_X_ways_75 : decode b_X_ways 75 = .ok (.isub, 1) := by decide +kernel
theorem d_X_ways_76 : decode b_X_ways 76 = .ok (.iload 5, 2) := by decide +kernel
theorem d_X_ways_78 : decode b_X_ways 78 = .ok (.isub, 1) := by decide +kernel
theorem d_X_ways_79 : decode b_X_ways 79 = .ok (.iload 6, 2) := by decide +kernel
theorem d_X_ways_81 : decode b_X_ways 81 = .ok (.invokevirtual 55, 3) := by decide +kernel
theorem d_X_ways_84 : decode b_X_ways 84 = .ok (.istore 7, 2) := by decide +kernel
theorem d_X_ways_86 : decode b_X_ways 86 = .ok (.iload 7, 2) := by decide +kernel
theorem d_X_ways_88 : decode b_X_ways 88 = .ok (.ifCond .lt 67, 3) := by decide +kernel
theorem d_X_ways_91 : decode b_X_ways 91 = .ok (.iload 6, 2) := by decide +kernel
theorem d_X_ways_93 : decode b_X_ways 93 = .ok (.iload 7, 2) := by decide +kernel
theorem d_X_ways_95 : decode b_X_ways 95 = .ok (.aload_n 0, 1) := by decide +kernel
theorem d_X_ways_96 : decode b_X_ways 96 = .ok (.getfield 9, 3) := by decide +kernel
theorem d_X_ways_99 : decode b_X_ways 99 = .ok (.iconst 1, 1) := by decide +kernel
theorem d_X_ways_100 : decode b_X_ways 100 = .ok (.iaload, 1) := by decide +kernel
theorem d_X_ways_101 : decode b_X_ways 101 = .ok (.imul, 1) := by decide +kernel
theorem d_X_ways_102 : decode b_X_ways 102 = .ok (.isub, 1) := by decide +kernel
theorem d_X_ways_103 : decode b_X_ways 103 = .ok (.istore 8, 2) := by decide +kernel
theorem d_X_ways_105 : decode b_X_ways 105 = .ok (.iload 8, 2) := by decide +kernel
theorem d_X_ways_107 : decode b_X_ways 107 = .ok (.aload_n 0, 1) := by decide +kernel
theorem d_X_ways_108 : decode b_X_ways 108 = .ok (.getfield 9, 3) := by decide +kernel
theorem d_X_ways_111 : decode b_X_ways 111 = .ok (.iconst 0, 1) := by decide +kernel
theorem d_X_ways_112 : decode b_X_ways 112 = .ok (.iaload, 1) := by decide +kernel
theorem d_X_ways_113 : decode b_X_ways 113 = .ok (.irem, 1) := by decide +kernel
theorem d_X_ways_114 : decode b_X_ways 114 = .ok (.ifCond .ne 35, 3) := by decide +kernel
theorem d_X_ways_117 : decode b_X_ways 117 = .ok (.iload 8, 2) := by decide +kernel
theorem d_X_ways_119 : decode b_X_ways 119 = .ok (.aload_n 0, 1) := by decide +kernel
theorem d_X_ways_120 : decode b_X_ways 120 = .ok (.getfield 9, 3) := by decide +kernel
theorem d_X_ways_123 : decode b_X_ways 123 = .ok (.iconst 0, 1) := by decide +kernel
theorem d_X_ways_124 : decode b_X_ways 124 = .ok (.iaload, 1) := by decide +kernel
theorem d_X_ways_125 : decode b_X_ways 125 = .ok (.idiv, 1) := by decide +kernel
theorem d_X_ways_126 : decode b_X_ways 126 = .ok (.aload_n 0, 1) := by decide +kernel
theorem d_X_ways_127 : decode b_X_ways 127 = .ok (.iconst 0, 1) := by decide +kernel
theorem d_X_ways_128 : decode b_X_ways 128 = .ok (.bipush 40, 2) := by decide +kernel
theorem d_X_ways_130 : decode b_X_ways 130 = .ok (.iload_n 3, 1) := by decide +kernel
theorem d_X_ways_131 : decode b_X_ways 131 = .ok (.isub, 1) := by decide +kernel
theorem d_X_ways_132 : decode b_X_ways 132 = .ok (.iload 5, 2) := by decide +kernel
theorem d_X_ways_134 : decode b_X_ways 134 = .ok (.isub, 1) := by decide +kernel
theorem d_X_ways_135 : decode b_X_ways 135 = .ok (.iload 7, 2) := by decide +kernel
theorem d_X_ways_137 : decode b_X_ways 137 = .ok (.isub, 1) := by decide +kernel
theorem d_X_ways_138 : decode b_X_ways 138 = .ok (.iload 8, 2) := by decide +kernel
theorem d_X_ways_140 : decode b_X_ways 140 = .ok (.invokevirtual 55, 3) := by decide +kernel
theorem d_X_ways_143 : decode b_X_ways 143 = .ok (.if_icmp .ne 6, 3) := by decide +kernel
theorem d_X_ways_146 : decode b_X_ways 146 = .ok (.iinc 2 1, 3) := by decide +kernel
theorem d_X_ways_149 : decode b_X_ways 149 = .ok (.iinc 7 (-1), 3) := by decide +kernel
theorem d_X_ways_152 : decode b_X_ways 152 = .ok (.goto (-66), 3) := by decide +kernel
theorem d_X_ways_155 : decode b_X_ways 155 = .ok (.iinc 5 (-1), 3) := by decide +kernel
theorem d_X_ways_158 : decode b_X_ways 158 = .ok (.goto (-107), 3) := by decide +kernel
theorem d_X_ways_161 : decode b_X_ways 161 = .ok (.iinc 3 (-1), 3) := by decide +kernel
theorem d_X_ways_164 : decode b_X_ways 164 = .ok (.goto (-142), 3) := by decide +kernel
theorem d_X_ways_167 : decode b_X_ways 167 = .ok (.iload_n 2, 1) := by decide +kernel
theorem d_X_ways_168 : decode b_X_ways 168 = .ok (.ireturn, 1) := by decide +kernel
theorem d_X_pay_0 : decode b_X_pay 0 = .ok (.iload_n 2, 1) := by decide +kernel
theorem d_X_pay_1 : decode b_X_pay 1 = .ok (.iconst 0, 1) := by decide +kernel
theorem d_X_pay_2 : decode b_X_pay 2 = .ok (.bipush 40, 2) := by decide +kernel
theorem d_X_pay_4 : decode b_X_pay 4 = .ok (.invokestatic 26, 3) := by decide +kernel
theorem d_X_pay_7 : decode b_X_pay 7 = .ok (.invokestatic 30, 3) := by decide +kernel
theorem d_X_pay_10 : decode b_X_pay 10 = .ok (.aload_n 0, 1) := by decide +kernel
theorem d_X_pay_11 : decode b_X_pay 11 = .ok (.iload_n 1, 1) := by decide +kernel
theorem d_X_pay_12 : decode b_X_pay 12 = .ok (.invokevirtual 52, 3) := by decide +kernel
theorem d_X_pay_15 : decode b_X_pay 15 = .ok (.pop, 1) := by decide +kernel
theorem d_X_pay_16 : decode b_X_pay 16 = .ok (.iconst 0, 1) := by decide +kernel
theorem d_X_pay_17 : decode b_X_pay 17 = .ok (.istore_n 3, 1) := by decide +kernel
theorem d_X_pay_18 : decode b_X_pay 18 = .ok (.iload_n 2, 1) := by decide +kernel
theorem d_X_pay_19 : decode b_X_pay 19 = .ok (.istore 4, 2) := by decide +kernel
theorem d_X_pay_21 : decode b_X_pay 21 = .ok (.iconst 3, 1) := by decide +kernel
theorem d_X_pay_22 : decode b_X_pay 22 = .ok (.istore 5, 2) := by decide +kernel
theorem d_X_pay_24 : decode b_X_pay 24 = .ok (.iload 5, 2) := by decide +kernel
theorem d_X_pay_26 : decode b_X_pay 26 = .ok (.ifCond .lt 67, 3) := by decide +kernel
theorem d_X_pay_29 : decode b_X_pay 29 = .ok (.aload_n 0, 1) := by decide +kernel
theorem d_X_pay_30 : decode b_X_pay 30 = .ok (.getfield 20, 3) := by decide +kernel
theorem d_X_pay_33 : decode b_X_pay 33 = .ok (.iload 5, 2) := by decide +kernel
theorem d_X_pay_35 : decode b_X_pay 35 = .ok (.iaload, 1) := by decide +kernel
theorem d_X_pay_36 : decode b_X_pay 36 = .ok (.iload 4, 2) := by decide +kernel
theorem d_X_pay_38 : decode b_X_pay 38 = .ok (.if_icmp .ge 13, 3) := by decide +kernel
theorem d_X_pay_41 : decode b_X_pay 41 = .ok (.aload_n 0, 1) := by decide +kernel
theorem d_X_pay_42 : decode b_X_pay 42 = .ok (.getfield 20, 3) := by decide +kernel
theorem d_X_pay_45 : decode b_X_pay 45 = .ok (.iload 5, 2) := by decide +kernel
theorem d_X_pay_47 : decode b_X_pay 47 = .ok (.iaload, 1) := by decide +kernel
theorem d_X_pay_48 : decode b_X_pay 48 = .ok (.goto 5, 3) := by decide +kernel
theorem d_X_pay_51 : decode b_X_pay 51 = .ok (.iload 4, 2) := by decide +kernel
theorem d_X_pay_53 : decode b_X_pay 53 = .ok (.istore 6, 2) := by decide +kernel
theorem d_X_pay_55 : decode b_X_pay 55 = .ok (.aload_n 0, 1) := by decide +kernel
theorem d_X_pay_56 : decode b_X_pay 56 = .ok (.getfield 13, 3) := by decide +kernel
theorem d_X_pay_59 : decode b_X_pay 59 = .ok (.iload 5, 2) := by decide +kernel
theorem d_X_pay_61 : decode b_X_pay 61 = .ok (.dup2, 1) := by decide +kernel
theorem d_X_pay_62 : decode b_X_pay 62 = .ok (.iaload, 1) := by decide +kernel
theorem d_X_pay_63 : decode b_X_pay 63 = .ok (.iload 6, 2) := by decide +kernel
theorem d_X_pay_65 : decode b_X_pay 65 = .ok (.isub, 1) := by decide +kernel
theorem d_X_pay_66 : decode b_X_pay 66 = .ok (.iastore, 1) := by decide +kernel
theorem d_X_pay_67 : decode b_X_pay 67 = .ok (.iload 4, 2) := by decide +kernel
theorem d_X_pay_69 : decode b_X_pay 69 = .ok (.iload 6, 2) := by decide +kernel
theorem d_X_pay_71 : decode b_X_pay 71 = .ok (.isub, 1) := by decide +kernel
theorem d_X_pay_72 : decode b_X_pay 72 = .ok (.istore 4, 2) := by decide +kernel
theorem d_X_pay_74 : decode b_X_pay 74 = .ok (.iload_n 3, 1) := by decide +kernel
theorem d_X_pay_75 : decode b_X_pay 75 = .ok (.iload 6, 2) := by decide +kernel
theorem d_X_pay_77 : decode b_X_pay 77 = .ok (.aload_n 0, 1) := by decide +kernel
theorem d_X_pay_78 : decode b_X_pay 78 = .ok (.getfield 9, 3) := by decide +kernel
theorem d_X_pay_81 : decode b_X_pay 81 = .ok (.iload 5, 2) := by decide +kernel
theorem d_X_pay_83 : decode b_X_pay 83 = .ok (.iaload, 1) := by decide +kernel
theorem d_X_pay_84 : decode b_X_pay 84 = .ok (.imul, 1) := by decide +kernel
theorem d_X_pay_85 : decode b_X_pay 85 = .ok (.iadd, 1) := by decide +kernel
theorem d_X_pay_86 : decode b_X_pay 86 = .ok (.istore_n 3, 1) := by decide +kernel
theorem d_X_pay_87 : decode b_X_pay 87 = .ok (.iinc 5 (-1), 3) := by decide +kernel
theorem d_X_pay_90 : decode b_X_pay 90 = .ok (.goto (-66), 3) := by decide +kernel
theorem d_X_pay_93 : decode b_X_pay 93 = .ok (.aload_n 0, 1) := by decide +kernel
theorem d_X_pay_94 : decode b_X_pay 94 = .ok (.iconst 0, 1) := by decide +kernel
theorem d_X_pay_95 : decode b_X_pay 95 = .ok (.putfield 34, 3) := by decide +kernel
theorem d_X_pay_98 : decode b_X_pay 98 = .ok (.iload_n 3, 1) := by decide +kernel
theorem d_X_pay_99 : decode b_X_pay 99 = .ok (.ireturn, 1) := by decide +kernel
theorem d_X_next_0 : decode b_X_next 0 = .ok (.iload_n 1, 1) := by decide +kernel
theorem d_X_next_1 : decode b_X_next 1 = .ok (.iconst 0, 1) := by decide +kernel
theorem d_X_next_2 : decode b_X_next 2 = .ok (.sipush 2000, 3) := by decide +kernel
theorem d_X_next_5 : decode b_X_next 5 = .ok (.invokestatic 26, 3) := by decide +kernel
theorem d_X_next_8 : decode b_X_next 8 = .ok (.invokestatic 30, 3) := by decide +kernel
theorem d_X_next_11 : decode b_X_next 11 = .ok (.aload_n 0, 1) := by decide +kernel
theorem d_X_next_12 : decode b_X_next 12 = .ok (.invokevirtual 42, 3) := by decide +kernel
theorem d_X_next_15 : decode b_X_next 15 = .ok (.iload_n 1, 1) := by decide +kernel
theorem d_X_next_16 : decode b_X_next 16 = .ok (.istore_n 2, 1) := by decide +kernel
theorem d_X_next_17 : decode b_X_next 17 = .ok (.iload_n 2, 1) := by decide +kernel
theorem d_X_next_18 : decode b_X_next 18 = .ok (.sipush 2000, 3) := by decide +kernel
theorem d_X_next_21 : decode b_X_next 21 = .ok (.if_icmp .gt 24, 3) := by decide +kernel
theorem d_X_next_24 : decode b_X_next 24 = .ok (.aload_n 0, 1) := by decide +kernel
theorem d_X_next_25 : decode b_X_next 25 = .ok (.getfield 16, 3) := by decide +kernel
theorem d_X_next_28 : decode b_X_next 28 = .ok (.sipush 6003, 3) := by decide +kernel
theorem d_X_next_31 : decode b_X_next 31 = .ok (.iload_n 2, 1) := by decide +kernel
theorem d_X_next_32 : decode b_X_next 32 = .ok (.iadd, 1) := by decide +kernel
theorem d_X_next_33 : decode b_X_next 33 = .ok (.baload, 1) := by decide +kernel
theorem d_X_next_34 : decode b_X_next 34 = .ok (.bipush 41, 2) := by decide +kernel
theorem d_X_next_36 : decode b_X_next 36 = .ok (.if_icmp .ne 9, 3) := by decide +kernel
theorem d_X_next_39 : decode b_X_next 39 = .ok (.iinc 2 1, 3) := by decide +kernel
theorem d_X_next_42 : decode b_X_next 42 = .ok (.goto (-25), 3) := by decide +kernel
theorem d_X_next_45 : decode b_X_next 45 = .ok (.iload_n 2, 1) := by decide +kernel
theorem d_X_next_46 : decode b_X_next 46 = .ok (.sipush 2000, 3) := by decide +kernel
theorem d_X_next_49 : decode b_X_next 49 = .ok (.if_icmp .gt 7, 3) := by decide +kernel
theorem d_X_next_52 : decode b_X_next 52 = .ok (.iload_n 2, 1) := by decide +kernel
theorem d_X_next_53 : decode b_X_next 53 = .ok (.goto 4, 3) := by decide +kernel
theorem d_X_next_56 : decode b_X_next 56 = .ok (.iconst (-1), 1) := by decide +kernel
theorem d_X_next_57 : decode b_X_next 57 = .ok (.ireturn, 1) := by decide +kernel
theorem d_X_reach_0 : decode b_X_reach 0 = .ok (.aload_n 0, 1) := by decide +kernel
theorem d_X_reach_1 : decode b_X_reach 1 = .ok (.invokevirtual 42, 3) := by decide +kernel
theorem d_X_reach_4 : decode b_X_reach 4 = .ok (.iconst 0, 1) := by decide +kernel
theorem d_X_reach_5 : decode b_X_reach 5 = .ok (.istore_n 1, 1) := by decide +kernel
theorem d_X_reach_6 : decode b_X_reach 6 = .ok (.iconst 0, 1) := by decide +kernel
theorem d_X_reach_7 : decode b_X_reach 7 = .ok (.istore_n 2, 1) := by decide +kernel
theorem d_X_reach_8 : decode b_X_reach 8 = .ok (.iload_n 2, 1) := by decide +kernel
theorem d_X_reach_9 : decode b_X_reach 9 = .ok (.sipush 2000, 3) := by decide +kernel
theorem d_X_reach_12 : decode b_X_reach 12 = .ok (.if_icmp .gt 27, 3) := by decide +kernel
theorem d_X_reach_15 : decode b_X_reach 15 = .ok (.aload_n 0, 1) := by decide +kernel
theorem d_X_reach_16 : decode b_X_reach 16 = .ok (.getfield 16, 3) := by decide +kernel
theorem d_X_reach_19 : decode b_X_reach 19 = .ok (.sipush 6003, 3) := by decide +kernel
theorem d_X_reach_22 : decode b_X_reach 22 = .ok (.iload_n 2, 1) := by decide +kernel
theorem d_X_reach_23 : decode b_X_reach 23 = .ok (.iadd, 1) := by decide +kernel
theorem d_X_reach_24 : decode b_X_reach 24 = .ok (.baload, 1) := by decide +kernel
theorem d_X_reach_25 : decode b_X_reach 25 = .ok (.bipush 41, 2) := by decide +kernel
theorem d_X_reach_27 : decode b_X_reach 27 = .ok (.if_icmp .eq 6, 3) := by decide +kernel
theorem d_X_reach_30 : decode b_X_reach 30 = .ok (.iinc 1 1, 3) := by decide +kernel
theorem d_X_reach_33 : decode b_X_reach 33 = .ok (.iinc 2 1, 3) := by decide +kernel
theorem d_X_reach_36 : decode b_X_reach 36 = .ok (.goto (-28), 3) := by decide +kernel
theorem d_X_reach_39 : decode b_X_reach 39 = .ok (.iload_n 1, 1) := by decide +kernel
theorem d_X_reach_40 : decode b_X_reach 40 = .ok (.ireturn, 1) := by decide +kernel
theorem d_X_cassette_0 : decode b_X_cassette 0 = .ok (.iload_n 1, 1) := by decide +kernel
theorem d_X_cassette_1 : decode b_X_cassette 1 = .ok (.iconst 0, 1) := by decide +kernel
theorem d_X_cassette_2 : decode b_X_cassette 2 = .ok (.iconst 3, 1) := by decide +kernel
theorem d_X_cassette_3 : decode b_X_cassette 3 = .ok (.invokestatic 26, 3) := by decide +kernel
theorem d_X_cassette_6 : decode b_X_cassette 6 = .ok (.invokestatic 30, 3) := by decide +kernel
theorem d_X_cassette_9 : decode b_X_cassette 9 = .ok (.iload_n 2, 1) := by decide +kernel
theorem d_X_cassette_10 : decode b_X_cassette 10 = .ok (.ifCond .eq 12, 3) := by decide +kernel
theorem d_X_cassette_13 : decode b_X_cassette 13 = .ok (.aload_n 0, 1) := by decide +kernel
theorem d_X_cassette_14 : decode b_X_cassette 14 = .ok (.getfield 9, 3) := by decide +kernel
theorem d_X_cassette_17 : decode b_X_cassette 17 = .ok (.iload_n 1, 1) := by decide +kernel
theorem d_X_cassette_18 : decode b_X_cassette 18 = .ok (.iaload, 1) := by decide +kernel
theorem d_X_cassette_19 : decode b_X_cassette 19 = .ok (.goto 9, 3) := by decide +kernel
theorem d_X_cassette_22 : decode b_X_cassette 22 = .ok (.aload_n 0, 1) := by decide +kernel
theorem d_X_cassette_23 : decode b_X_cassette 23 = .ok (.getfield 13, 3) := by decide +kernel
theorem d_X_cassette_26 : decode b_X_cassette 26 = .ok (.iload_n 1, 1) := by decide +kernel
theorem d_X_cassette_27 : decode b_X_cassette 27 = .ok (.iaload, 1) := by decide +kernel
theorem d_X_cassette_28 : decode b_X_cassette 28 = .ok (.ireturn, 1) := by decide +kernel
theorem d_X_value_0 : decode b_X_value 0 = .ok (.iconst 0, 1) := by decide +kernel
theorem d_X_value_1 : decode b_X_value 1 = .ok (.istore_n 1, 1) := by decide +kernel
theorem d_X_value_2 : decode b_X_value 2 = .ok (.iconst 0, 1) := by decide +kernel
theorem d_X_value_3 : decode b_X_value 3 = .ok (.istore_n 2, 1) := by decide +kernel
theorem d_X_value_4 : decode b_X_value 4 = .ok (.iload_n 2, 1) := by decide +kernel
theorem d_X_value_5 : decode b_X_value 5 = .ok (.iconst 4, 1) := by decide +kernel
theorem d_X_value_6 : decode b_X_value 6 = .ok (.if_icmp .ge 25, 3) := by decide +kernel
theorem d_X_value_9 : decode b_X_value 9 = .ok (.iload_n 1, 1) := by decide +kernel
theorem d_X_value_10 : decode b_X_value 10 = .ok (.aload_n 0, 1) := by decide +kernel
theorem d_X_value_11 : decode b_X_value 11 = .ok (.getfield 13, 3) := by decide +kernel
theorem d_X_value_14 : decode b_X_value 14 = .ok (.iload_n 2, 1) := by decide +kernel
theorem d_X_value_15 : decode b_X_value 15 = .ok (.iaload, 1) := by decide +kernel
theorem d_X_value_16 : decode b_X_value 16 = .ok (.aload_n 0, 1) := by decide +kernel
theorem d_X_value_17 : decode b_X_value 17 = .ok (.getfield 9, 3) := by decide +kernel
theorem d_X_value_20 : decode b_X_value 20 = .ok (.iload_n 2, 1) := by decide +kernel
theorem d_X_value_21 : decode b_X_value 21 = .ok (.iaload, 1) := by decide +kernel
theorem d_X_value_22 : decode b_X_value 22 = .ok (.imul, 1) := by decide +kernel
theorem d_X_value_23 : decode b_X_value 23 = .ok (.iadd, 1) := by decide +kernel
theorem d_X_value_24 : decode b_X_value 24 = .ok (.istore_n 1, 1) := by decide +kernel
theorem d_X_value_25 : decode b_X_value 25 = .ok (.iinc 2 1, 3) := by decide +kernel
theorem d_X_value_28 : decode b_X_value 28 = .ok (.goto (-24), 3) := by decide +kernel
theorem d_X_value_31 : decode b_X_value 31 = .ok (.iload_n 1, 1) := by decide +kernel
theorem d_X_value_32 : decode b_X_value 32 = .ok (.ireturn, 1) := by decide +kernel
end
section
/-! decode rows -/
theorem d_M_init_0 : decode b_M_init 0 = .ok (.aload_n 0, 1) := by decide +kernel
theorem d_M_init_1 : decode b_M_init 1 = .ok (.invokespecial 1, 3) := by decide +kernel
theorem d_M_init_4 : decode b_M_init 4 = .ok (.aload_n 0, 1) := by decide +kernel
theorem d_M_init_5 : decode b_M_init 5 = .ok (.iconst 4, 1) := by decide +kernel
theorem d_M_init_6 : decode b_M_init 6 = .ok (.newarray .int, 2) := by decide +kernel
theorem d_M_init_8 : decode b_M_init 8 = .ok (.dup, 1) := by decide +kernel
theorem d_M_init_9 : decode b_M_init 9 = .ok (.iconst 0, 1) := by decide +kernel
theorem d_M_init_10 : decode b_M_init 10 = .ok (.iconst 5, 1) := by decide +kernel
theorem d_M_init_11 : decode b_M_init 11 = .ok (.iastore, 1) := by decide +kernel
theorem d_M_init_12 : decode b_M_init 12 = .ok (.dup, 1) := by decide +kernel
theorem d_M_init_13 : decode b_M_init 13 = .ok (.iconst 1, 1) := by decide +kernel
theorem d_M_init_14 : decode b_M_init 14 = .ok (.bipush 10, 2) := by decide +kernel
theorem d_M_init_16 : decode b_M_init 16 = .ok (.iastore, 1) := by decide +kernel
theorem d_M_init_17 : decode b_M_init 17 = .ok (.dup, 1) := by decide +kernel
theorem d_M_init_18 : decode b_M_init 18 = .ok (.iconst 2, 1) := by decide +kernel
theorem d_M_init_19 : decode b_M_init 19 = .ok (.bipush 20, 2) := by decide +kernel
theorem d_M_init_21 : decode b_M_init 21 = .ok (.iastore, 1) := by decide +kernel
theorem d_M_init_22 : decode b_M_init 22 = .ok (.dup, 1) := by decide +kernel
theorem d_M_init_23 : decode b_M_init 23 = .ok (.iconst 3, 1) := by decide +kernel
theorem d_M_init_24 : decode b_M_init 24 = .ok (.bipush 50, 2) := by decide +kernel
theorem d_M_init_26 : decode b_M_init 26 = .ok (.iastore, 1) := by decide +kernel
theorem d_M_init_27 : decode b_M_init 27 = .ok (.putfield 7, 3) := by decide +kernel
theorem d_M_init_30 : decode b_M_init 30 = .ok (.aload_n 0, 1) := by decide +kernel
theorem d_M_init_31 : decode b_M_init 31 = .ok (.iconst 4, 1) := by decide +kernel
theorem d_M_init_32 : decode b_M_init 32 = .ok (.newarray .int, 2) := by decide +kernel
theorem d_M_init_34 : decode b_M_init 34 = .ok (.dup, 1) := by decide +kernel
theorem d_M_init_35 : decode b_M_init 35 = .ok (.iconst 0, 1) := by decide +kernel
theorem d_M_init_36 : decode b_M_init 36 = .ok (.bipush 30, 2) := by decide +kernel
theorem d_M_init_38 : decode b_M_init 38 = .ok (.iastore, 1) := by decide +kernel
theorem d_M_init_39 : decode b_M_init 39 = .ok (.dup, 1) := by decide +kernel
theorem d_M_init_40 : decode b_M_init 40 = .ok (.iconst 1, 1) := by decide +kernel
theorem d_M_init_41 : decode b_M_init 41 = .ok (.bipush 30, 2) := by decide +kernel
theorem d_M_init_43 : decode b_M_init 43 = .ok (.iastore, 1) := by decide +kernel
theorem d_M_init_44 : decode b_M_init 44 = .ok (.dup, 1) := by decide +kernel
theorem d_M_init_45 : decode b_M_init 45 = .ok (.iconst 2, 1) := by decide +kernel
theorem d_M_init_46 : decode b_M_init 46 = .ok (.bipush 30, 2) := by decide +kernel
theorem d_M_init_48 : decode b_M_init 48 = .ok (.iastore, 1) := by decide +kernel
theorem d_M_init_49 : decode b_M_init 49 = .ok (.dup, 1) := by decide +kernel
theorem d_M_init_50 : decode b_M_init 50 = .ok (.iconst 3, 1) := by decide +kernel
theorem d_M_init_51 : decode b_M_init 51 = .ok (.bipush 30, 2) := by decide +kernel
theorem d_M_init_53 : decode b_M_init 53 = .ok (.iastore, 1) := by decide +kernel
theorem d_M_init_54 : decode b_M_init 54 = .ok (.putfield 13, 3) := by decide +kernel
theorem d_M_init_57 : decode b_M_init 57 = .ok (.aload_n 0, 1) := by decide +kernel
theorem d_M_init_58 : decode b_M_init 58 = .ok (.iconst 4, 1) := by decide +kernel
theorem d_M_init_59 : decode b_M_init 59 = .ok (.newarray .int, 2) := by decide +kernel
theorem d_M_init_61 : decode b_M_init 61 = .ok (.putfield 16, 3) := by decide +kernel
theorem d_M_init_64 : decode b_M_init 64 = .ok (.aload_n 0, 1) := by decide +kernel
theorem d_M_init_65 : decode b_M_init 65 = .ok (.sipush 2001, 3) := by decide +kernel
theorem d_M_init_68 : decode b_M_init 68 = .ok (.newarray .boolean, 2) := by decide +kernel
theorem d_M_init_70 : decode b_M_init 70 = .ok (.putfield 19, 3) := by decide +kernel
theorem d_M_init_73 : decode b_M_init 73 = .ok (.return_, 1) := by decide +kernel
theorem d_M_thrown_0 : decode b_M_thrown 0 = .ok (.aload_n 0, 1) := by decide +kernel
theorem d_M_thrown_1 : decode b_M_thrown 1 = .ok (.getfield 23, 3) := by decide +kernel
theorem d_M_thrown_4 : decode b_M_thrown 4 = .ok (.ireturn, 1) := by decide +kernel
theorem d_M_in_0 : decode b_M_in 0 = .ok (.iload_n 0, 1) := by decide +kernel
theorem d_M_in_1 : decode b_M_in 1 = .ok (.iload_n 1, 1) := by decide +kernel
theorem d_M_in_2 : decode b_M_in 2 = .ok (.if_icmp .lt 12, 3) := by decide +kernel
theorem d_M_in_5 : decode b_M_in 5 = .ok (.iload_n 0, 1) := by decide +kernel
theorem d_M_in_6 : decode b_M_in 6 = .ok (.iload_n 2, 1) := by decide +kernel
theorem d_M_in_7 : decode b_M_in 7 = .ok (.if_icmp .gt 7, 3) := by decide +kernel
theorem d_M_in_10 : decode b_M_in 10 = .ok (.iconst 1, 1) := by decide +kernel
theorem d_M_in_11 : decode b_M_in 11 = .ok (.goto 4, 3) := by decide +kernel
theorem d_M_in_14 : decode b_M_in 14 = .ok (.iconst 0, 1) := by decide +kernel
theorem d_M_in_15 : decode b_M_in 15 = .ok (.ireturn, 1) := by decide +kernel
theorem d_M_load_0 : decode b_M_load 0 = .ok (.aload_n 0, 1) := by decide +kernel
theorem d_M_load_1 : decode b_M_load 1 = .ok (.iload_n 1, 1) := by decide +kernel
theorem d_M_load_2 : decode b_M_load 2 = .ok (.iconst 0, 1) := by decide +kernel
theorem d_M_load_3 : decode b_M_load 3 = .ok (.iconst 3, 1) := by decide +kernel
theorem d_M_load_4 : decode b_M_load 4 = .ok (.invokestatic 27, 3) := by decide +kernel
theorem d_M_load_7 : decode b_M_load 7 = .ok (.ifCond .eq 29, 3) := by decide +kernel
theorem d_M_load_10 : decode b_M_load 10 = .ok (.iload_n 2, 1) := by decide +kernel
theorem d_M_load_11 : decode b_M_load 11 = .ok (.iconst 1, 1) := by decide +kernel
theorem d_M_load_12 : decode b_M_load 12 = .ok (.sipush 500, 3) := by decide +kernel
theorem d_M_load_15 : decode b_M_load 15 = .ok (.invokestatic 27, 3) := by decide +kernel
theorem d_M_load_18 : decode b_M_load 18 = .ok (.ifCond .eq 18, 3) := by decide +kernel
theorem d_M_load_21 : decode b_M_load 21 = .ok (.iload_n 3, 1) := by decide +kernel
theorem d_M_load_22 : decode b_M_load 22 = .ok (.iconst 0, 1) := by decide +kernel
theorem d_M_load_23 : decode b_M_load 23 = .ok (.sipush 500, 3) := by decide +kernel
theorem d_M_load_26 : decode b_M_load 26 = .ok (.invokestatic 27, 3) := by decide +kernel
theorem d_M_load_29 : decode b_M_load 29 = .ok (.ifCond .eq 7, 3) := by decide +kernel
theorem d_M_load_32 : decode b_M_load 32 = .ok (.iconst 0, 1) := by decide +kernel
theorem d_M_load_33 : decode b_M_load 33 = .ok (.goto 4, 3) := by decide +kernel
theorem d_M_load_36 : decode b_M_load 36 = .ok (.iconst 1, 1) := by decide +kernel
theorem d_M_load_37 : decode b_M_load 37 = .ok (.putfield 23, 3) := by decide +kernel
theorem d_M_load_40 : decode b_M_load 40 = .ok (.aload_n 0, 1) := by decide +kernel
theorem d_M_load_41 : decode b_M_load 41 = .ok (.getfield 23, 3) := by decide +kernel
theorem d_M_load_44 : decode b_M_load 44 = .ok (.ifCond .le 4, 3) := by decide +kernel
theorem d_M_load_47 : decode b_M_load 47 = .ok (.return_, 1) := by decide +kernel
theorem d_M_load_48 : decode b_M_load 48 = .ok (.aload_n 0, 1) := by decide +kernel
theorem d_M_load_49 : decode b_M_load 49 = .ok (.getfield 7, 3) := by decide +kernel
theorem d_M_load_52 : decode b_M_load 52 = .ok (.iload_n 1, 1) := by decide +kernel
theorem d_M_load_53 : decode b_M_load 53 = .ok (.iload_n 2, 1) := by decide +kernel
theorem d_M_load_54 : decode b_M_load 54 = .ok (.iastore, 1) := by decide +kernel
theorem d_M_load_55 : decode b_M_load 55 = .ok (.aload_n 0, 1) := by decide +kernel
theorem d_M_load_56 : decode b_M_load 56 = .ok (.getfield 13, 3) := by decide +kernel
theorem d_M_load_59 : decode b_M_load 59 = .ok (.iload_n 1, 1) := by decide +kernel
theorem d_M_load_60 : decode b_M_load 60 = .ok (.iload_n 3, 1) := by decide +kernel
theorem d_M_load_61 : decode b_M_load 61 = .ok (.iastore, 1) := by decide +kernel
theorem d_M_load_62 : decode b_M_load 62 = .ok (.return_, 1) := by decide +kernel
theorem d_M_look_0 : decode b_M_look 0 = .ok (.aload_n 0, 1) := by decide +kernel
theorem d_M_look_1 : decode b_M_look 1 = .ok (.iconst 0, 1) := by decide +kernel
theorem d_M_look_2 : decode b_M_look 2 = .ok (.putfield 31, 3) := by decide +kernel
theorem d_M_look_5 : decode b_M_look 5 = .ok (.aload_n 0, 1) := by decide +kernel
theorem d_M_look_6 : decode b_M_look 6 = .ok (.bipush 41, 2) := by decide +kernel
theorem d_M_look_8 : decode b_M_look 8 = .ok (.putfield 34, 3) := by decide +kernel
theorem d_M_look_11 : decode b_M_look 11 = .ok (.aload_n 0, 1) := by decide +kernel
theorem d_M_look_12 : decode b_M_look 12 = .ok (.getfield 13, 3) := by decide +kernel
theorem d_M_look_15 : decode b_M_look 15 = .ok (.iconst 3, 1) := by decide +kernel
theorem d_M_look_16 : decode b_M_look 16 = .ok (.iaload, 1) := by decide +kernel
theorem d_M_look_17 : decode b_M_look 17 = .ok (.bipush 40, 2) := by decide +kernel
theorem d_M_look_19 : decode b_M_look 19 = .ok (.invokestatic 37, 3) := by decide +kernel
theorem d_M_look_22 : decode b_M_look 22 = .ok (.istore_n 2, 1) := by decide +kernel
theorem d_M_look_23 : decode b_M_look 23 = .ok (.iload_n 2, 1) := by decide +kernel
theorem d_M_look_24 : decode b_M_look 24 = .ok (.ifCond .lt 223, 3) := by decide +kernel
theorem d_M_look_27 : decode b_M_look 27 = .ok (.aload_n 0, 1) := by decide +kernel
theorem d_M_look_28 : decode b_M_look 28 = .ok (.getfield 13, 3) := by decide +kernel
theorem d_M_look_31 : decode b_M_look 31 = .ok (.iconst 2, 1) := by decide +kernel
theorem d_M_look_32 : decode b_M_look 32 = .ok (.iaload, 1) := by decide +kernel
theorem d_M_look_33 : decode b_M_look 33 = .ok (.bipush 40, 2) := by decide +kernel
theorem d_M_look_35 : decode b_M_look 35 = .ok (.iload_n 2, 1) := by decide +kernel
theorem d_M_look_36 : decode b_M_look 36 = .ok (.isub, 1) := by decide +kernel
theorem d_M_look_37 : decode b_M_look 37 = .ok (.invokestatic 37, 3) := by decide +kernel
theorem d_M_look_40 : decode b_M_look 40 = .ok (.istore_n 3, 1) := by decide +kernel
theorem d_M_look_41 : decode b_M_look 41 = .ok (.iload_n 3, 1) := by decide +kernel
theorem d_M_look_42 : decode b_M_look 42 = .ok (.ifCond .lt 199, 3) := by decide +kernel
theorem d_M_look_45 : decode b_M_look 45 = .ok (.aload_n 0, 1) := by decide +kernel
theorem d_M_look_46 : decode b_M_look 46 = .ok (.getfield 13, 3) := by decide +kernel
theorem d_M_look_49 : decode b_M_look 49 = .ok (.iconst 1, 1) := by decide +kernel
theorem d_M_look_50 : decode b_M_look 50 = .ok (.iaload, 1) := by decide +kernel
theorem d_M_look_51 : decode b_M_look 51 = .ok (.bipush 40, 2) := by decide +kernel
theorem d_M_look_53 : decode b_M_look 53 = .ok (.iload_n 2, 1) := by decide +kernel
theorem d_M_look_54 : decode b_M_look 54 = .ok (.isub, 1) := by decide +kernel
theorem d_M_look_55 : decode b_M_look 55 = .ok (.iload_n 3, 1) := by decide +kernel
theorem d_M_look_56 : decode b_M_look 56 = .ok (.isub, 1) := by decide +kernel
theorem d_M_look_57 : decode b_M_look 57 = .ok (.invokestatic 37, 3) := by decide +kernel
theorem d_M_look_60 : decode b_M_look 60 = .ok (.istore 4, 2) := by decide +kernel
theorem d_M_look_62 : decode b_M_look 62 = .ok (.iload 4, 2) := by decide +kernel
theorem d_M_look_64 : decode b_M_look 64 = .ok (.ifCond .lt 171, 3) := by decide +kernel
theorem d_M_look_67 : decode b_M_look 67 = .ok (.iload_n 1, 1) := by decide +kernel
theorem d_M_look_68 : decode b_M_look 68 = .ok (.iload_n 2, 1) := by decide +kernel
theorem d_M_look_69 : decode b_M_look 69 = .ok (.aload_n 0, 1) := by decide +kernel
theorem d_M_look_70 : decode b_M_look 70 = .ok (.getfield 7, 3) := by decide +kernel
theorem d_M_look_73 : decode b_M_look 73 = .ok (.iconst 3, 1) := by decide +kernel
theorem d_M_look_74 : decode b_M_look 74 = .ok (.iaload, 1) := by decide +kernel
theorem d_M_look_75 : decode b_M_look 75 = .ok (.imul, 1) := by decide +kernel
theorem d_M_look_76 : decode b_M_look 76 = .ok (.isub, 1) := by decide +kernel
theorem d_M_look_77 : decode b_M_look 77 = .ok (.iload_n 3, 1) := by decide +kernel
theorem d_M_look_78 : decode b_M_look 78 = .ok (.aload_n 0, 1) := by decide +kernel
theorem d_M_look_79 : decode b_M_look 79 = .ok (.getfield 7, 3) := by decide +kernel
theorem d_M_look_82 : decode b_M_look 82 = .ok (.iconst 2, 1) := by decide +kernel
theorem d_M_look_83 : decode b_M_look 83 = .ok (.iaload, 1) := by decide +kernel
theorem d_M_look_84 : decode b_M_look 84 = .ok (.imul, 1) := by decide +kernel
theorem d_M_look_85 : decode b_M_look 85 = .ok (.isub, 1) := by decide +kernel
theorem d_M_look_86 : decode b_M_look 86 = .ok (.iload 4, 2) := by decide +kernel
theorem d_M_look_88 : decode b_M_look 88 = .ok (.aload_n 0, 1) := by decide +kernel
theorem d_M_look_89 : decode b_M_look 89 = .ok (.getfield 7, 3) := by decide +kernel
theorem d_M_look_92 : decode b_M_look 92 = .ok (.iconst 1, 1) := by decide +kernel
theorem d_M_look_93 : decode b_M_look 93 = .ok (.iaload, 1) := by decide +kernel
theorem d_M_look_94 : decode b_M_look 94 = .ok (.imul, 1) := by decide +kernel
theorem d_M_look_95 : decode b_M_look 95 = .ok (.isub, 1) := by decide +kernel
theorem d_M_look_96 : decode b_M_look 96 = .ok (.istore 5, 2) := by decide +kernel
theorem d_M_look_98 : decode b_M_look 98 = .ok (.iload 5, 2) := by decide +kernel
theorem d_M_look_100 : decode b_M_look 100 = .ok (.ifCond .lt 129, 3) := by decide +kernel
theorem d_M_look_103 : decode b_M_look 103 = .ok (.iload 5, 2) := by decide +kernel
theorem d_M_look_105 : decode b_M_look 105 = .ok (.aload_n 0, 1) := by decide +kernel
theorem d_M_look_106 : decode b_M_look 106 = .ok (.getfield 7, 3) := by decide +kernel
theorem d_M_look_109 : decode b_M_look 109 = .ok (.iconst 0, 1) := by decide +kernel
theorem d_M_look_110 : decode b_M_look 110 = .ok (.iaload, 1) := by decide +kernel
theorem d_M_look_111 : decode b_M_look 111 = .ok (.irem, 1) := by decide +kernel
theorem d_M_look_112 : decode b_M_look 112 = .ok (.ifCond .eq 6, 3) := by decide +kernel
theorem d_M_look_115 : decode b_M_look 115 = .ok (.goto 114, 3) := by decide +kernel
theorem d_M_look_118 : decode b_M_look 118 = .ok (.iload 5, 2) := by decide +kernel
theorem d_M_look_120 : decode b_M_look 120 = .ok (.aload_n 0, 1) := by decide +kernel
theorem d_M_look_121 : decode b_M_look 121 = .ok (.getfield 7, 3) := by decide +kernel
theorem d_M_look_124 : decode b_M_look 124 = .ok (.iconst 0, 1) := by decide +kernel
theorem d_M_look_125 : decode b_M_look 125 = .ok (.iaload, 1) := by decide +kernel
theorem d_M_look_126 : decode b_M_look 126 = .ok (.idiv, 1) := by decide +kernel
theorem d_M_look_127 : decode b_M_look 127 = .ok (.istore 6, 2) := by decide +kernel
theorem d_M_look_129 : decode b_M_look 129 = .ok (.iload 6, 2) := by decide +kernel
theorem d_M_look_131 : decode b_M_look 131 = .ok (.aload_n 0, 1) := by decide +kernel
theorem d_M_look_132 : decode b_M_look 132 = .ok (.getfield 13, 3) := by decide +kernel
theorem d_M_look_135 : decode b_M_look 135 = .ok (.iconst 0, 1) := by decide +kernel
theorem d_M_look_136 : decode b_M_look 136 = .ok (.iaload, 1) := by decide +kernel
theorem d_M_look_137 : decode b_M_look 137 = .ok (.if_icmp .gt 92, 3) := by decide +kernel
theorem d_M_look_140 : decode b_M_look 140 = .ok (.iload_n 2, 1) := by decide +kernel
theorem d_M_look_141 : decode b_M_look 141 = .ok (.iload_n 3, 1) := by decide +kernel
theorem d_M_look_142 : decode b_M_look 142 = .ok (.iadd, 1) := by decide +kernel
theorem d_M_look_143 : decode b_M_look 143 = .ok (.iload 4, 2) := by decide +kernel
theorem d_M_look_145 : decode b_M_look 145 = .ok (.iadd, 1) := by decide +kernel
theorem d_M_look_146 : decode b_M_look 146 = .ok (.iload 6, 2) := by decide +kernel
theorem d_M_look_148 : decode b_M_look 148 = .ok (.iadd, 1) := by decide +kernel
theorem d_M_look_149 : decode b_M_look 149 = .ok (.bipush 40, 2) := by decide +kernel
theorem d_M_look_151 : decode b_M_look 151 = .ok (.if_icmp .le 6, 3) := by decide +kernel
theorem d_M_look_154 : decode b_M_look 154 = .ok (.goto 75, 3) := by decide +kernel
theorem d_M_look_157 : decode b_M_look 157 = .ok (.aload_n 0, 1) := by decide +kernel
theorem d_M_look_158 : decode b_M_look 158 = .ok (.dup, 1) := by decide +kernel
theorem d_M_look_159 : decode b_M_look 159 = .ok (.getfield 31, 3) := by decide +kernel
theorem d_M_look_162 : decode b_M_look 162 = .ok (.iconst 1, 1) := by decide +kernel
theorem d_M_look_163 : decode b_M_look 163 = .ok (.iadd, 1) := by decide +kernel
theorem d_M_look_164 : decode b_M_look 164 = .ok (.putfield 31, 3) := by decide +kernel
theorem d_M_look_167 : decode b_M_look 167 = .ok (.iload_n 2, 1) := by decide +kernel
theorem d_M_look_168 : decode b_M_look 168 = .ok (.iload_n 3, 1) := by decide +kernel
theorem d_M_look_169 : decode b_M_look 169 = .ok (.iadd, 1) := by decide +kernel
theorem d_M_look_170 : decode b_M_look 170 = .ok (.iload 4, 2) := by decide +kernel
theorem d_M_look_172 : decode b_M_look 172 = .ok (.iadd, 1) := by decide +kernel
theorem d_M_look_173 : decode b_M_look 173 = .ok (.iload 6, 2) := by decide +kernel
theorem d_M_look_175 : decode b_M_look 175 = .ok (.iadd, 1) := by decide +kernel
theorem d_M_look_176 : decode b_M_look 176 = .ok (.aload_n 0, 1) := by decide +kernel
theorem d_M_look_177 : decode b_M_look 177 = .ok (.getfield 34, 3) := by decide +kernel
theorem d_M_look_180 : decode b_M_look 180 = .ok (.if_icmp .lt 6, 3) := by decide +kernel
theorem d_M_look_183 : decode b_M_look 183 = .ok (.goto 46, 3) := by decide +kernel
theorem d_M_look_186 : decode b_M_look 186 = .ok (.aload_n 0, 1) := by decide +kernel
theorem d_M_look_187 : decode b_M_look 187 = .ok (.iload_n 2, 1) := by decide +kernel
theorem d_M_look_188 : decode b_M_look 188 = .ok (.iload_n 3, 1) := by decide +kernel
theorem d_M_look_189 : decode b_M_look 189 = .ok (.iadd, 1) := by decide +kernel
theorem d_M_look_190 : decode b_M_look 190 = .ok (.iload 4, 2) := by decide +kernel
theorem d_M_look_192 : decode b_M_look 192 = .ok (.iadd, 1) := by decide +kernel
theorem d_M_look_193 : decode b_M_look 193 = .ok (.iload 6, 2) := by decide +kernel
theorem d_M_look_195 : decode b_M_look 195 = .ok (.iadd, 1) := by decide +kernel
theorem d_M_look_196 : decode b_M_look 196 = .ok (.putfield 34, 3) := by decide +kernel
theorem d_M_look_199 : decode b_M_look 199 = .ok (.aload_n 0, 1) := by decide +kernel
theorem d_M_look_200 : decode b_M_look 200 = .ok (.getfield 16, 3) := by decide +kernel
theorem d_M_look_203 : decode b_M_look 203 = .ok (.iconst 0, 1) := by decide +kernel
theorem d_M_look_204 : decode b_M_look 204 = .ok (.iload 6, 2) := by decide +kernel
theorem d_M_look_206 : decode b_M_look 206 = .ok (.iastore, 1) := by decide +kernel
theorem d_M_look_207 : decode b_M_look 207 = .ok (.aload_n 0, 1) := by decide +kernel
theorem d_M_look_208 : decode b_M_look 208 = .ok (.getfield 16, 3) := by decide +kernel
theorem d_M_look_211 : decode b_M_look 211 = .ok (.iconst 1, 1) := by decide +kernel
theorem d_M_look_212 : decode b_M_look 212 = .ok (.iload 4, 2) := by decide +kernel
theorem d_M_look_214 : decode b_M_look 214 = .ok (.iastore, 1) := by decide +kernel
theorem d_M_look_215 : decode b_M_look 215 = .ok (.aload_n 0, 1) := by decide +kernel
theorem d_M_look_216 : decode b_M_look 216 = .ok (.getfield 16, 3) := by decide +kernel
theorem d_M_look_219 : decode b_M_look 219 = .ok (.iconst 2, 1) := by decide +kernel
theorem d_M_look_220 : decode b_M_look 220 = .ok (.iload_n 3, 1) := by decide +kernel
theorem d_M_look_221 : decode b_M_look 221 = .ok (.iastore, 1) := by decide +kernel
theorem d_M_look_222 : decode b_M_look 222 = .ok (.aload_n 0, 1) := by decide +kernel
theorem d_M_look_223 : decode b_M_look 223 = .ok (.getfield 16, 3) := by decide +kernel
theorem d_M_look_226 : decode b_M_look 226 = .ok (.iconst 3, 1) := by decide +kernel
theorem d_M_look_227 : decode b_M_look 227 = .ok (.iload_n 2, 1) := by decide +kernel
theorem d_M_look_228 : decode b_M_look 228 = .ok (.iastore, 1) := by decide +kernel
theorem d_M_look_229 : decode b_M_look 229 = .ok (.iinc 4 (-1), 3) := by decide +kernel
theorem d_M_look_232 : decode b_M_look 232 = .ok (.goto (-170), 3) := by decide +kernel
theorem d_M_look_235 : decode b_M_look 235 = .ok (.iinc 3 (-1), 3) := by decide +kernel
theorem d_M_look_238 : decode b_M_look 238 = .ok (.goto (-197), 3) := by decide +kernel
theorem d_M_look_241 : decode b_M_look 241 = .ok (.iinc 2 (-1), 3) := by decide +kernel
theorem d_M_look_244 : decode b_M_look 244 = .ok (.goto (-221), 3) := by decide +kernel
theorem d_M_look_247 : decode b_M_look 247 = .ok (.return_, 1) := by decide +kernel
theorem d_M_isBest_0 : decode b_M_isBest 0 = .ok (.aload_n 0, 1) := by decide +kernel
theorem d_M_isBest_1 : decode b_M_isBest 1 = .ok (.iload_n 1, 1) := by decide +kernel
theorem d_M_isBest_2 : decode b_M_isBest 2 = .ok (.iconst 0, 1) := by decide +kernel
theorem d_M_isBest_3 : decode b_M_isBest 3 = .ok (.sipush 2000, 3) := by decide +kernel
theorem d_M_isBest_6 : decode b_M_isBest 6 = .ok (.invokestatic 27, 3) := by decide +kernel
theorem d_M_isBest_9 : decode b_M_isBest 9 = .ok (.ifCond .eq 7, 3) := by decide +kernel
theorem d_M_isBest_12 : decode b_M_isBest 12 = .ok (.iconst 0, 1) := by decide +kernel
theorem d_M_isBest_13 : decode b_M_isBest 13 = .ok (.goto 4, 3) := by decide +kernel
theorem d_M_isBest_16 : decode b_M_isBest 16 = .ok (.iconst 1, 1) := by decide +kernel
theorem d_M_isBest_17 : decode b_M_isBest 17 = .ok (.putfield 23, 3) := by decide +kernel
theorem d_M_isBest_20 : decode b_M_isBest 20 = .ok (.aload_n 0, 1) := by decide +kernel
theorem d_M_isBest_21 : decode b_M_isBest 21 = .ok (.getfield 23, 3) := by decide +kernel
theorem d_M_isBest_24 : decode b_M_isBest 24 = .ok (.ifCond .le 5, 3) := by decide +kernel
theorem d_M_isBest_27 : decode b_M_isBest 27 = .ok (.iconst 0, 1) := by decide +kernel
theorem d_M_isBest_28 : decode b_M_isBest 28 = .ok (.ireturn, 1) := by decide +kernel
theorem d_M_isBest_29 : decode b_M_isBest 29 = .ok (.aload_n 0, 1) := by decide +kernel
theorem d_M_isBest_30 : decode b_M_isBest 30 = .ok (.iload_n 1, 1) := by decide +kernel
theorem d_M_isBest_31 : decode b_M_isBest 31 = .ok (.invokevirtual 43, 3) := by decide +kernel
theorem d_M_isBest_34 : decode b_M_isBest 34 = .ok (.aload_n 0, 1) := by decide +kernel
theorem d_M_isBest_35 : decode b_M_isBest 35 = .ok (.aload_n 0, 1) := by decide +kernel
theorem d_M_isBest_36 : decode b_M_isBest 36 = .ok (.getfield 31, 3) := by decide +kernel
theorem d_M_isBest_39 : decode b_M_isBest 39 = .ok (.ifCond .ne 7, 3) := by decide +kernel
theorem d_M_isBest_42 : decode b_M_isBest 42 = .ok (.iconst 2, 1) := by decide +kernel
theorem d_M_isBest_43 : decode b_M_isBest 43 = .ok (.goto 4, 3) := by decide +kernel
theorem d_M_isBest_46 : decode b_M_isBest 46 = .ok (.iconst 0, 1) := by decide +kernel
theorem d_M_isBest_47 : decode b_M_isBest 47 = .ok (.putfield 23, 3) := by decide +kernel
theorem d_M_isBest_50 : decode b_M_isBest 50 = .ok (.aload_n 0, 1) := by decide +kernel
theorem d_M_isBest_51 : decode b_M_isBest 51 = .ok (.getfield 23, 3) := by decide +kernel
theorem d_M_isBest_54 : decode b_M_isBest 54 = .ok (.ifCond .ne 7, 3) := by decide +kernel
theorem d_M_isBest_57 : decode b_M_isBest 57 = .ok (.iconst 1, 1) := by decide +kernel
theorem d_M_isBest_58 : decode b_M_isBest 58 = .ok (.goto 4, 3) := by decide +kernel
theorem d_M_isBest_61 : decode b_M_isBest 61 = .ok (.iconst 0, 1) := by decide +kernel
theorem d_M_isBest_62 : decode b_M_isBest 62 = .ok (.ireturn, 1) := by decide +kernel
theorem d_M_best_0 : decode b_M_best 0 = .ok (.aload_n 0, 1) := by decide +kernel
theorem d_M_best_1 : decode b_M_best 1 = .ok (.iload_n 1, 1) := by decide +kernel
theorem d_M_best_2 : decode b_M_best 2 = .ok (.invokevirtual 47, 3) := by decide +kernel
theorem d_M_best_5 : decode b_M_best 5 = .ok (.ifCond .eq 10, 3) := by decide +kernel
theorem d_M_best_8 : decode b_M_best 8 = .ok (.aload_n 0, 1) := by decide +kernel
theorem d_M_best_9 : decode b_M_best 9 = .ok (.getfield 34, 3) := by decide +kernel
theorem d_M_best_12 : decode b_M_best 12 = .ok (.goto 4, 3) := by decide +kernel
theorem d_M_best_15 : decode b_M_best 15 = .ok (.iconst 0, 1) := by decide +kernel
theorem d_M_best_16 : decode b_M_best 16 = .ok (.ireturn, 1) := by decide +kernel
theorem d_M_part_0 : decode b_M_part 0 = .ok (.aload_n 0, 1) := by decide +kernel
theorem d_M_part_1 : decode b_M_part 1 = .ok (.iload_n 2, 1) := by decide +kernel
theorem d_M_part_2 : decode b_M_part 2 = .ok (.iconst 0, 1) := by decide +kernel
theorem d_M_part_3 : decode b_M_part 3 = .ok (.iconst 3, 1) := by decide +kernel
theorem d_M_part_4 : decode b_M_part 4 = .ok (.invokestatic 27, 3) := by decide +kernel
theorem d_M_part_7 : decode b_M_part 7 = .ok (.ifCond .eq 7, 3) := by decide +kernel
theorem d_M_part_10 : decode b_M_part 10 = .ok (.iconst 0, 1) := by decide +kernel
theorem d_M_part_11 : decode b_M_part 11 = .ok (.goto 4, 3) := by decide +kernel
theorem d_M_part_14 : decode b_M_part 14 = .ok (.iconst 1, 1) := by decide +kernel
theorem d_M_part_15 : decode b_M_part 15 = .ok (.putfield 23, 3) := by decide +kernel
theorem d_M_part_18 : decode b_M_part 18 = .ok (.aload_n 0, 1) := by decide +kernel
theorem d_M_part_19 : decode b_M_part 19 = .ok (.getfield 23, 3) := by decide +kernel
theorem d_M_part_22 : decode b_M_part 22 = .ok (.ifCond .ne 20, 3) := by decide +kernel
theorem d_M_part_25 : decode b_M_part 25 = .ok (.aload_n 0, 1) := by decide +kernel
theorem d_M_part_26 : decode b_M_part 26 = .ok (.iload_n 1, 1) := by decide +kernel
theorem d_M_part_27 : decode b_M_part 27 = .ok (.invokevirtual 47, 3) := by decide +kernel
end
section
/-! decode rows -/
theorem d_M_part_30 : decode b_M_part 30 = .ok (.ifCond .eq 12, 3) := by decide +kernel
theorem d_M_part_33 : decode b_M_part 33 = .ok (.aload_n 0, 1) := by decide +kernel
theorem d_M_part_34 : decode b_M_part 34 = .ok (.getfield 16, 3) := by decide +kernel
theorem d_M_part_37 : decode b_M_part 37 = .ok (.iload_n 2, 1) := by decide +kernel
theorem d_M_part_38 : decode b_M_part 38 = .ok (.iaload, 1) := by decide +kernel
theorem d_M_part_39 : decode b_M_part 39 = .ok (.goto 4, 3) := by decide +kernel
theorem d_M_part_42 : decode b_M_part 42 = .ok (.iconst 0, 1) := by decide +kernel
theorem d_M_part_43 : decode b_M_part 43 = .ok (.ireturn, 1) := by decide +kernel
theorem d_M_ways_0 : decode b_M_ways 0 = .ok (.aload_n 0, 1) := by decide +kernel
theorem d_M_ways_1 : decode b_M_ways 1 = .ok (.iload_n 1, 1) := by decide +kernel
theorem d_M_ways_2 : decode b_M_ways 2 = .ok (.iconst 0, 1) := by decide +kernel
theorem d_M_ways_3 : decode b_M_ways 3 = .ok (.sipush 2000, 3) := by decide +kernel
theorem d_M_ways_6 : decode b_M_ways 6 = .ok (.invokestatic 27, 3) := by decide +kernel
theorem d_M_ways_9 : decode b_M_ways 9 = .ok (.ifCond .eq 7, 3) := by decide +kernel
theorem d_M_ways_12 : decode b_M_ways 12 = .ok (.iconst 0, 1) := by decide +kernel
theorem d_M_ways_13 : decode b_M_ways 13 = .ok (.goto 4, 3) := by decide +kernel
theorem d_M_ways_16 : decode b_M_ways 16 = .ok (.iconst 1, 1) := by decide +kernel
theorem d_M_ways_17 : decode b_M_ways 17 = .ok (.putfield 23, 3) := by decide +kernel
theorem d_M_ways_20 : decode b_M_ways 20 = .ok (.aload_n 0, 1) := by decide +kernel
theorem d_M_ways_21 : decode b_M_ways 21 = .ok (.getfield 23, 3) := by decide +kernel
theorem d_M_ways_24 : decode b_M_ways 24 = .ok (.ifCond .le 5, 3) := by decide +kernel
theorem d_M_ways_27 : decode b_M_ways 27 = .ok (.iconst 0, 1) := by decide +kernel
theorem d_M_ways_28 : decode b_M_ways 28 = .ok (.ireturn, 1) := by decide +kernel
theorem d_M_ways_29 : decode b_M_ways 29 = .ok (.aload_n 0, 1) := by decide +kernel
theorem d_M_ways_30 : decode b_M_ways 30 = .ok (.iload_n 1, 1) := by decide +kernel
theorem d_M_ways_31 : decode b_M_ways 31 = .ok (.invokevirtual 43, 3) := by decide +kernel
theorem d_M_ways_34 : decode b_M_ways 34 = .ok (.aload_n 0, 1) := by decide +kernel
theorem d_M_ways_35 : decode b_M_ways 35 = .ok (.getfield 31, 3) := by decide +kernel
theorem d_M_ways_38 : decode b_M_ways 38 = .ok (.ireturn, 1) := by decide +kernel
theorem d_M_pay_0 : decode b_M_pay 0 = .ok (.aload_n 0, 1) := by decide +kernel
theorem d_M_pay_1 : decode b_M_pay 1 = .ok (.iload_n 2, 1) := by decide +kernel
theorem d_M_pay_2 : decode b_M_pay 2 = .ok (.iconst 0, 1) := by decide +kernel
theorem d_M_pay_3 : decode b_M_pay 3 = .ok (.bipush 40, 2) := by decide +kernel
theorem d_M_pay_5 : decode b_M_pay 5 = .ok (.invokestatic 27, 3) := by decide +kernel
theorem d_M_pay_8 : decode b_M_pay 8 = .ok (.ifCond .eq 7, 3) := by decide +kernel
theorem d_M_pay_11 : decode b_M_pay 11 = .ok (.iconst 0, 1) := by decide +kernel
theorem d_M_pay_12 : decode b_M_pay 12 = .ok (.goto 4, 3) := by decide +kernel
theorem d_M_pay_15 : decode b_M_pay 15 = .ok (.iconst 1, 1) := by decide +kernel
theorem d_M_pay_16 : decode b_M_pay 16 = .ok (.putfield 23, 3) := by decide +kernel
theorem d_M_pay_19 : decode b_M_pay 19 = .ok (.aload_n 0, 1) := by decide +kernel
theorem d_M_pay_20 : decode b_M_pay 20 = .ok (.getfield 23, 3) := by decide +kernel
theorem d_M_pay_23 : decode b_M_pay 23 = .ok (.ifCond .gt 11, 3) := by decide +kernel
theorem d_M_pay_26 : decode b_M_pay 26 = .ok (.aload_n 0, 1) := by decide +kernel
theorem d_M_pay_27 : decode b_M_pay 27 = .ok (.iload_n 1, 1) := by decide +kernel
theorem d_M_pay_28 : decode b_M_pay 28 = .ok (.invokevirtual 47, 3) := by decide +kernel
theorem d_M_pay_31 : decode b_M_pay 31 = .ok (.ifCond .ne 5, 3) := by decide +kernel
theorem d_M_pay_34 : decode b_M_pay 34 = .ok (.iconst 0, 1) := by decide +kernel
theorem d_M_pay_35 : decode b_M_pay 35 = .ok (.ireturn, 1) := by decide +kernel
theorem d_M_pay_36 : decode b_M_pay 36 = .ok (.iload_n 2, 1) := by decide +kernel
theorem d_M_pay_37 : decode b_M_pay 37 = .ok (.istore_n 3, 1) := by decide +kernel
theorem d_M_pay_38 : decode b_M_pay 38 = .ok (.iconst 0, 1) := by decide +kernel
theorem d_M_pay_39 : decode b_M_pay 39 = .ok (.istore 4, 2) := by decide +kernel
theorem d_M_pay_41 : decode b_M_pay 41 = .ok (.iconst 3, 1) := by decide +kernel
theorem d_M_pay_42 : decode b_M_pay 42 = .ok (.istore 5, 2) := by decide +kernel
theorem d_M_pay_44 : decode b_M_pay 44 = .ok (.iload 5, 2) := by decide +kernel
theorem d_M_pay_46 : decode b_M_pay 46 = .ok (.ifCond .lt 54, 3) := by decide +kernel
theorem d_M_pay_49 : decode b_M_pay 49 = .ok (.iload_n 3, 1) := by decide +kernel
theorem d_M_pay_50 : decode b_M_pay 50 = .ok (.aload_n 0, 1) := by decide +kernel
theorem d_M_pay_51 : decode b_M_pay 51 = .ok (.getfield 16, 3) := by decide +kernel
theorem d_M_pay_54 : decode b_M_pay 54 = .ok (.iload 5, 2) := by decide +kernel
theorem d_M_pay_56 : decode b_M_pay 56 = .ok (.iaload, 1) := by decide +kernel
theorem d_M_pay_57 : decode b_M_pay 57 = .ok (.invokestatic 37, 3) := by decide +kernel
theorem d_M_pay_60 : decode b_M_pay 60 = .ok (.istore 6, 2) := by decide +kernel
theorem d_M_pay_62 : decode b_M_pay 62 = .ok (.aload_n 0, 1) := by decide +kernel
theorem d_M_pay_63 : decode b_M_pay 63 = .ok (.getfield 13, 3) := by decide +kernel
theorem d_M_pay_66 : decode b_M_pay 66 = .ok (.iload 5, 2) := by decide +kernel
theorem d_M_pay_68 : decode b_M_pay 68 = .ok (.dup2, 1) := by decide +kernel
theorem d_M_pay_69 : decode b_M_pay 69 = .ok (.iaload, 1) := by decide +kernel
theorem d_M_pay_70 : decode b_M_pay 70 = .ok (.iload 6, 2) := by decide +kernel
theorem d_M_pay_72 : decode b_M_pay 72 = .ok (.isub, 1) := by decide +kernel
theorem d_M_pay_73 : decode b_M_pay 73 = .ok (.iastore, 1) := by decide +kernel
theorem d_M_pay_74 : decode b_M_pay 74 = .ok (.iload_n 3, 1) := by decide +kernel
theorem d_M_pay_75 : decode b_M_pay 75 = .ok (.iload 6, 2) := by decide +kernel
theorem d_M_pay_77 : decode b_M_pay 77 = .ok (.isub, 1) := by decide +kernel
theorem d_M_pay_78 : decode b_M_pay 78 = .ok (.istore_n 3, 1) := by decide +kernel
theorem d_M_pay_79 : decode b_M_pay 79 = .ok (.iload 4, 2) := by decide +kernel
theorem d_M_pay_81 : decode b_M_pay 81 = .ok (.iload 6, 2) := by decide +kernel
theorem d_M_pay_83 : decode b_M_pay 83 = .ok (.aload_n 0, 1) := by decide +kernel
theorem d_M_pay_84 : decode b_M_pay 84 = .ok (.getfield 7, 3) := by decide +kernel
theorem d_M_pay_87 : decode b_M_pay 87 = .ok (.iload 5, 2) := by decide +kernel
theorem d_M_pay_89 : decode b_M_pay 89 = .ok (.iaload, 1) := by decide +kernel
theorem d_M_pay_90 : decode b_M_pay 90 = .ok (.imul, 1) := by decide +kernel
theorem d_M_pay_91 : decode b_M_pay 91 = .ok (.iadd, 1) := by decide +kernel
theorem d_M_pay_92 : decode b_M_pay 92 = .ok (.istore 4, 2) := by decide +kernel
theorem d_M_pay_94 : decode b_M_pay 94 = .ok (.iinc 5 (-1), 3) := by decide +kernel
theorem d_M_pay_97 : decode b_M_pay 97 = .ok (.goto (-53), 3) := by decide +kernel
theorem d_M_pay_100 : decode b_M_pay 100 = .ok (.iload 4, 2) := by decide +kernel
theorem d_M_pay_102 : decode b_M_pay 102 = .ok (.ireturn, 1) := by decide +kernel
theorem d_M_all_0 : decode b_M_all 0 = .ok (.iconst 0, 1) := by decide +kernel
theorem d_M_all_1 : decode b_M_all 1 = .ok (.istore_n 1, 1) := by decide +kernel
theorem d_M_all_2 : decode b_M_all 2 = .ok (.iload_n 1, 1) := by decide +kernel
theorem d_M_all_3 : decode b_M_all 3 = .ok (.sipush 2000, 3) := by decide +kernel
theorem d_M_all_6 : decode b_M_all 6 = .ok (.if_icmp .gt 16, 3) := by decide +kernel
theorem d_M_all_9 : decode b_M_all 9 = .ok (.aload_n 0, 1) := by decide +kernel
theorem d_M_all_10 : decode b_M_all 10 = .ok (.getfield 19, 3) := by decide +kernel
theorem d_M_all_13 : decode b_M_all 13 = .ok (.iload_n 1, 1) := by decide +kernel
theorem d_M_all_14 : decode b_M_all 14 = .ok (.iconst 0, 1) := by decide +kernel
theorem d_M_all_15 : decode b_M_all 15 = .ok (.bastore, 1) := by decide +kernel
theorem d_M_all_16 : decode b_M_all 16 = .ok (.iinc 1 1, 3) := by decide +kernel
theorem d_M_all_19 : decode b_M_all 19 = .ok (.goto (-17), 3) := by decide +kernel
theorem d_M_all_22 : decode b_M_all 22 = .ok (.iconst 0, 1) := by decide +kernel
theorem d_M_all_23 : decode b_M_all 23 = .ok (.istore_n 1, 1) := by decide +kernel
theorem d_M_all_24 : decode b_M_all 24 = .ok (.iload_n 1, 1) := by decide +kernel
theorem d_M_all_25 : decode b_M_all 25 = .ok (.aload_n 0, 1) := by decide +kernel
theorem d_M_all_26 : decode b_M_all 26 = .ok (.getfield 13, 3) := by decide +kernel
theorem d_M_all_29 : decode b_M_all 29 = .ok (.iconst 3, 1) := by decide +kernel
theorem d_M_all_30 : decode b_M_all 30 = .ok (.iaload, 1) := by decide +kernel
theorem d_M_all_31 : decode b_M_all 31 = .ok (.bipush 40, 2) := by decide +kernel
theorem d_M_all_33 : decode b_M_all 33 = .ok (.invokestatic 37, 3) := by decide +kernel
theorem d_M_all_36 : decode b_M_all 36 = .ok (.if_icmp .gt 147, 3) := by decide +kernel
theorem d_M_all_39 : decode b_M_all 39 = .ok (.iconst 0, 1) := by decide +kernel
theorem d_M_all_40 : decode b_M_all 40 = .ok (.istore_n 2, 1) := by decide +kernel
theorem d_M_all_41 : decode b_M_all 41 = .ok (.iload_n 2, 1) := by decide +kernel
theorem d_M_all_42 : decode b_M_all 42 = .ok (.aload_n 0, 1) := by decide +kernel
theorem d_M_all_43 : decode b_M_all 43 = .ok (.getfield 13, 3) := by decide +kernel
theorem d_M_all_46 : decode b_M_all 46 = .ok (.iconst 2, 1) := by decide +kernel
theorem d_M_all_47 : decode b_M_all 47 = .ok (.iaload, 1) := by decide +kernel
theorem d_M_all_48 : decode b_M_all 48 = .ok (.bipush 40, 2) := by decide +kernel
theorem d_M_all_50 : decode b_M_all 50 = .ok (.iload_n 1, 1) := by decide +kernel
theorem d_M_all_51 : decode b_M_all 51 = .ok (.isub, 1) := by decide +kernel
theorem d_M_all_52 : decode b_M_all 52 = .ok (.invokestatic 37, 3) := by decide +kernel
theorem d_M_all_55 : decode b_M_all 55 = .ok (.if_icmp .gt 122, 3) := by decide +kernel
theorem d_M_all_58 : decode b_M_all 58 = .ok (.iconst 0, 1) := by decide +kernel
theorem d_M_all_59 : decode b_M_all 59 = .ok (.istore_n 3, 1) := by decide +kernel
theorem d_M_all_60 : decode b_M_all 60 = .ok (.iload_n 3, 1) := by decide +kernel
theorem d_M_all_61 : decode b_M_all 61 = .ok (.aload_n 0, 1) := by decide +kernel
theorem d_M_all_62 : decode b_M_all 62 = .ok (.getfield 13, 3) := by decide +kernel
theorem d_M_all_65 : decode b_M_all 65 = .ok (.iconst 1, 1) := by decide +kernel
theorem d_M_all_66 : decode b_M_all 66 = .ok (.iaload, 1) := by decide +kernel
theorem d_M_all_67 : decode b_M_all 67 = .ok (.bipush 40, 2) := by decide +kernel
theorem d_M_all_69 : decode b_M_all 69 = .ok (.iload_n 1, 1) := by decide +kernel
theorem d_M_all_70 : decode b_M_all 70 = .ok (.isub, 1) := by decide +kernel
theorem d_M_all_71 : decode b_M_all 71 = .ok (.iload_n 2, 1) := by decide +kernel
theorem d_M_all_72 : decode b_M_all 72 = .ok (.isub, 1) := by decide +kernel
theorem d_M_all_73 : decode b_M_all 73 = .ok (.invokestatic 37, 3) := by decide +kernel
theorem d_M_all_76 : decode b_M_all 76 = .ok (.if_icmp .gt 95, 3) := by decide +kernel
theorem d_M_all_79 : decode b_M_all 79 = .ok (.iload_n 1, 1) := by decide +kernel
theorem d_M_all_80 : decode b_M_all 80 = .ok (.aload_n 0, 1) := by decide +kernel
theorem d_M_all_81 : decode b_M_all 81 = .ok (.getfield 7, 3) := by decide +kernel
theorem d_M_all_84 : decode b_M_all 84 = .ok (.iconst 3, 1) := by decide +kernel
theorem d_M_all_85 : decode b_M_all 85 = .ok (.iaload, 1) := by decide +kernel
theorem d_M_all_86 : decode b_M_all 86 = .ok (.imul, 1) := by decide +kernel
theorem d_M_all_87 : decode b_M_all 87 = .ok (.iload_n 2, 1) := by decide +kernel
theorem d_M_all_88 : decode b_M_all 88 = .ok (.aload_n 0, 1) := by decide +kernel
theorem d_M_all_89 : decode b_M_all 89 = .ok (.getfield 7, 3) := by decide +kernel
theorem d_M_all_92 : decode b_M_all 92 = .ok (.iconst 2, 1) := by decide +kernel
theorem d_M_all_93 : decode b_M_all 93 = .ok (.iaload, 1) := by decide +kernel
theorem d_M_all_94 : decode b_M_all 94 = .ok (.imul, 1) := by decide +kernel
theorem d_M_all_95 : decode b_M_all 95 = .ok (.iadd, 1) := by decide +kernel
theorem d_M_all_96 : decode b_M_all 96 = .ok (.iload_n 3, 1) := by decide +kernel
theorem d_M_all_97 : decode b_M_all 97 = .ok (.aload_n 0, 1) := by decide +kernel
theorem d_M_all_98 : decode b_M_all 98 = .ok (.getfield 7, 3) := by decide +kernel
theorem d_M_all_101 : decode b_M_all 101 = .ok (.iconst 1, 1) := by decide +kernel
theorem d_M_all_102 : decode b_M_all 102 = .ok (.iaload, 1) := by decide +kernel
theorem d_M_all_103 : decode b_M_all 103 = .ok (.imul, 1) := by decide +kernel
theorem d_M_all_104 : decode b_M_all 104 = .ok (.iadd, 1) := by decide +kernel
theorem d_M_all_105 : decode b_M_all 105 = .ok (.istore 4, 2) := by decide +kernel
theorem d_M_all_107 : decode b_M_all 107 = .ok (.iconst 0, 1) := by decide +kernel
theorem d_M_all_108 : decode b_M_all 108 = .ok (.istore 5, 2) := by decide +kernel
theorem d_M_all_110 : decode b_M_all 110 = .ok (.iload 5, 2) := by decide +kernel
theorem d_M_all_112 : decode b_M_all 112 = .ok (.aload_n 0, 1) := by decide +kernel
theorem d_M_all_113 : decode b_M_all 113 = .ok (.getfield 13, 3) := by decide +kernel
theorem d_M_all_116 : decode b_M_all 116 = .ok (.iconst 0, 1) := by decide +kernel
theorem d_M_all_117 : decode b_M_all 117 = .ok (.iaload, 1) := by decide +kernel
theorem d_M_all_118 : decode b_M_all 118 = .ok (.bipush 40, 2) := by decide +kernel
theorem d_M_all_120 : decode b_M_all 120 = .ok (.iload_n 1, 1) := by decide +kernel
theorem d_M_all_121 : decode b_M_all 121 = .ok (.isub, 1) := by decide +kernel
theorem d_M_all_122 : decode b_M_all 122 = .ok (.iload_n 2, 1) := by decide +kernel
theorem d_M_all_123 : decode b_M_all 123 = .ok (.isub, 1) := by decide +kernel
theorem d_M_all_124 : decode b_M_all 124 = .ok (.iload_n 3, 1) := by decide +kernel
theorem d_M_all_125 : decode b_M_all 125 = .ok (.isub, 1) := by decide +kernel
theorem d_M_all_126 : decode b_M_all 126 = .ok (.invokestatic 37, 3) := by decide +kernel
theorem d_M_all_129 : decode b_M_all 129 = .ok (.if_icmp .gt 36, 3) := by decide +kernel
theorem d_M_all_132 : decode b_M_all 132 = .ok (.iload 4, 2) := by decide +kernel
theorem d_M_all_134 : decode b_M_all 134 = .ok (.sipush 2000, 3) := by decide +kernel
theorem d_M_all_137 : decode b_M_all 137 = .ok (.if_icmp .gt 28, 3) := by decide +kernel
theorem d_M_all_140 : decode b_M_all 140 = .ok (.aload_n 0, 1) := by decide +kernel
theorem d_M_all_141 : decode b_M_all 141 = .ok (.getfield 19, 3) := by decide +kernel
theorem d_M_all_144 : decode b_M_all 144 = .ok (.iload 4, 2) := by decide +kernel
theorem d_M_all_146 : decode b_M_all 146 = .ok (.iconst 1, 1) := by decide +kernel
theorem d_M_all_147 : decode b_M_all 147 = .ok (.bastore, 1) := by decide +kernel
theorem d_M_all_148 : decode b_M_all 148 = .ok (.iload 4, 2) := by decide +kernel
theorem d_M_all_150 : decode b_M_all 150 = .ok (.aload_n 0, 1) := by decide +kernel
theorem d_M_all_151 : decode b_M_all 151 = .ok (.getfield 7, 3) := by decide +kernel
theorem d_M_all_154 : decode b_M_all 154 = .ok (.iconst 0, 1) := by decide +kernel
theorem d_M_all_155 : decode b_M_all 155 = .ok (.iaload, 1) := by decide +kernel
theorem d_M_all_156 : decode b_M_all 156 = .ok (.iadd, 1) := by decide +kernel
theorem d_M_all_157 : decode b_M_all 157 = .ok (.istore 4, 2) := by decide +kernel
theorem d_M_all_159 : decode b_M_all 159 = .ok (.iinc 5 1, 3) := by decide +kernel
theorem d_M_all_162 : decode b_M_all 162 = .ok (.goto (-52), 3) := by decide +kernel
theorem d_M_all_165 : decode b_M_all 165 = .ok (.iinc 3 1, 3) := by decide +kernel
theorem d_M_all_168 : decode b_M_all 168 = .ok (.goto (-108), 3) := by decide +kernel
theorem d_M_all_171 : decode b_M_all 171 = .ok (.iinc 2 1, 3) := by decide +kernel
theorem d_M_all_174 : decode b_M_all 174 = .ok (.goto (-133), 3) := by decide +kernel
theorem d_M_all_177 : decode b_M_all 177 = .ok (.iinc 1 1, 3) := by decide +kernel
theorem d_M_all_180 : decode b_M_all 180 = .ok (.goto (-156), 3) := by decide +kernel
theorem d_M_all_183 : decode b_M_all 183 = .ok (.return_, 1) := by decide +kernel
theorem d_M_next_0 : decode b_M_next 0 = .ok (.aload_n 0, 1) := by decide +kernel
theorem d_M_next_1 : decode b_M_next 1 = .ok (.iload_n 1, 1) := by decide +kernel
theorem d_M_next_2 : decode b_M_next 2 = .ok (.iconst 0, 1) := by decide +kernel
theorem d_M_next_3 : decode b_M_next 3 = .ok (.sipush 2000, 3) := by decide +kernel
theorem d_M_next_6 : decode b_M_next 6 = .ok (.invokestatic 27, 3) := by decide +kernel
theorem d_M_next_9 : decode b_M_next 9 = .ok (.ifCond .eq 7, 3) := by decide +kernel
theorem d_M_next_12 : decode b_M_next 12 = .ok (.iconst 0, 1) := by decide +kernel
theorem d_M_next_13 : decode b_M_next 13 = .ok (.goto 4, 3) := by decide +kernel
theorem d_M_next_16 : decode b_M_next 16 = .ok (.iconst 1, 1) := by decide +kernel
theorem d_M_next_17 : decode b_M_next 17 = .ok (.putfield 23, 3) := by decide +kernel
theorem d_M_next_20 : decode b_M_next 20 = .ok (.aload_n 0, 1) := by decide +kernel
theorem d_M_next_21 : decode b_M_next 21 = .ok (.getfield 23, 3) := by decide +kernel
theorem d_M_next_24 : decode b_M_next 24 = .ok (.ifCond .le 5, 3) := by decide +kernel
theorem d_M_next_27 : decode b_M_next 27 = .ok (.iconst 0, 1) := by decide +kernel
theorem d_M_next_28 : decode b_M_next 28 = .ok (.ireturn, 1) := by decide +kernel
theorem d_M_next_29 : decode b_M_next 29 = .ok (.aload_n 0, 1) := by decide +kernel
theorem d_M_next_30 : decode b_M_next 30 = .ok (.invokevirtual 51, 3) := by decide +kernel
theorem d_M_next_33 : decode b_M_next 33 = .ok (.iload_n 1, 1) := by decide +kernel
theorem d_M_next_34 : decode b_M_next 34 = .ok (.istore_n 2, 1) := by decide +kernel
theorem d_M_next_35 : decode b_M_next 35 = .ok (.iload_n 2, 1) := by decide +kernel
theorem d_M_next_36 : decode b_M_next 36 = .ok (.sipush 2000, 3) := by decide +kernel
theorem d_M_next_39 : decode b_M_next 39 = .ok (.if_icmp .gt 20, 3) := by decide +kernel
theorem d_M_next_42 : decode b_M_next 42 = .ok (.aload_n 0, 1) := by decide +kernel
theorem d_M_next_43 : decode b_M_next 43 = .ok (.getfield 19, 3) := by decide +kernel
theorem d_M_next_46 : decode b_M_next 46 = .ok (.iload_n 2, 1) := by decide +kernel
theorem d_M_next_47 : decode b_M_next 47 = .ok (.baload, 1) := by decide +kernel
theorem d_M_next_48 : decode b_M_next 48 = .ok (.ifCond .eq 5, 3) := by decide +kernel
theorem d_M_next_51 : decode b_M_next 51 = .ok (.iload_n 2, 1) := by decide +kernel
theorem d_M_next_52 : decode b_M_next 52 = .ok (.ireturn, 1) := by decide +kernel
theorem d_M_next_53 : decode b_M_next 53 = .ok (.iinc 2 1, 3) := by decide +kernel
theorem d_M_next_56 : decode b_M_next 56 = .ok (.goto (-21), 3) := by decide +kernel
theorem d_M_next_59 : decode b_M_next 59 = .ok (.iconst (-1), 1) := by decide +kernel
theorem d_M_next_60 : decode b_M_next 60 = .ok (.ireturn, 1) := by decide +kernel
theorem d_M_reach_0 : decode b_M_reach 0 = .ok (.aload_n 0, 1) := by decide +kernel
theorem d_M_reach_1 : decode b_M_reach 1 = .ok (.iconst 0, 1) := by decide +kernel
theorem d_M_reach_2 : decode b_M_reach 2 = .ok (.putfield 23, 3) := by decide +kernel
theorem d_M_reach_5 : decode b_M_reach 5 = .ok (.aload_n 0, 1) := by decide +kernel
theorem d_M_reach_6 : decode b_M_reach 6 = .ok (.invokevirtual 51, 3) := by decide +kernel
theorem d_M_reach_9 : decode b_M_reach 9 = .ok (.iconst 0, 1) := by decide +kernel
theorem d_M_reach_10 : decode b_M_reach 10 = .ok (.istore_n 1, 1) := by decide +kernel
theorem d_M_reach_11 : decode b_M_reach 11 = .ok (.iconst 0, 1) := by decide +kernel
theorem d_M_reach_12 : decode b_M_reach 12 = .ok (.istore_n 2, 1) := by decide +kernel
theorem d_M_reach_13 : decode b_M_reach 13 = .ok (.iload_n 2, 1) := by decide +kernel
theorem d_M_reach_14 : decode b_M_reach 14 = .ok (.sipush 2000, 3) := by decide +kernel
theorem d_M_reach_17 : decode b_M_reach 17 = .ok (.if_icmp .gt 21, 3) := by decide +kernel
theorem d_M_reach_20 : decode b_M_reach 20 = .ok (.aload_n 0, 1) := by decide +kernel
theorem d_M_reach_21 : decode b_M_reach 21 = .ok (.getfield 19, 3) := by decide +kernel
theorem d_M_reach_24 : decode b_M_reach 24 = .ok (.iload_n 2, 1) := by decide +kernel
theorem d_M_reach_25 : decode b_M_reach 25 = .ok (.baload, 1) := by decide +kernel
theorem d_M_reach_26 : decode b_M_reach 26 = .ok (.ifCond .eq 6, 3) := by decide +kernel
theorem d_M_reach_29 : decode b_M_reach 29 = .ok (.iinc 1 1, 3) := by decide +kernel
theorem d_M_reach_32 : decode b_M_reach 32 = .ok (.iinc 2 1, 3) := by decide +kernel
theorem d_M_reach_35 : decode b_M_reach 35 = .ok (.goto (-22), 3) := by decide +kernel
theorem d_M_reach_38 : decode b_M_reach 38 = .ok (.iload_n 1, 1) := by decide +kernel
theorem d_M_reach_39 : decode b_M_reach 39 = .ok (.ireturn, 1) := by decide +kernel
theorem d_M_cassette_0 : decode b_M_cassette 0 = .ok (.aload_n 0, 1) := by decide +kernel
theorem d_M_cassette_1 : decode b_M_cassette 1 = .ok (.iload_n 1, 1) := by decide +kernel
theorem d_M_cassette_2 : decode b_M_cassette 2 = .ok (.iconst 0, 1) := by decide +kernel
theorem d_M_cassette_3 : decode b_M_cassette 3 = .ok (.iconst 3, 1) := by decide +kernel
theorem d_M_cassette_4 : decode b_M_cassette 4 = .ok (.invokestatic 27, 3) := by decide +kernel
theorem d_M_cassette_7 : decode b_M_cassette 7 = .ok (.ifCond .eq 7, 3) := by decide +kernel
theorem d_M_cassette_10 : decode b_M_cassette 10 = .ok (.iconst 0, 1) := by decide +kernel
theorem d_M_cassette_11 : decode b_M_cassette 11 = .ok (.goto 4, 3) := by decide +kernel
theorem d_M_cassette_14 : decode b_M_cassette 14 = .ok (.iconst 1, 1) := by decide +kernel
theorem d_M_cassette_15 : decode b_M_cassette 15 = .ok (.putfield 23, 3) := by decide +kernel
theorem d_M_cassette_18 : decode b_M_cassette 18 = .ok (.aload_n 0, 1) := by decide +kernel
theorem d_M_cassette_19 : decode b_M_cassette 19 = .ok (.getfield 23, 3) := by decide +kernel
theorem d_M_cassette_22 : decode b_M_cassette 22 = .ok (.ifCond .le 5, 3) := by decide +kernel
theorem d_M_cassette_25 : decode b_M_cassette 25 = .ok (.iconst 0, 1) := by decide +kernel
theorem d_M_cassette_26 : decode b_M_cassette 26 = .ok (.ireturn, 1) := by decide +kernel
theorem d_M_cassette_27 : decode b_M_cassette 27 = .ok (.iload_n 2, 1) := by decide +kernel
theorem d_M_cassette_28 : decode b_M_cassette 28 = .ok (.ifCond .eq 12, 3) := by decide +kernel
theorem d_M_cassette_31 : decode b_M_cassette 31 = .ok (.aload_n 0, 1) := by decide +kernel
theorem d_M_cassette_32 : decode b_M_cassette 32 = .ok (.getfield 7, 3) := by decide +kernel
theorem d_M_cassette_35 : decode b_M_cassette 35 = .ok (.iload_n 1, 1) := by decide +kernel
theorem d_M_cassette_36 : decode b_M_cassette 36 = .ok (.iaload, 1) := by decide +kernel
theorem d_M_cassette_37 : decode b_M_cassette 37 = .ok (.goto 9, 3) := by decide +kernel
theorem d_M_cassette_40 : decode b_M_cassette 40 = .ok (.aload_n 0, 1) := by decide +kernel
theorem d_M_cassette_41 : decode b_M_cassette 41 = .ok (.getfield 13, 3) := by decide +kernel
theorem d_M_cassette_44 : decode b_M_cassette 44 = .ok (.iload_n 1, 1) := by decide +kernel
theorem d_M_cassette_45 : decode b_M_cassette 45 = .ok (.iaload, 1) := by decide +kernel
theorem d_M_cassette_46 : decode b_M_cassette 46 = .ok (.ireturn, 1) := by decide +kernel
theorem d_M_value_0 : decode b_M_value 0 = .ok (.aload_n 0, 1) := by decide +kernel
theorem d_M_value_1 : decode b_M_value 1 = .ok (.iconst 0, 1) := by decide +kernel
theorem d_M_value_2 : decode b_M_value 2 = .ok (.putfield 23, 3) := by decide +kernel
theorem d_M_value_5 : decode b_M_value 5 = .ok (.iconst 0, 1) := by decide +kernel
theorem d_M_value_6 : decode b_M_value 6 = .ok (.istore_n 1, 1) := by decide +kernel
theorem d_M_value_7 : decode b_M_value 7 = .ok (.iconst 0, 1) := by decide +kernel
theorem d_M_value_8 : decode b_M_value 8 = .ok (.istore_n 2, 1) := by decide +kernel
theorem d_M_value_9 : decode b_M_value 9 = .ok (.iload_n 2, 1) := by decide +kernel
theorem d_M_value_10 : decode b_M_value 10 = .ok (.iconst 4, 1) := by decide +kernel
theorem d_M_value_11 : decode b_M_value 11 = .ok (.if_icmp .ge 25, 3) := by decide +kernel
theorem d_M_value_14 : decode b_M_value 14 = .ok (.iload_n 1, 1) := by decide +kernel
theorem d_M_value_15 : decode b_M_value 15 = .ok (.aload_n 0, 1) := by decide +kernel
theorem d_M_value_16 : decode b_M_value 16 = .ok (.getfield 13, 3) := by decide +kernel
theorem d_M_value_19 : decode b_M_value 19 = .ok (.iload_n 2, 1) := by decide +kernel
theorem d_M_value_20 : decode b_M_value 20 = .ok (.iaload, 1) := by decide +kernel
theorem d_M_value_21 : decode b_M_value 21 = .ok (.aload_n 0, 1) := by decide +kernel
theorem d_M_value_22 : decode b_M_value 22 = .ok (.getfield 7, 3) := by decide +kernel
theorem d_M_value_25 : decode b_M_value 25 = .ok (.iload_n 2, 1) := by decide +kernel
theorem d_M_value_26 : decode b_M_value 26 = .ok (.iaload, 1) := by decide +kernel
theorem d_M_value_27 : decode b_M_value 27 = .ok (.imul, 1) := by decide +kernel
theorem d_M_value_28 : decode b_M_value 28 = .ok (.iadd, 1) := by decide +kernel
theorem d_M_value_29 : decode b_M_value 29 = .ok (.istore_n 1, 1) := by decide +kernel
theorem d_M_value_30 : decode b_M_value 30 = .ok (.iinc 2 1, 3) := by decide +kernel
theorem d_M_value_33 : decode b_M_value 33 = .ok (.goto (-24), 3) := by decide +kernel
theorem d_M_value_36 : decode b_M_value 36 = .ok (.iload_n 1, 1) := by decide +kernel
theorem d_M_value_37 : decode b_M_value 37 = .ok (.ireturn, 1) := by decide +kernel
end
section
/-! decode rows -/
theorem d_L_load_0 : decode b_L_load 0 = .ok (.aload_n 0, 1) := by decide +kernel
theorem d_L_load_1 : decode b_L_load 1 = .ok (.iload_n 1, 1) := by decide +kernel
theorem d_L_load_2 : decode b_L_load 2 = .ok (.iload_n 2, 1) := by decide +kernel
theorem d_L_load_3 : decode b_L_load 3 = .ok (.iload_n 3, 1) := by decide +kernel
theorem d_L_load_4 : decode b_L_load 4 = .ok (.invokevirtual 7, 3) := by decide +kernel
theorem d_L_load_7 : decode b_L_load 7 = .ok (.goto 7, 3) := by decide +kernel
theorem d_L_load_10 : decode b_L_load 10 = .ok (.astore 4, 2) := by decide +kernel
theorem d_L_load_12 : decode b_L_load 12 = .ok (.iconst 1, 1) := by decide +kernel
theorem d_L_load_13 : decode b_L_load 13 = .ok (.ireturn, 1) := by decide +kernel
theorem d_L_load_14 : decode b_L_load 14 = .ok (.iconst 0, 1) := by decide +kernel
theorem d_L_load_15 : decode b_L_load 15 = .ok (.ireturn, 1) := by decide +kernel
theorem d_L_best_0 : decode b_L_best 0 = .ok (.aload_n 2, 1) := by decide +kernel
theorem d_L_best_1 : decode b_L_best 1 = .ok (.iconst 0, 1) := by decide +kernel
theorem d_L_best_2 : decode b_L_best 2 = .ok (.aload_n 0, 1) := by decide +kernel
theorem d_L_best_3 : decode b_L_best 3 = .ok (.iload_n 1, 1) := by decide +kernel
theorem d_L_best_4 : decode b_L_best 4 = .ok (.invokevirtual 15, 3) := by decide +kernel
theorem d_L_best_7 : decode b_L_best 7 = .ok (.i2l, 1) := by decide +kernel
theorem d_L_best_8 : decode b_L_best 8 = .ok (.lastore, 1) := by decide +kernel
theorem d_L_best_9 : decode b_L_best 9 = .ok (.goto 9, 3) := by decide +kernel
theorem d_L_best_12 : decode b_L_best 12 = .ok (.astore_n 3, 1) := by decide +kernel
theorem d_L_best_13 : decode b_L_best 13 = .ok (.iconst 1, 1) := by decide +kernel
theorem d_L_best_14 : decode b_L_best 14 = .ok (.ireturn, 1) := by decide +kernel
theorem d_L_best_15 : decode b_L_best 15 = .ok (.astore_n 3, 1) := by decide +kernel
theorem d_L_best_16 : decode b_L_best 16 = .ok (.iconst 2, 1) := by decide +kernel
theorem d_L_best_17 : decode b_L_best 17 = .ok (.ireturn, 1) := by decide +kernel
theorem d_L_best_18 : decode b_L_best 18 = .ok (.iconst 0, 1) := by decide +kernel
theorem d_L_best_19 : decode b_L_best 19 = .ok (.ireturn, 1) := by decide +kernel
theorem d_L_part_0 : decode b_L_part 0 = .ok (.aload_n 3, 1) := by decide +kernel
theorem d_L_part_1 : decode b_L_part 1 = .ok (.iconst 0, 1) := by decide +kernel
theorem d_L_part_2 : decode b_L_part 2 = .ok (.aload_n 0, 1) := by decide +kernel
theorem d_L_part_3 : decode b_L_part 3 = .ok (.iload_n 1, 1) := by decide +kernel
theorem d_L_part_4 : decode b_L_part 4 = .ok (.iload_n 2, 1) := by decide +kernel
theorem d_L_part_5 : decode b_L_part 5 = .ok (.invokevirtual 21, 3) := by decide +kernel
theorem d_L_part_8 : decode b_L_part 8 = .ok (.i2l, 1) := by decide +kernel
theorem d_L_part_9 : decode b_L_part 9 = .ok (.lastore, 1) := by decide +kernel
theorem d_L_part_10 : decode b_L_part 10 = .ok (.goto 11, 3) := by decide +kernel
theorem d_L_part_13 : decode b_L_part 13 = .ok (.astore 4, 2) := by decide +kernel
theorem d_L_part_15 : decode b_L_part 15 = .ok (.iconst 1, 1) := by decide +kernel
theorem d_L_part_16 : decode b_L_part 16 = .ok (.ireturn, 1) := by decide +kernel
theorem d_L_part_17 : decode b_L_part 17 = .ok (.astore 4, 2) := by decide +kernel
theorem d_L_part_19 : decode b_L_part 19 = .ok (.iconst 2, 1) := by decide +kernel
theorem d_L_part_20 : decode b_L_part 20 = .ok (.ireturn, 1) := by decide +kernel
theorem d_L_part_21 : decode b_L_part 21 = .ok (.iconst 0, 1) := by decide +kernel
theorem d_L_part_22 : decode b_L_part 22 = .ok (.ireturn, 1) := by decide +kernel
theorem d_L_ways_0 : decode b_L_ways 0 = .ok (.aload_n 2, 1) := by decide +kernel
theorem d_L_ways_1 : decode b_L_ways 1 = .ok (.iconst 0, 1) := by decide +kernel
theorem d_L_ways_2 : decode b_L_ways 2 = .ok (.aload_n 0, 1) := by decide +kernel
theorem d_L_ways_3 : decode b_L_ways 3 = .ok (.iload_n 1, 1) := by decide +kernel
theorem d_L_ways_4 : decode b_L_ways 4 = .ok (.invokevirtual 25, 3) := by decide +kernel
theorem d_L_ways_7 : decode b_L_ways 7 = .ok (.i2l, 1) := by decide +kernel
theorem d_L_ways_8 : decode b_L_ways 8 = .ok (.lastore, 1) := by decide +kernel
theorem d_L_ways_9 : decode b_L_ways 9 = .ok (.goto 6, 3) := by decide +kernel
theorem d_L_ways_12 : decode b_L_ways 12 = .ok (.astore_n 3, 1) := by decide +kernel
theorem d_L_ways_13 : decode b_L_ways 13 = .ok (.iconst 1, 1) := by decide +kernel
theorem d_L_ways_14 : decode b_L_ways 14 = .ok (.ireturn, 1) := by decide +kernel
theorem d_L_ways_15 : decode b_L_ways 15 = .ok (.iconst 0, 1) := by decide +kernel
theorem d_L_ways_16 : decode b_L_ways 16 = .ok (.ireturn, 1) := by decide +kernel
theorem d_L_pay_0 : decode b_L_pay 0 = .ok (.aload_n 3, 1) := by decide +kernel
theorem d_L_pay_1 : decode b_L_pay 1 = .ok (.iconst 0, 1) := by decide +kernel
theorem d_L_pay_2 : decode b_L_pay 2 = .ok (.aload_n 0, 1) := by decide +kernel
theorem d_L_pay_3 : decode b_L_pay 3 = .ok (.iload_n 1, 1) := by decide +kernel
theorem d_L_pay_4 : decode b_L_pay 4 = .ok (.iload_n 2, 1) := by decide +kernel
theorem d_L_pay_5 : decode b_L_pay 5 = .ok (.invokevirtual 28, 3) := by decide +kernel
theorem d_L_pay_8 : decode b_L_pay 8 = .ok (.i2l, 1) := by decide +kernel
theorem d_L_pay_9 : decode b_L_pay 9 = .ok (.lastore, 1) := by decide +kernel
theorem d_L_pay_10 : decode b_L_pay 10 = .ok (.goto 11, 3) := by decide +kernel
theorem d_L_pay_13 : decode b_L_pay 13 = .ok (.astore 4, 2) := by decide +kernel
theorem d_L_pay_15 : decode b_L_pay 15 = .ok (.iconst 1, 1) := by decide +kernel
theorem d_L_pay_16 : decode b_L_pay 16 = .ok (.ireturn, 1) := by decide +kernel
theorem d_L_pay_17 : decode b_L_pay 17 = .ok (.astore 4, 2) := by decide +kernel
theorem d_L_pay_19 : decode b_L_pay 19 = .ok (.iconst 2, 1) := by decide +kernel
theorem d_L_pay_20 : decode b_L_pay 20 = .ok (.ireturn, 1) := by decide +kernel
theorem d_L_pay_21 : decode b_L_pay 21 = .ok (.iconst 0, 1) := by decide +kernel
theorem d_L_pay_22 : decode b_L_pay 22 = .ok (.ireturn, 1) := by decide +kernel
theorem d_L_next_0 : decode b_L_next 0 = .ok (.aload_n 2, 1) := by decide +kernel
theorem d_L_next_1 : decode b_L_next 1 = .ok (.iconst 0, 1) := by decide +kernel
theorem d_L_next_2 : decode b_L_next 2 = .ok (.aload_n 0, 1) := by decide +kernel
theorem d_L_next_3 : decode b_L_next 3 = .ok (.iload_n 1, 1) := by decide +kernel
theorem d_L_next_4 : decode b_L_next 4 = .ok (.invokevirtual 31, 3) := by decide +kernel
theorem d_L_next_7 : decode b_L_next 7 = .ok (.i2l, 1) := by decide +kernel
theorem d_L_next_8 : decode b_L_next 8 = .ok (.lastore, 1) := by decide +kernel
theorem d_L_next_9 : decode b_L_next 9 = .ok (.goto 6, 3) := by decide +kernel
theorem d_L_next_12 : decode b_L_next 12 = .ok (.astore_n 3, 1) := by decide +kernel
theorem d_L_next_13 : decode b_L_next 13 = .ok (.iconst 1, 1) := by decide +kernel
theorem d_L_next_14 : decode b_L_next 14 = .ok (.ireturn, 1) := by decide +kernel
theorem d_L_next_15 : decode b_L_next 15 = .ok (.iconst 0, 1) := by decide +kernel
theorem d_L_next_16 : decode b_L_next 16 = .ok (.ireturn, 1) := by decide +kernel
theorem d_L_cassette_0 : decode b_L_cassette 0 = .ok (.aload_n 3, 1) := by decide +kernel
theorem d_L_cassette_1 : decode b_L_cassette 1 = .ok (.iconst 0, 1) := by decide +kernel
theorem d_L_cassette_2 : decode b_L_cassette 2 = .ok (.aload_n 0, 1) := by decide +kernel
theorem d_L_cassette_3 : decode b_L_cassette 3 = .ok (.iload_n 1, 1) := by decide +kernel
theorem d_L_cassette_4 : decode b_L_cassette 4 = .ok (.iload_n 2, 1) := by decide +kernel
theorem d_L_cassette_5 : decode b_L_cassette 5 = .ok (.invokevirtual 34, 3) := by decide +kernel
theorem d_L_cassette_8 : decode b_L_cassette 8 = .ok (.i2l, 1) := by decide +kernel
theorem d_L_cassette_9 : decode b_L_cassette 9 = .ok (.lastore, 1) := by decide +kernel
theorem d_L_cassette_10 : decode b_L_cassette 10 = .ok (.goto 7, 3) := by decide +kernel
theorem d_L_cassette_13 : decode b_L_cassette 13 = .ok (.astore 4, 2) := by decide +kernel
theorem d_L_cassette_15 : decode b_L_cassette 15 = .ok (.iconst 1, 1) := by decide +kernel
theorem d_L_cassette_16 : decode b_L_cassette 16 = .ok (.ireturn, 1) := by decide +kernel
theorem d_L_cassette_17 : decode b_L_cassette 17 = .ok (.iconst 0, 1) := by decide +kernel
theorem d_L_cassette_18 : decode b_L_cassette 18 = .ok (.ireturn, 1) := by decide +kernel
end
section
/-! decode rows -/
theorem d_L_law_0 : decode code 0 = .ok (.new 8, 3) := by decide +kernel
theorem d_L_law_3 : decode code 3 = .ok (.dup, 1) := by decide +kernel
theorem d_L_law_4 : decode code 4 = .ok (.invokespecial 38, 3) := by decide +kernel
theorem d_L_law_7 : decode code 7 = .ok (.astore_n 1, 1) := by decide +kernel
theorem d_L_law_8 : decode code 8 = .ok (.new 39, 3) := by decide +kernel
theorem d_L_law_11 : decode code 11 = .ok (.dup, 1) := by decide +kernel
theorem d_L_law_12 : decode code 12 = .ok (.invokespecial 41, 3) := by decide +kernel
theorem d_L_law_15 : decode code 15 = .ok (.astore_n 2, 1) := by decide +kernel
theorem d_L_law_16 : decode code 16 = .ok (.iconst 1, 1) := by decide +kernel
theorem d_L_law_17 : decode code 17 = .ok (.newarray .long, 2) := by decide +kernel
theorem d_L_law_19 : decode code 19 = .ok (.astore_n 3, 1) := by decide +kernel
theorem d_L_law_20 : decode code 20 = .ok (.iconst 0, 1) := by decide +kernel
theorem d_L_law_21 : decode code 21 = .ok (.istore 4, 2) := by decide +kernel
theorem d_L_law_23 : decode code 23 = .ok (.iload 4, 2) := by decide +kernel
theorem d_L_law_25 : decode code 25 = .ok (.aload_n 0, 1) := by decide +kernel
theorem d_L_law_26 : decode code 26 = .ok (.arraylength, 1) := by decide +kernel
theorem d_L_law_27 : decode code 27 = .ok (.iconst 4, 1) := by decide +kernel
theorem d_L_law_28 : decode code 28 = .ok (.isub, 1) := by decide +kernel
theorem d_L_law_29 : decode code 29 = .ok (.if_icmp .gt 539, 3) := by decide +kernel
theorem d_L_law_32 : decode code 32 = .ok (.aload_n 0, 1) := by decide +kernel
theorem d_L_law_33 : decode code 33 = .ok (.iload 4, 2) := by decide +kernel
theorem d_L_law_35 : decode code 35 = .ok (.iaload, 1) := by decide +kernel
theorem d_L_law_36 : decode code 36 = .ok (.bipush 15, 2) := by decide +kernel
theorem d_L_law_38 : decode code 38 = .ok (.iand, 1) := by decide +kernel
theorem d_L_law_39 : decode code 39 = .ok (.tableswitch 523 0 8 #[49, 109, 165, 233, 289, 357, 413, 426, 510], 49) := by decide +kernel
theorem d_L_law_88 : decode code 88 = .ok (.aload_n 1, 1) := by decide +kernel
theorem d_L_law_89 : decode code 89 = .ok (.aload_n 0, 1) := by decide +kernel
theorem d_L_law_90 : decode code 90 = .ok (.iload 4, 2) := by decide +kernel
theorem d_L_law_92 : decode code 92 = .ok (.iconst 1, 1) := by decide +kernel
theorem d_L_law_93 : decode code 93 = .ok (.iadd, 1) := by decide +kernel
theorem d_L_law_94 : decode code 94 = .ok (.iaload, 1) := by decide +kernel
theorem d_L_law_95 : decode code 95 = .ok (.aload_n 0, 1) := by decide +kernel
theorem d_L_law_96 : decode code 96 = .ok (.iload 4, 2) := by decide +kernel
theorem d_L_law_98 : decode code 98 = .ok (.iconst 2, 1) := by decide +kernel
theorem d_L_law_99 : decode code 99 = .ok (.iadd, 1) := by decide +kernel
theorem d_L_law_100 : decode code 100 = .ok (.iaload, 1) := by decide +kernel
theorem d_L_law_101 : decode code 101 = .ok (.aload_n 0, 1) := by decide +kernel
theorem d_L_law_102 : decode code 102 = .ok (.iload 4, 2) := by decide +kernel
theorem d_L_law_104 : decode code 104 = .ok (.iconst 3, 1) := by decide +kernel
theorem d_L_law_105 : decode code 105 = .ok (.iadd, 1) := by decide +kernel
theorem d_L_law_106 : decode code 106 = .ok (.iaload, 1) := by decide +kernel
theorem d_L_law_107 : decode code 107 = .ok (.invokestatic 42, 3) := by decide +kernel
theorem d_L_law_110 : decode code 110 = .ok (.istore 5, 2) := by decide +kernel
theorem d_L_law_112 : decode code 112 = .ok (.aload_n 2, 1) := by decide +kernel
theorem d_L_law_113 : decode code 113 = .ok (.aload_n 0, 1) := by decide +kernel
theorem d_L_law_114 : decode code 114 = .ok (.iload 4, 2) := by decide +kernel
theorem d_L_law_116 : decode code 116 = .ok (.iconst 1, 1) := by decide +kernel
theorem d_L_law_117 : decode code 117 = .ok (.iadd, 1) := by decide +kernel
theorem d_L_law_118 : decode code 118 = .ok (.iaload, 1) := by decide +kernel
theorem d_L_law_119 : decode code 119 = .ok (.aload_n 0, 1) := by decide +kernel
theorem d_L_law_120 : decode code 120 = .ok (.iload 4, 2) := by decide +kernel
theorem d_L_law_122 : decode code 122 = .ok (.iconst 2, 1) := by decide +kernel
theorem d_L_law_123 : decode code 123 = .ok (.iadd, 1) := by decide +kernel
theorem d_L_law_124 : decode code 124 = .ok (.iaload, 1) := by decide +kernel
theorem d_L_law_125 : decode code 125 = .ok (.aload_n 0, 1) := by decide +kernel
theorem d_L_law_126 : decode code 126 = .ok (.iload 4, 2) := by decide +kernel
end
section
/-! decode rows -/
theorem d_L_law_128 : decode code 128 = .ok (.iconst 3, 1) := by decide +kernel
theorem d_L_law_129 : decode code 129 = .ok (.iadd, 1) := by decide +kernel
theorem d_L_law_130 : decode code 130 = .ok (.iaload, 1) := by decide +kernel
theorem d_L_law_131 : decode code 131 = .ok (.invokevirtual 47, 3) := by decide +kernel
theorem d_L_law_134 : decode code 134 = .ok (.aload_n 2, 1) := by decide +kernel
theorem d_L_law_135 : decode code 135 = .ok (.invokevirtual 48, 3) := by decide +kernel
theorem d_L_law_138 : decode code 138 = .ok (.iload 5, 2) := by decide +kernel
theorem d_L_law_140 : decode code 140 = .ok (.if_icmp .eq 5, 3) := by decide +kernel
theorem d_L_law_143 : decode code 143 = .ok (.iconst 0, 1) := by decide +kernel
theorem d_L_law_144 : decode code 144 = .ok (.ireturn, 1) := by decide +kernel
theorem d_L_law_145 : decode code 145 = .ok (.goto 417, 3) := by decide +kernel
theorem d_L_law_148 : decode code 148 = .ok (.aload_n 1, 1) := by decide +kernel
theorem d_L_law_149 : decode code 149 = .ok (.aload_n 0, 1) := by decide +kernel
theorem d_L_law_150 : decode code 150 = .ok (.iload 4, 2) := by decide +kernel
theorem d_L_law_152 : decode code 152 = .ok (.iconst 1, 1) := by decide +kernel
theorem d_L_law_153 : decode code 153 = .ok (.iadd, 1) := by decide +kernel
theorem d_L_law_154 : decode code 154 = .ok (.iaload, 1) := by decide +kernel
theorem d_L_law_155 : decode code 155 = .ok (.aload_n 3, 1) := by decide +kernel
theorem d_L_law_156 : decode code 156 = .ok (.invokestatic 52, 3) := by decide +kernel
theorem d_L_law_159 : decode code 159 = .ok (.istore 5, 2) := by decide +kernel
theorem d_L_law_161 : decode code 161 = .ok (.aload_n 2, 1) := by decide +kernel
theorem d_L_law_162 : decode code 162 = .ok (.aload_n 0, 1) := by decide +kernel
theorem d_L_law_163 : decode code 163 = .ok (.iload 4, 2) := by decide +kernel
theorem d_L_law_165 : decode code 165 = .ok (.iconst 1, 1) := by decide +kernel
theorem d_L_law_166 : decode code 166 = .ok (.iadd, 1) := by decide +kernel
theorem d_L_law_167 : decode code 167 = .ok (.iaload, 1) := by decide +kernel
theorem d_L_law_168 : decode code 168 = .ok (.invokevirtual 55, 3) := by decide +kernel
theorem d_L_law_171 : decode code 171 = .ok (.istore 6, 2) := by decide +kernel
theorem d_L_law_173 : decode code 173 = .ok (.aload_n 2, 1) := by decide +kernel
theorem d_L_law_174 : decode code 174 = .ok (.invokevirtual 48, 3) := by decide +kernel
theorem d_L_law_177 : decode code 177 = .ok (.iload 5, 2) := by decide +kernel
theorem d_L_law_179 : decode code 179 = .ok (.if_icmp .eq 5, 3) := by decide +kernel
theorem d_L_law_182 : decode code 182 = .ok (.iconst 0, 1) := by decide +kernel
theorem d_L_law_183 : decode code 183 = .ok (.ireturn, 1) := by decide +kernel
theorem d_L_law_184 : decode code 184 = .ok (.iload 5, 2) := by decide +kernel
theorem d_L_law_186 : decode code 186 = .ok (.ifCond .ne 15, 3) := by decide +kernel
theorem d_L_law_189 : decode code 189 = .ok (.aload_n 3, 1) := by decide +kernel
theorem d_L_law_190 : decode code 190 = .ok (.iconst 0, 1) := by decide +kernel
theorem d_L_law_191 : decode code 191 = .ok (.laload, 1) := by decide +kernel
theorem d_L_law_192 : decode code 192 = .ok (.iload 6, 2) := by decide +kernel
theorem d_L_law_194 : decode code 194 = .ok (.i2l, 1) := by decide +kernel
theorem d_L_law_195 : decode code 195 = .ok (.lcmp, 1) := by decide +kernel
theorem d_L_law_196 : decode code 196 = .ok (.ifCond .eq 5, 3) := by decide +kernel
theorem d_L_law_199 : decode code 199 = .ok (.iconst 0, 1) := by decide +kernel
theorem d_L_law_200 : decode code 200 = .ok (.ireturn, 1) := by decide +kernel
theorem d_L_law_201 : decode code 201 = .ok (.goto 361, 3) := by decide +kernel
theorem d_L_law_204 : decode code 204 = .ok (.aload_n 1, 1) := by decide +kernel
theorem d_L_law_205 : decode code 205 = .ok (.aload_n 0, 1) := by decide +kernel
theorem d_L_law_206 : decode code 206 = .ok (.iload 4, 2) := by decide +kernel
theorem d_L_law_208 : decode code 208 = .ok (.iconst 1, 1) := by decide +kernel
theorem d_L_law_209 : decode code 209 = .ok (.iadd, 1) := by decide +kernel
theorem d_L_law_210 : decode code 210 = .ok (.iaload, 1) := by decide +kernel
theorem d_L_law_211 : decode code 211 = .ok (.aload_n 0, 1) := by decide +kernel
theorem d_L_law_212 : decode code 212 = .ok (.iload 4, 2) := by decide +kernel
theorem d_L_law_214 : decode code 214 = .ok (.iconst 2, 1) := by decide +kernel
theorem d_L_law_215 : decode code 215 = .ok (.iadd, 1) := by decide +kernel
end
section
/-! decode rows -/
theorem d_L_law_216 : decode code 216 = .ok (.iaload, 1) := by decide +kernel
theorem d_L_law_217 : decode code 217 = .ok (.aload_n 3, 1) := by decide +kernel
theorem d_L_law_218 : decode code 218 = .ok (.invokestatic 56, 3) := by decide +kernel
theorem d_L_law_221 : decode code 221 = .ok (.istore 5, 2) := by decide +kernel
theorem d_L_law_223 : decode code 223 = .ok (.aload_n 2, 1) := by decide +kernel
theorem d_L_law_224 : decode code 224 = .ok (.aload_n 0, 1) := by decide +kernel
theorem d_L_law_225 : decode code 225 = .ok (.iload 4, 2) := by decide +kernel
theorem d_L_law_227 : decode code 227 = .ok (.iconst 1, 1) := by decide +kernel
theorem d_L_law_228 : decode code 228 = .ok (.iadd, 1) := by decide +kernel
theorem d_L_law_229 : decode code 229 = .ok (.iaload, 1) := by decide +kernel
theorem d_L_law_230 : decode code 230 = .ok (.aload_n 0, 1) := by decide +kernel
theorem d_L_law_231 : decode code 231 = .ok (.iload 4, 2) := by decide +kernel
theorem d_L_law_233 : decode code 233 = .ok (.iconst 2, 1) := by decide +kernel
theorem d_L_law_234 : decode code 234 = .ok (.iadd, 1) := by decide +kernel
theorem d_L_law_235 : decode code 235 = .ok (.iaload, 1) := by decide +kernel
theorem d_L_law_236 : decode code 236 = .ok (.invokevirtual 59, 3) := by decide +kernel
theorem d_L_law_239 : decode code 239 = .ok (.istore 6, 2) := by decide +kernel
theorem d_L_law_241 : decode code 241 = .ok (.aload_n 2, 1) := by decide +kernel
theorem d_L_law_242 : decode code 242 = .ok (.invokevirtual 48, 3) := by decide +kernel
theorem d_L_law_245 : decode code 245 = .ok (.iload 5, 2) := by decide +kernel
theorem d_L_law_247 : decode code 247 = .ok (.if_icmp .eq 5, 3) := by decide +kernel
theorem d_L_law_250 : decode code 250 = .ok (.iconst 0, 1) := by decide +kernel
theorem d_L_law_251 : decode code 251 = .ok (.ireturn, 1) := by decide +kernel
theorem d_L_law_252 : decode code 252 = .ok (.iload 5, 2) := by decide +kernel
theorem d_L_law_254 : decode code 254 = .ok (.ifCond .ne 15, 3) := by decide +kernel
theorem d_L_law_257 : decode code 257 = .ok (.aload_n 3, 1) := by decide +kernel
theorem d_L_law_258 : decode code 258 = .ok (.iconst 0, 1) := by decide +kernel
theorem d_L_law_259 : decode code 259 = .ok (.laload, 1) := by decide +kernel
theorem d_L_law_260 : decode code 260 = .ok (.iload 6, 2) := by decide +kernel
theorem d_L_law_262 : decode code 262 = .ok (.i2l, 1) := by decide +kernel
theorem d_L_law_263 : decode code 263 = .ok (.lcmp, 1) := by decide +kernel
theorem d_L_law_264 : decode code 264 = .ok (.ifCond .eq 5, 3) := by decide +kernel
theorem d_L_law_267 : decode code 267 = .ok (.iconst 0, 1) := by decide +kernel
theorem d_L_law_268 : decode code 268 = .ok (.ireturn, 1) := by decide +kernel
theorem d_L_law_269 : decode code 269 = .ok (.goto 293, 3) := by decide +kernel
theorem d_L_law_272 : decode code 272 = .ok (.aload_n 1, 1) := by decide +kernel
theorem d_L_law_273 : decode code 273 = .ok (.aload_n 0, 1) := by decide +kernel
theorem d_L_law_274 : decode code 274 = .ok (.iload 4, 2) := by decide +kernel
theorem d_L_law_276 : decode code 276 = .ok (.iconst 1, 1) := by decide +kernel
theorem d_L_law_277 : decode code 277 = .ok (.iadd, 1) := by decide +kernel
theorem d_L_law_278 : decode code 278 = .ok (.iaload, 1) := by decide +kernel
theorem d_L_law_279 : decode code 279 = .ok (.aload_n 3, 1) := by decide +kernel
theorem d_L_law_280 : decode code 280 = .ok (.invokestatic 60, 3) := by decide +kernel
theorem d_L_law_283 : decode code 283 = .ok (.istore 5, 2) := by decide +kernel
theorem d_L_law_285 : decode code 285 = .ok (.aload_n 2, 1) := by decide +kernel
theorem d_L_law_286 : decode code 286 = .ok (.aload_n 0, 1) := by decide +kernel
theorem d_L_law_287 : decode code 287 = .ok (.iload 4, 2) := by decide +kernel
theorem d_L_law_289 : decode code 289 = .ok (.iconst 1, 1) := by decide +kernel
theorem d_L_law_290 : decode code 290 = .ok (.iadd, 1) := by decide +kernel
theorem d_L_law_291 : decode code 291 = .ok (.iaload, 1) := by decide +kernel
theorem d_L_law_292 : decode code 292 = .ok (.invokevirtual 62, 3) := by decide +kernel
theorem d_L_law_295 : decode code 295 = .ok (.istore 6, 2) := by decide +kernel
theorem d_L_law_297 : decode code 297 = .ok (.aload_n 2, 1) := by decide +kernel
theorem d_L_law_298 : decode code 298 = .ok (.invokevirtual 48, 3) := by decide +kernel
theorem d_L_law_301 : decode code 301 = .ok (.iload 5, 2) := by decide +kernel
theorem d_L_law_303 : decode code 303 = .ok (.if_icmp .eq 5, 3) := by decide +kernel
end
section
/-! decode rows -/
theorem d_L_law_306 : decode code 306 = .ok (.iconst 0, 1) := by decide +kernel
theorem d_L_law_307 : decode code 307 = .ok (.ireturn, 1) := by decide +kernel
theorem d_L_law_308 : decode code 308 = .ok (.iload 5, 2) := by decide +kernel
theorem d_L_law_310 : decode code 310 = .ok (.ifCond .ne 15, 3) := by decide +kernel
theorem d_L_law_313 : decode code 313 = .ok (.aload_n 3, 1) := by decide +kernel
theorem d_L_law_314 : decode code 314 = .ok (.iconst 0, 1) := by decide +kernel
theorem d_L_law_315 : decode code 315 = .ok (.laload, 1) := by decide +kernel
theorem d_L_law_316 : decode code 316 = .ok (.iload 6, 2) := by decide +kernel
theorem d_L_law_318 : decode code 318 = .ok (.i2l, 1) := by decide +kernel
theorem d_L_law_319 : decode code 319 = .ok (.lcmp, 1) := by decide +kernel
theorem d_L_law_320 : decode code 320 = .ok (.ifCond .eq 5, 3) := by decide +kernel
theorem d_L_law_323 : decode code 323 = .ok (.iconst 0, 1) := by decide +kernel
theorem d_L_law_324 : decode code 324 = .ok (.ireturn, 1) := by decide +kernel
theorem d_L_law_325 : decode code 325 = .ok (.goto 237, 3) := by decide +kernel
theorem d_L_law_328 : decode code 328 = .ok (.aload_n 1, 1) := by decide +kernel
theorem d_L_law_329 : decode code 329 = .ok (.aload_n 0, 1) := by decide +kernel
theorem d_L_law_330 : decode code 330 = .ok (.iload 4, 2) := by decide +kernel
theorem d_L_law_332 : decode code 332 = .ok (.iconst 1, 1) := by decide +kernel
theorem d_L_law_333 : decode code 333 = .ok (.iadd, 1) := by decide +kernel
theorem d_L_law_334 : decode code 334 = .ok (.iaload, 1) := by decide +kernel
theorem d_L_law_335 : decode code 335 = .ok (.aload_n 0, 1) := by decide +kernel
theorem d_L_law_336 : decode code 336 = .ok (.iload 4, 2) := by decide +kernel
theorem d_L_law_338 : decode code 338 = .ok (.iconst 2, 1) := by decide +kernel
theorem d_L_law_339 : decode code 339 = .ok (.iadd, 1) := by decide +kernel
theorem d_L_law_340 : decode code 340 = .ok (.iaload, 1) := by decide +kernel
theorem d_L_law_341 : decode code 341 = .ok (.aload_n 3, 1) := by decide +kernel
theorem d_L_law_342 : decode code 342 = .ok (.invokestatic 63, 3) := by decide +kernel
theorem d_L_law_345 : decode code 345 = .ok (.istore 5, 2) := by decide +kernel
theorem d_L_law_347 : decode code 347 = .ok (.aload_n 2, 1) := by decide +kernel
theorem d_L_law_348 : decode code 348 = .ok (.aload_n 0, 1) := by decide +kernel
theorem d_L_law_349 : decode code 349 = .ok (.iload 4, 2) := by decide +kernel
theorem d_L_law_351 : decode code 351 = .ok (.iconst 1, 1) := by decide +kernel
theorem d_L_law_352 : decode code 352 = .ok (.iadd, 1) := by decide +kernel
theorem d_L_law_353 : decode code 353 = .ok (.iaload, 1) := by decide +kernel
theorem d_L_law_354 : decode code 354 = .ok (.aload_n 0, 1) := by decide +kernel
theorem d_L_law_355 : decode code 355 = .ok (.iload 4, 2) := by decide +kernel
theorem d_L_law_357 : decode code 357 = .ok (.iconst 2, 1) := by decide +kernel
theorem d_L_law_358 : decode code 358 = .ok (.iadd, 1) := by decide +kernel
theorem d_L_law_359 : decode code 359 = .ok (.iaload, 1) := by decide +kernel
theorem d_L_law_360 : decode code 360 = .ok (.invokevirtual 65, 3) := by decide +kernel
theorem d_L_law_363 : decode code 363 = .ok (.istore 6, 2) := by decide +kernel
theorem d_L_law_365 : decode code 365 = .ok (.aload_n 2, 1) := by decide +kernel
theorem d_L_law_366 : decode code 366 = .ok (.invokevirtual 48, 3) := by decide +kernel
theorem d_L_law_369 : decode code 369 = .ok (.iload 5, 2) := by decide +kernel
theorem d_L_law_371 : decode code 371 = .ok (.if_icmp .eq 5, 3) := by decide +kernel
theorem d_L_law_374 : decode code 374 = .ok (.iconst 0, 1) := by decide +kernel
theorem d_L_law_375 : decode code 375 = .ok (.ireturn, 1) := by decide +kernel
theorem d_L_law_376 : decode code 376 = .ok (.iload 5, 2) := by decide +kernel
theorem d_L_law_378 : decode code 378 = .ok (.ifCond .ne 15, 3) := by decide +kernel
theorem d_L_law_381 : decode code 381 = .ok (.aload_n 3, 1) := by decide +kernel
theorem d_L_law_382 : decode code 382 = .ok (.iconst 0, 1) := by decide +kernel
theorem d_L_law_383 : decode code 383 = .ok (.laload, 1) := by decide +kernel
theorem d_L_law_384 : decode code 384 = .ok (.iload 6, 2) := by decide +kernel
theorem d_L_law_386 : decode code 386 = .ok (.i2l, 1) := by decide +kernel
theorem d_L_law_387 : decode code 387 = .ok (.lcmp, 1) := by decide +kernel
theorem d_L_law_388 : decode code 388 = .ok (.ifCond .eq 5, 3) := by decide +kernel
end
section
/-! decode rows -/
theorem d_L_law_391 : decode code 391 = .ok (.iconst 0, 1) := by decide +kernel
theorem d_L_law_392 : decode code 392 = .ok (.ireturn, 1) := by decide +kernel
theorem d_L_law_393 : decode code 393 = .ok (.goto 169, 3) := by decide +kernel
theorem d_L_law_396 : decode code 396 = .ok (.aload_n 1, 1) := by decide +kernel
theorem d_L_law_397 : decode code 397 = .ok (.aload_n 0, 1) := by decide +kernel
theorem d_L_law_398 : decode code 398 = .ok (.iload 4, 2) := by decide +kernel
theorem d_L_law_400 : decode code 400 = .ok (.iconst 1, 1) := by decide +kernel
theorem d_L_law_401 : decode code 401 = .ok (.iadd, 1) := by decide +kernel
theorem d_L_law_402 : decode code 402 = .ok (.iaload, 1) := by decide +kernel
theorem d_L_law_403 : decode code 403 = .ok (.aload_n 3, 1) := by decide +kernel
theorem d_L_law_404 : decode code 404 = .ok (.invokestatic 66, 3) := by decide +kernel
theorem d_L_law_407 : decode code 407 = .ok (.istore 5, 2) := by decide +kernel
theorem d_L_law_409 : decode code 409 = .ok (.aload_n 2, 1) := by decide +kernel
theorem d_L_law_410 : decode code 410 = .ok (.aload_n 0, 1) := by decide +kernel
theorem d_L_law_411 : decode code 411 = .ok (.iload 4, 2) := by decide +kernel
theorem d_L_law_413 : decode code 413 = .ok (.iconst 1, 1) := by decide +kernel
theorem d_L_law_414 : decode code 414 = .ok (.iadd, 1) := by decide +kernel
theorem d_L_law_415 : decode code 415 = .ok (.iaload, 1) := by decide +kernel
theorem d_L_law_416 : decode code 416 = .ok (.invokevirtual 68, 3) := by decide +kernel
theorem d_L_law_419 : decode code 419 = .ok (.istore 6, 2) := by decide +kernel
theorem d_L_law_421 : decode code 421 = .ok (.aload_n 2, 1) := by decide +kernel
theorem d_L_law_422 : decode code 422 = .ok (.invokevirtual 48, 3) := by decide +kernel
theorem d_L_law_425 : decode code 425 = .ok (.iload 5, 2) := by decide +kernel
theorem d_L_law_427 : decode code 427 = .ok (.if_icmp .eq 5, 3) := by decide +kernel
theorem d_L_law_430 : decode code 430 = .ok (.iconst 0, 1) := by decide +kernel
theorem d_L_law_431 : decode code 431 = .ok (.ireturn, 1) := by decide +kernel
theorem d_L_law_432 : decode code 432 = .ok (.iload 5, 2) := by decide +kernel
theorem d_L_law_434 : decode code 434 = .ok (.ifCond .ne 15, 3) := by decide +kernel
theorem d_L_law_437 : decode code 437 = .ok (.aload_n 3, 1) := by decide +kernel
theorem d_L_law_438 : decode code 438 = .ok (.iconst 0, 1) := by decide +kernel
theorem d_L_law_439 : decode code 439 = .ok (.laload, 1) := by decide +kernel
theorem d_L_law_440 : decode code 440 = .ok (.iload 6, 2) := by decide +kernel
theorem d_L_law_442 : decode code 442 = .ok (.i2l, 1) := by decide +kernel
theorem d_L_law_443 : decode code 443 = .ok (.lcmp, 1) := by decide +kernel
theorem d_L_law_444 : decode code 444 = .ok (.ifCond .eq 5, 3) := by decide +kernel
theorem d_L_law_447 : decode code 447 = .ok (.iconst 0, 1) := by decide +kernel
theorem d_L_law_448 : decode code 448 = .ok (.ireturn, 1) := by decide +kernel
theorem d_L_law_449 : decode code 449 = .ok (.goto 113, 3) := by decide +kernel
theorem d_L_law_452 : decode code 452 = .ok (.aload_n 1, 1) := by decide +kernel
theorem d_L_law_453 : decode code 453 = .ok (.invokevirtual 69, 3) := by decide +kernel
theorem d_L_law_456 : decode code 456 = .ok (.aload_n 2, 1) := by decide +kernel
theorem d_L_law_457 : decode code 457 = .ok (.invokevirtual 72, 3) := by decide +kernel
theorem d_L_law_460 : decode code 460 = .ok (.if_icmp .eq 102, 3) := by decide +kernel
theorem d_L_law_463 : decode code 463 = .ok (.iconst 0, 1) := by decide +kernel
theorem d_L_law_464 : decode code 464 = .ok (.ireturn, 1) := by decide +kernel
theorem d_L_law_465 : decode code 465 = .ok (.aload_n 1, 1) := by decide +kernel
theorem d_L_law_466 : decode code 466 = .ok (.aload_n 0, 1) := by decide +kernel
theorem d_L_law_467 : decode code 467 = .ok (.iload 4, 2) := by decide +kernel
theorem d_L_law_469 : decode code 469 = .ok (.iconst 1, 1) := by decide +kernel
theorem d_L_law_470 : decode code 470 = .ok (.iadd, 1) := by decide +kernel
theorem d_L_law_471 : decode code 471 = .ok (.iaload, 1) := by decide +kernel
theorem d_L_law_472 : decode code 472 = .ok (.aload_n 0, 1) := by decide +kernel
theorem d_L_law_473 : decode code 473 = .ok (.iload 4, 2) := by decide +kernel
theorem d_L_law_475 : decode code 475 = .ok (.iconst 2, 1) := by decide +kernel
theorem d_L_law_476 : decode code 476 = .ok (.iadd, 1) := by decide +kernel
theorem d_L_law_477 : decode code 477 = .ok (.iaload, 1) := by decide +kernel
end
section
/-! decode rows -/
theorem d_L_law_478 : decode code 478 = .ok (.ifCond .eq 7, 3) := by decide +kernel
theorem d_L_law_481 : decode code 481 = .ok (.iconst 1, 1) := by decide +kernel
theorem d_L_law_482 : decode code 482 = .ok (.goto 4, 3) := by decide +kernel
theorem d_L_law_485 : decode code 485 = .ok (.iconst 0, 1) := by decide +kernel
theorem d_L_law_486 : decode code 486 = .ok (.aload_n 3, 1) := by decide +kernel
theorem d_L_law_487 : decode code 487 = .ok (.invokestatic 73, 3) := by decide +kernel
theorem d_L_law_490 : decode code 490 = .ok (.istore 5, 2) := by decide +kernel
theorem d_L_law_492 : decode code 492 = .ok (.aload_n 2, 1) := by decide +kernel
theorem d_L_law_493 : decode code 493 = .ok (.aload_n 0, 1) := by decide +kernel
theorem d_L_law_494 : decode code 494 = .ok (.iload 4, 2) := by decide +kernel
theorem d_L_law_496 : decode code 496 = .ok (.iconst 1, 1) := by decide +kernel
theorem d_L_law_497 : decode code 497 = .ok (.iadd, 1) := by decide +kernel
theorem d_L_law_498 : decode code 498 = .ok (.iaload, 1) := by decide +kernel
theorem d_L_law_499 : decode code 499 = .ok (.aload_n 0, 1) := by decide +kernel
theorem d_L_law_500 : decode code 500 = .ok (.iload 4, 2) := by decide +kernel
theorem d_L_law_502 : decode code 502 = .ok (.iconst 2, 1) := by decide +kernel
theorem d_L_law_503 : decode code 503 = .ok (.iadd, 1) := by decide +kernel
theorem d_L_law_504 : decode code 504 = .ok (.iaload, 1) := by decide +kernel
theorem d_L_law_505 : decode code 505 = .ok (.ifCond .eq 7, 3) := by decide +kernel
theorem d_L_law_508 : decode code 508 = .ok (.iconst 1, 1) := by decide +kernel
theorem d_L_law_509 : decode code 509 = .ok (.goto 4, 3) := by decide +kernel
theorem d_L_law_512 : decode code 512 = .ok (.iconst 0, 1) := by decide +kernel
theorem d_L_law_513 : decode code 513 = .ok (.invokevirtual 76, 3) := by decide +kernel
theorem d_L_law_516 : decode code 516 = .ok (.istore 6, 2) := by decide +kernel
theorem d_L_law_518 : decode code 518 = .ok (.aload_n 2, 1) := by decide +kernel
theorem d_L_law_519 : decode code 519 = .ok (.invokevirtual 48, 3) := by decide +kernel
theorem d_L_law_522 : decode code 522 = .ok (.iload 5, 2) := by decide +kernel
theorem d_L_law_524 : decode code 524 = .ok (.if_icmp .eq 5, 3) := by decide +kernel
theorem d_L_law_527 : decode code 527 = .ok (.iconst 0, 1) := by decide +kernel
theorem d_L_law_528 : decode code 528 = .ok (.ireturn, 1) := by decide +kernel
theorem d_L_law_529 : decode code 529 = .ok (.iload 5, 2) := by decide +kernel
theorem d_L_law_531 : decode code 531 = .ok (.ifCond .ne 15, 3) := by decide +kernel
theorem d_L_law_534 : decode code 534 = .ok (.aload_n 3, 1) := by decide +kernel
theorem d_L_law_535 : decode code 535 = .ok (.iconst 0, 1) := by decide +kernel
theorem d_L_law_536 : decode code 536 = .ok (.laload, 1) := by decide +kernel
theorem d_L_law_537 : decode code 537 = .ok (.iload 6, 2) := by decide +kernel
theorem d_L_law_539 : decode code 539 = .ok (.i2l, 1) := by decide +kernel
theorem d_L_law_540 : decode code 540 = .ok (.lcmp, 1) := by decide +kernel
theorem d_L_law_541 : decode code 541 = .ok (.ifCond .eq 5, 3) := by decide +kernel
theorem d_L_law_544 : decode code 544 = .ok (.iconst 0, 1) := by decide +kernel
theorem d_L_law_545 : decode code 545 = .ok (.ireturn, 1) := by decide +kernel
theorem d_L_law_546 : decode code 546 = .ok (.goto 16, 3) := by decide +kernel
theorem d_L_law_549 : decode code 549 = .ok (.aload_n 1, 1) := by decide +kernel
theorem d_L_law_550 : decode code 550 = .ok (.invokevirtual 77, 3) := by decide +kernel
theorem d_L_law_553 : decode code 553 = .ok (.aload_n 2, 1) := by decide +kernel
theorem d_L_law_554 : decode code 554 = .ok (.invokevirtual 80, 3) := by decide +kernel
theorem d_L_law_557 : decode code 557 = .ok (.if_icmp .eq 5, 3) := by decide +kernel
theorem d_L_law_560 : decode code 560 = .ok (.iconst 0, 1) := by decide +kernel
theorem d_L_law_561 : decode code 561 = .ok (.ireturn, 1) := by decide +kernel
theorem d_L_law_562 : decode code 562 = .ok (.iinc 4 4, 3) := by decide +kernel
theorem d_L_law_565 : decode code 565 = .ok (.goto (-542), 3) := by decide +kernel
theorem d_L_law_568 : decode code 568 = .ok (.iconst 1, 1) := by decide +kernel
theorem d_L_law_569 : decode code 569 = .ok (.ireturn, 1) := by decide +kernel
end
section
/-! The plain law: no machine in sight. W: what a note of each cassette is worth; N: how many notes it holds. -/
/-- a sum below n -/
def nt_sm (f : Nat → Nat) : Nat → Nat
  | 0 => 0
  | n + 1 => nt_sm f n + f n
theorem nt_sm_cut {f : Nat → Nat} {m : Nat} : ∀ {n : Nat}, m ≤ n → (∀ i, m ≤ i → i < n → f i = 0) → nt_sm f n = nt_sm f m
  | 0, h, _ => by
    have h0 : m = 0 := by omega
    subst h0; rfl
  | n + 1, h, hz => by
    by_cases hm : m = n + 1
    · subst hm; rfl
    · have h1 : nt_sm f n = nt_sm f m := nt_sm_cut (by omega) (fun i a b => hz i a (by omega))
      have h2 : f n = 0 := hz n (by omega) (by omega)
      show nt_sm f n + f n = nt_sm f m
      omega
theorem nt_sm_le {f : Nat → Nat} {k : Nat} : ∀ n, (∀ i, i < n → f i ≤ k) → nt_sm f n ≤ n * k
  | 0, _ => by simp [nt_sm]
  | n + 1, h => by
    have h1 := nt_sm_le n (fun i hi => h i (by omega))
    have h2 := h n (by omega)
    have h3 : (n + 1) * k = n * k + k := Nat.succ_mul n k
    show nt_sm f n + f n ≤ (n + 1) * k
    omega
theorem nt_sm_mono {f : Nat → Nat} {m : Nat} : ∀ {n : Nat}, m ≤ n → nt_sm f m ≤ nt_sm f n
  | 0, h => by
    have h0 : m = 0 := by omega
    subst h0; exact Nat.le_refl _
  | n + 1, h => by
    by_cases hm : m = n + 1
    · subst hm; exact Nat.le_refl _
    · have h1 : nt_sm f m ≤ nt_sm f n := nt_sm_mono (by omega)
      show nt_sm f m ≤ nt_sm f n + f n
      omega
theorem nt_sm_pos {f : Nat → Nat} {i : Nat} : ∀ {n : Nat}, i < n → 0 < f i → 0 < nt_sm f n
  | 0, h, _ => by omega
  | n + 1, h, hp => by
    by_cases hi : i = n
    · subst hi
      show 0 < nt_sm f i + f i
      omega
    · have h1 : 0 < nt_sm f n := nt_sm_pos (by omega) hp
      show 0 < nt_sm f n + f n
      omega
theorem nt_sm_zero {f : Nat → Nat} : ∀ n, (∀ i, i < n → f i = 0) → nt_sm f n = 0
  | 0, _ => rfl
  | n + 1, h => by
    have h1 := nt_sm_zero n (fun i hi => h i (by omega))
    have h2 := h n (by omega)
    show nt_sm f n + f n = 0
    omega
/-- a mix of the amount v: a of cassette 3, b of 2, c of 1, d of 0, forty at most -/
def nt_ok (W N : Nat → Nat) (v a b c d : Nat) : Prop :=
  a ≤ N 3 ∧ b ≤ N 2 ∧ c ≤ N 1 ∧ d ≤ N 0 ∧ a + b + c + d ≤ 40 ∧ a * W 3 + b * W 2 + c * W 1 + d * W 0 = v
/-- what three cassettes give -/
def nt_u (W : Nat → Nat) (a b c : Nat) : Nat := a * W 3 + b * W 2 + c * W 1
/-- is there a mix with these three (there is at most one)? 1 or 0 -/
def nt_b (W N : Nat → Nat) (v a b c : Nat) : Nat :=
  if a ≤ N 3 ∧ b ≤ N 2 ∧ c ≤ N 1 ∧ nt_u W a b c ≤ v ∧ (v - nt_u W a b c) % W 0 = 0 ∧ (v - nt_u W a b c) / W 0 ≤ N 0 ∧ a + b + c + (v - nt_u W a b c) / W 0 ≤ 40 then 1 else 0
theorem nt_b_le (W N : Nat → Nat) (v a b c : Nat) : nt_b W N v a b c ≤ 1 := by
  unfold nt_b; split <;> omega
theorem nt_b_ok {W N : Nat → Nat} {v a b c : Nat} (h : nt_b W N v a b c ≠ 0) : nt_ok W N v a b c ((v - nt_u W a b c) / W 0) := by
  unfold nt_b at h
  split at h
  · rename_i q
    obtain ⟨h1, h2, h3, h4, h5, h6, h7⟩ := q
    refine ⟨h1, h2, h3, h6, h7, ?_⟩
    have h8 := Nat.div_mul_cancel (Nat.dvd_of_mod_eq_zero h5)
    rw [h8]
    unfold nt_u at h4 ⊢
    omega
  · exact absurd rfl h
theorem nt_ok_d {W N : Nat → Nat} {v a b c d : Nat} (h0 : 1 ≤ W 0) (h : nt_ok W N v a b c d) : nt_u W a b c ≤ v ∧ v - nt_u W a b c = d * W 0 ∧ d = (v - nt_u W a b c) / W 0 := by
  obtain ⟨-, -, -, -, -, h6⟩ := h
  have h7 : v - nt_u W a b c = d * W 0 := by unfold nt_u; omega
  refine ⟨by unfold nt_u; omega, h7, ?_⟩
  rw [h7, Nat.mul_div_cancel _ h0]
theorem nt_b_of {W N : Nat → Nat} {v a b c d : Nat} (h0 : 1 ≤ W 0) (h : nt_ok W N v a b c d) : nt_b W N v a b c = 1 := by
  obtain ⟨e1, e2, e3⟩ := nt_ok_d h0 h
  obtain ⟨h1, h2, h3, h4, h5, h6⟩ := h
  unfold nt_b
  rw [if_pos]
  refine ⟨h1, h2, h3, e1, ?_, by rw [← e3]; exact h4, by rw [← e3]; exact h5⟩
  rw [e2]
  exact Nat.mul_mod_left _ _
theorem nt_b_0 {W N : Nat → Nat} {v a b c : Nat} (h0 : 1 ≤ W 0) (h : ∀ d, ¬ nt_ok W N v a b c d) : nt_b W N v a b c = 0 := by
  by_cases hb : nt_b W N v a b c = 0
  · exact hb
  · exact absurd (nt_b_ok hb) (h _)
/-- how many mixes: sums of sums -/
def nt_c2 (W N : Nat → Nat) (v a b : Nat) : Nat := nt_sm (nt_b W N v a b) 41
def nt_c1 (W N : Nat → Nat) (v a : Nat) : Nat := nt_sm (nt_c2 W N v a) 41
def nt_cnt (W N : Nat → Nat) (v : Nat) : Nat := nt_sm (nt_c1 W N v) 41
theorem nt_cnt_le (W N : Nat → Nat) (v : Nat) : nt_cnt W N v ≤ 68921 := by
  have h3 : ∀ a b, nt_c2 W N v a b ≤ 41 := fun a b => Nat.le_trans (nt_sm_le 41 (fun i _ => nt_b_le W N v a b i)) (by omega)
  have h2 : ∀ a, nt_c1 W N v a ≤ 1681 := fun a => Nat.le_trans (nt_sm_le 41 (fun i _ => h3 a i)) (by omega)
  exact Nat.le_trans (nt_sm_le 41 (fun i _ => h2 i)) (by omega)
theorem nt_cnt_pos {W N : Nat → Nat} {v a b c d : Nat} (h0 : 1 ≤ W 0) (h : nt_ok W N v a b c d) : 0 < nt_cnt W N v := by
  have hb := nt_b_of h0 h
  obtain ⟨-, -, -, -, h5, -⟩ := h
  exact nt_sm_pos (i := a) (by omega) (nt_sm_pos (i := b) (by omega) (nt_sm_pos (i := c) (by omega) (by omega)))
theorem nt_cnt_0 {W N : Nat → Nat} {v : Nat} (h0 : 1 ≤ W 0) (h : ∀ a b c d, ¬ nt_ok W N v a b c d) : nt_cnt W N v = 0 :=
  nt_sm_zero _ (fun a _ => nt_sm_zero _ (fun b _ => nt_sm_zero _ (fun c _ => nt_b_0 h0 (h a b c))))
/-! counting down -/
def nt_JA (W N : Nat → Nat) (v a mx : Nat) : Prop := mx + nt_sm (nt_c1 W N v) a = nt_cnt W N v
def nt_JB (W N : Nat → Nat) (v a b mx : Nat) : Prop := mx + nt_sm (nt_c1 W N v) a + nt_sm (nt_c2 W N v a) b = nt_cnt W N v
def nt_JC (W N : Nat → Nat) (v a b c mx : Nat) : Prop := mx + nt_sm (nt_c1 W N v) a + nt_sm (nt_c2 W N v a) b + nt_sm (nt_b W N v a b) c = nt_cnt W N v
theorem nt_JA_0 {W N : Nat → Nat} {v mx : Nat} (h : nt_JA W N v 0 mx) : mx = nt_cnt W N v := by
  have h1 : mx + nt_sm (nt_c1 W N v) 0 = nt_cnt W N v := h
  have h2 : nt_sm (nt_c1 W N v) 0 = 0 := rfl
  omega
theorem nt_JA_st {W N : Nat → Nat} {v n : Nat} (h0 : 1 ≤ W 0) (hn : n ≤ 41) (h : ∀ a b c d, nt_ok W N v a b c d → a < n) : nt_JA W N v n 0 := by
  have h1 : nt_cnt W N v = nt_sm (nt_c1 W N v) n := nt_sm_cut hn (fun a ha _ => nt_sm_zero _ (fun b _ => nt_sm_zero _ (fun c _ => nt_b_0 h0 (fun d q => by have := h a b c d q; omega))))
  show 0 + nt_sm (nt_c1 W N v) n = nt_cnt W N v
  omega
theorem nt_JA_B {W N : Nat → Nat} {v a n mx : Nat} (h0 : 1 ≤ W 0) (hn : n ≤ 41) (h : ∀ b c d, nt_ok W N v a b c d → b < n) (hJ : nt_JA W N v (a + 1) mx) : nt_JB W N v a n mx := by
  have h1 : nt_c1 W N v a = nt_sm (nt_c2 W N v a) n := nt_sm_cut hn (fun b hb _ => nt_sm_zero _ (fun c _ => nt_b_0 h0 (fun d q => by have := h b c d q; omega)))
  have h2 : mx + (nt_sm (nt_c1 W N v) a + nt_c1 W N v a) = nt_cnt W N v := hJ
  show mx + nt_sm (nt_c1 W N v) a + nt_sm (nt_c2 W N v a) n = nt_cnt W N v
  omega
theorem nt_JB_C {W N : Nat → Nat} {v a b n mx : Nat} (h0 : 1 ≤ W 0) (hn : n ≤ 41) (h : ∀ c d, nt_ok W N v a b c d → c < n) (hJ : nt_JB W N v a (b + 1) mx) : nt_JC W N v a b n mx := by
  have h1 : nt_c2 W N v a b = nt_sm (nt_b W N v a b) n := nt_sm_cut hn (fun c hc _ => nt_b_0 h0 (fun d q => by have := h c d q; omega))
  have h2 : mx + nt_sm (nt_c1 W N v) a + (nt_sm (nt_c2 W N v a) b + nt_c2 W N v a b) = nt_cnt W N v := hJ
  show mx + nt_sm (nt_c1 W N v) a + nt_sm (nt_c2 W N v a) b + nt_sm (nt_b W N v a b) n = nt_cnt W N v
  omega
theorem nt_JC_B {W N : Nat → Nat} {v a b mx : Nat} (hJ : nt_JC W N v a b 0 mx) : nt_JB W N v a b mx := by
  have h1 : nt_sm (nt_b W N v a b) 0 = 0 := rfl
  have h2 : mx + nt_sm (nt_c1 W N v) a + nt_sm (nt_c2 W N v a) b + nt_sm (nt_b W N v a b) 0 = nt_cnt W N v := hJ
  show mx + nt_sm (nt_c1 W N v) a + nt_sm (nt_c2 W N v a) b = nt_cnt W N v
  omega
theorem nt_JB_A {W N : Nat → Nat} {v a mx : Nat} (hJ : nt_JB W N v a 0 mx) : nt_JA W N v a mx := by
  have h1 : nt_sm (nt_c2 W N v a) 0 = 0 := rfl
  have h2 : mx + nt_sm (nt_c1 W N v) a + nt_sm (nt_c2 W N v a) 0 = nt_cnt W N v := hJ
  show mx + nt_sm (nt_c1 W N v) a = nt_cnt W N v
  omega
theorem nt_JC_s {W N : Nat → Nat} {v a b c mx k : Nat} (hb : nt_b W N v a b c = k) (hJ : nt_JC W N v a b (c + 1) mx) : nt_JC W N v a b c (mx + k) := by
  have h2 : mx + nt_sm (nt_c1 W N v) a + nt_sm (nt_c2 W N v a) b + (nt_sm (nt_b W N v a b) c + nt_b W N v a b c) = nt_cnt W N v := hJ
  show mx + k + nt_sm (nt_c1 W N v) a + nt_sm (nt_c2 W N v a) b + nt_sm (nt_b W N v a b) c = nt_cnt W N v
  omega
theorem nt_JC_le {W N : Nat → Nat} {v a b c mx : Nat} (hJ : nt_JC W N v a b c mx) : mx ≤ 68921 := by
  have h1 := nt_cnt_le W N v
  have h2 : mx + nt_sm (nt_c1 W N v) a + nt_sm (nt_c2 W N v a) b + nt_sm (nt_b W N v a b) c = nt_cnt W N v := hJ
  omega
/-! the best of what has been looked at (V): the fewest notes; of those the one with most of cassette 3, then of 2, then of 1 -/
def nt_lx (a b c x y z : Nat) : Prop := a < x ∨ (a = x ∧ (b < y ∨ (b = y ∧ c ≤ z)))
def nt_bi (W N : Nat → Nat) (v : Nat) (V : Nat → Nat → Nat → Prop) (f : Nat) (ch : Nat → Nat) : Prop :=
  f ≤ 41 ∧ (∀ a b c d, nt_ok W N v a b c d → V a b c → f ≤ a + b + c + d) ∧
  (f ≤ 40 → nt_ok W N v (ch 3) (ch 2) (ch 1) (ch 0) ∧ V (ch 3) (ch 2) (ch 1) ∧ ch 3 + ch 2 + ch 1 + ch 0 = f ∧
    ∀ a b c d, nt_ok W N v a b c d → V a b c → a + b + c + d = f → nt_lx a b c (ch 3) (ch 2) (ch 1))
theorem nt_bi_st {W N : Nat → Nat} {v : Nat} {V : Nat → Nat → Nat → Prop} {ch : Nat → Nat} (h : ∀ a b c d, nt_ok W N v a b c d → ¬ V a b c) : nt_bi W N v V 41 ch :=
  ⟨Nat.le_refl _, fun a b c d q hv => absurd hv (h a b c d q), fun h => by omega⟩
theorem nt_bi_mono {W N : Nat → Nat} {v f : Nat} {V V' : Nat → Nat → Nat → Prop} {ch : Nat → Nat} (h : nt_bi W N v V f ch) (h1 : ∀ x y z, V x y z → V' x y z) (h2 : ∀ x y z d, nt_ok W N v x y z d → V' x y z → V x y z) : nt_bi W N v V' f ch := by
  obtain ⟨g1, g2, g3⟩ := h
  refine ⟨g1, fun a b c d q hv => g2 a b c d q (h2 a b c d q hv), fun hf => ?_⟩
  obtain ⟨k1, k2, k3, k4⟩ := g3 hf
  exact ⟨k1, h1 _ _ _ k2, k3, fun a b c d q hv => k4 a b c d q (h2 a b c d q hv)⟩
/-- one more is looked at: as many notes or more -/
theorem nt_bi_keep {W N : Nat → Nat} {v f a b c d : Nat} {V V' : Nat → Nat → Nat → Prop} {ch : Nat → Nat} (h0 : 1 ≤ W 0) (h : nt_bi W N v V f ch) (hq : nt_ok W N v a b c d) (hf : f ≤ a + b + c + d) (h1 : ∀ x y z, V x y z → V' x y z) (h2 : ∀ x y z, V' x y z → V x y z ∨ (x = a ∧ y = b ∧ z = c)) (h3 : ∀ x y z, V x y z → nt_lx a b c x y z) : nt_bi W N v V' f ch := by
  obtain ⟨g1, g2, g3⟩ := h
  have hd := (nt_ok_d h0 hq).2.2
  refine ⟨g1, fun x y z t q hv => ?_, fun hf4 => ?_⟩
  · rcases h2 x y z hv with hv | ⟨rfl, rfl, rfl⟩
    · exact g2 x y z t q hv
    · have ht := (nt_ok_d h0 q).2.2
      rw [ht, ← hd]; exact hf
  · obtain ⟨k1, k2, k3, k4⟩ := g3 hf4
    refine ⟨k1, h1 _ _ _ k2, k3, fun x y z t q hv e => ?_⟩
    rcases h2 x y z hv with hv | ⟨rfl, rfl, rfl⟩
    · exact k4 x y z t q hv e
    · exact h3 _ _ _ k2
/-- one more is looked at: fewer notes -/
theorem nt_bi_take {W N : Nat → Nat} {v f a b c d : Nat} {V V' : Nat → Nat → Nat → Prop} {ch ch' : Nat → Nat} (h0 : 1 ≤ W 0) (h : nt_bi W N v V f ch) (hq : nt_ok W N v a b c d) (hf : a + b + c + d < f) (h1 : V' a b c) (h2 : ∀ x y z, V' x y z → V x y z ∨ (x = a ∧ y = b ∧ z = c)) (e3 : ch' 3 = a) (e2 : ch' 2 = b) (e1 : ch' 1 = c) (e0 : ch' 0 = d) : nt_bi W N v V' (a + b + c + d) ch' := by
  obtain ⟨g1, g2, g3⟩ := h
  have hd := (nt_ok_d h0 hq).2.2
  refine ⟨by omega, fun x y z t q hv => ?_, fun _ => ?_⟩
  · rcases h2 x y z hv with hv | ⟨rfl, rfl, rfl⟩
    · have := g2 x y z t q hv; omega
    · have ht := (nt_ok_d h0 q).2.2
      rw [ht, ← hd]; exact Nat.le_refl _
  · rw [e3, e2, e1, e0]
    refine ⟨hq, h1, rfl, fun x y z t q hv e => ?_⟩
    rcases h2 x y z hv with hv | ⟨rfl, rfl, rfl⟩
    · have := g2 x y z t q hv; omega
    · exact Or.inr ⟨rfl, Or.inr ⟨rfl, Nat.le_refl _⟩⟩
/-- all have been looked at -/
def nt_bst (W N : Nat → Nat) (v f : Nat) (ch : Nat → Nat) : Prop := nt_bi W N v (fun _ _ _ => True) f ch
theorem nt_bst_41 {W N : Nat → Nat} {v f : Nat} {ch : Nat → Nat} (h : nt_bst W N v f ch) : f = 41 ↔ ∀ a b c d, ¬ nt_ok W N v a b c d := by
  obtain ⟨g1, g2, g3⟩ := h
  constructor
  · intro e a b c d q
    have h1 := g2 a b c d q trivial
    obtain ⟨-, -, -, -, h5, -⟩ := q
    omega
  · intro hn
    by_cases h4 : f ≤ 40
    · exact absurd (g3 h4).1 (hn _ _ _ _)
    · omega
theorem nt_bst_cnt {W N : Nat → Nat} {v f : Nat} {ch : Nat → Nat} (h0 : 1 ≤ W 0) (h : nt_bst W N v f ch) : nt_cnt W N v = 0 ↔ f = 41 := by
  rw [nt_bst_41 h]
  constructor
  · intro e a b c d q
    have := nt_cnt_pos h0 q
    omega
  · exact fun hn => nt_cnt_0 h0 hn
theorem nt_bst_f {W N : Nat → Nat} {v f g : Nat} {ch cg : Nat → Nat} (h : nt_bst W N v f ch) (k : nt_bst W N v g cg) : f = g := by
  obtain ⟨h1, h2, h3⟩ := h
  obtain ⟨k1, k2, k3⟩ := k
  by_cases hf : f ≤ 40
  · obtain ⟨q1, -, q2, -⟩ := h3 hf
    have a1 := k2 _ _ _ _ q1 trivial
    obtain ⟨r1, -, r2, -⟩ := k3 (by omega)
    have a2 := h2 _ _ _ _ r1 trivial
    omega
  · by_cases hg : g ≤ 40
    · obtain ⟨r1, -, r2, -⟩ := k3 hg
      have a2 := h2 _ _ _ _ r1 trivial
      omega
    · omega
theorem nt_bst_ch {W N : Nat → Nat} {v f g : Nat} {ch cg : Nat → Nat} (h : nt_bst W N v f ch) (k : nt_bst W N v g cg) (hf : f ≤ 40) : ch 3 = cg 3 ∧ ch 2 = cg 2 ∧ ch 1 = cg 1 ∧ ch 0 = cg 0 := by
  have e := nt_bst_f h k
  subst e
  obtain ⟨-, -, h3⟩ := h
  obtain ⟨-, -, k3⟩ := k
  obtain ⟨q1, -, q2, q3⟩ := h3 hf
  obtain ⟨r1, -, r2, r3⟩ := k3 hf
  have a1 := q3 _ _ _ _ r1 trivial r2
  have a2 := r3 _ _ _ _ q1 trivial q2
  unfold nt_lx at a1 a2
  omega
end
section
/-! The rows of fewest notes, and what is read off them. -/
def nt_ls (g : Nat → Nat) : Nat → Nat
  | 0 => 41
  | k + 1 => min (nt_ls g k) (g k)
theorem nt_ls_41 (g : Nat → Nat) : ∀ k, nt_ls g k ≤ 41
  | 0 => Nat.le_refl _
  | k + 1 => by
    have := nt_ls_41 g k
    show min (nt_ls g k) (g k) ≤ 41
    omega
theorem nt_ls_le {g : Nat → Nat} {i : Nat} : ∀ {k : Nat}, i < k → nt_ls g k ≤ g i
  | 0, h => by omega
  | k + 1, h => by
    show min (nt_ls g k) (g k) ≤ g i
    by_cases hi : i = k
    · subst hi; omega
    · have : nt_ls g k ≤ g i := nt_ls_le (by omega)
      omega
theorem nt_ls_at {g : Nat → Nat} : ∀ {k : Nat}, nt_ls g k ≤ 40 → ∃ i, i < k ∧ nt_ls g k = g i
  | 0, h => by
    have h1 : (41 : Nat) ≤ 40 := h
    omega
  | k + 1, h => by
    have h1 : min (nt_ls g k) (g k) ≤ 40 := h
    show ∃ i, i < k + 1 ∧ min (nt_ls g k) (g k) = g i
    by_cases hm : nt_ls g k ≤ g k
    · obtain ⟨i, hi, e⟩ := nt_ls_at (g := g) (k := k) (by omega)
      exact ⟨i, by omega, by omega⟩
    · exact ⟨k, by omega, by omega⟩
/-- fewest notes of the first so many cassettes for an amount; 41: there is none of forty at most -/
def nt_rw (W N : Nat → Nat) : Nat → Nat → Nat
  | 0, v => if v = 0 then 0 else 41
  | c + 1, v => nt_ls (fun k => nt_rw W N c (v - k * W c) + k) (min (min (N c) 40) (v / W c) + 1)
theorem nt_rw_41 (W N : Nat → Nat) (c v : Nat) : nt_rw W N c v ≤ 41 := by
  cases c with
  | zero =>
    show (if v = 0 then 0 else 41) ≤ 41
    split <;> omega
  | succ c => exact nt_ls_41 _ _
theorem nt_rw_le {W N : Nat → Nat} {c v k : Nat} (hW : 1 ≤ W c) (h1 : k ≤ N c) (h2 : k ≤ 40) (h3 : k * W c ≤ v) : nt_rw W N (c + 1) v ≤ nt_rw W N c (v - k * W c) + k := by
  have h4 : k ≤ v / W c := (Nat.le_div_iff_mul_le hW).mpr h3
  exact nt_ls_le (g := fun k => nt_rw W N c (v - k * W c) + k) (i := k) (by omega)
theorem nt_rw_at {W N : Nat → Nat} {c v : Nat} (hW : 1 ≤ W c) (h : nt_rw W N (c + 1) v ≤ 40) : ∃ k, k ≤ N c ∧ k ≤ 40 ∧ k * W c ≤ v ∧ nt_rw W N (c + 1) v = nt_rw W N c (v - k * W c) + k := by
  obtain ⟨k, hk, e⟩ := nt_ls_at (g := fun k => nt_rw W N c (v - k * W c) + k) h
  have h4 : k ≤ v / W c := by omega
  exact ⟨k, by omega, by omega, (Nat.le_div_iff_mul_le hW).mp h4, e⟩
/-- the most of cassette c that a mix of 'left' notes of cassettes 0 to c for 'am' can hold -/
def nt_sl (W N : Nat → Nat) (c am left k : Nat) : Prop := k ≤ N c ∧ k ≤ left ∧ k * W c ≤ am ∧ nt_rw W N c (am - k * W c) = left - k
def nt_gk (W N : Nat → Nat) (c am left k : Nat) : Prop := nt_sl W N c am left k ∧ ∀ j, k < j → ¬ nt_sl W N c am left j
theorem nt_sl_ex {W N : Nat → Nat} {c am left : Nat} (hW : 1 ≤ W c) (h : nt_rw W N (c + 1) am = left) (h4 : left ≤ 40) : ∃ k, nt_sl W N c am left k := by
  obtain ⟨k, h1, h2, h3, e⟩ := nt_rw_at (W := W) (N := N) (c := c) (v := am) hW (by omega)
  exact ⟨k, h1, by omega, h3, by omega⟩
theorem nt_rw_1 {W N : Nat → Nat} {d : Nat} (hW : 1 ≤ W 0) (h1 : d ≤ N 0) (h2 : d ≤ 40) : nt_rw W N 1 (d * W 0) ≤ d := by
  have h : nt_rw W N 1 (d * W 0) ≤ nt_rw W N 0 (d * W 0 - d * W 0) + d := nt_rw_le (W := W) (N := N) (c := 0) (v := d * W 0) (k := d) hW h1 h2 (Nat.le_refl _)
  rw [Nat.sub_self] at h
  have e : nt_rw W N 0 0 = 0 := rfl
  omega
theorem nt_rw_s {W N : Nat → Nat} {c k r n : Nat} (hW : 1 ≤ W c) (h1 : k ≤ N c) (h2 : k ≤ 40) (hr : nt_rw W N c r ≤ n) : nt_rw W N (c + 1) (k * W c + r) ≤ k + n := by
  have h := nt_rw_le (W := W) (N := N) (c := c) (v := k * W c + r) (k := k) hW h1 h2 (Nat.le_add_right _ _)
  rw [Nat.add_sub_cancel_left] at h
  omega
theorem nt_ok_rw {W N : Nat → Nat} {v a b c d : Nat} (hW : ∀ i, i < 4 → 1 ≤ W i) (h : nt_ok W N v a b c d) :
    nt_rw W N 4 v ≤ a + b + c + d ∧ a * W 3 ≤ v ∧ nt_rw W N 3 (v - a * W 3) ≤ b + c + d ∧ b * W 2 ≤ v - a * W 3 ∧ nt_rw W N 2 (v - a * W 3 - b * W 2) ≤ c + d ∧ c * W 1 ≤ v - a * W 3 - b * W 2 ∧ nt_rw W N 1 (v - a * W 3 - b * W 2 - c * W 1) ≤ d ∧ d * W 0 = v - a * W 3 - b * W 2 - c * W 1 := by
  obtain ⟨h1, h2, h3, h4, h5, h6⟩ := h
  have r1 := nt_rw_1 (W := W) (N := N) (d := d) (hW 0 (by omega)) h4 (by omega)
  have r2 : nt_rw W N 2 (c * W 1 + d * W 0) ≤ c + d := nt_rw_s (W := W) (N := N) (c := 1) (k := c) (hW 1 (by omega)) h3 (by omega) r1
  have r3 : nt_rw W N 3 (b * W 2 + (c * W 1 + d * W 0)) ≤ b + (c + d) := nt_rw_s (W := W) (N := N) (c := 2) (k := b) (hW 2 (by omega)) h2 (by omega) r2
  have r4 : nt_rw W N 4 (a * W 3 + (b * W 2 + (c * W 1 + d * W 0))) ≤ a + (b + (c + d)) := nt_rw_s (W := W) (N := N) (c := 3) (k := a) (hW 3 (by omega)) h1 (by omega) r3
  have e3 : v - a * W 3 = b * W 2 + (c * W 1 + d * W 0) := by omega
  have e2 : v - a * W 3 - b * W 2 = c * W 1 + d * W 0 := by omega
  have e1 : v - a * W 3 - b * W 2 - c * W 1 = d * W 0 := by omega
  have e4 : a * W 3 + (b * W 2 + (c * W 1 + d * W 0)) = v := by omega
  rw [e1, e2, e3]
  rw [e4] at r4
  exact ⟨by omega, by omega, by omega, by omega, r2, by omega, r1, rfl⟩
/-- no mix: whatever was chosen before -/
theorem nt_bst_no {W N : Nat → Nat} {v : Nat} {ch : Nat → Nat} (hW : ∀ i, i < 4 → 1 ≤ W i) (h : nt_rw W N 4 v = 41) : nt_bst W N v 41 ch :=
  nt_bi_st (fun a b c d q _ => by
    have h1 := (nt_ok_rw hW q).1
    obtain ⟨-, -, -, -, h5, -⟩ := q
    omega)
/-- what is read off the rows from the last cassette on is the best -/
theorem nt_bst_gk {W N : Nat → Nat} {v f : Nat} {ch : Nat → Nat} (hW : ∀ i, i < 4 → 1 ≤ W i) (hf : nt_rw W N 4 v = f) (h4 : f ≤ 40) (h3 : nt_gk W N 3 v f (ch 3)) (h2 : nt_gk W N 2 (v - ch 3 * W 3) (f - ch 3) (ch 2))
    (h1 : nt_gk W N 1 (v - ch 3 * W 3 - ch 2 * W 2) (f - ch 3 - ch 2) (ch 1)) (h0 : nt_gk W N 0 (v - ch 3 * W 3 - ch 2 * W 2 - ch 1 * W 1) (f - ch 3 - ch 2 - ch 1) (ch 0)) : nt_bst W N v f ch := by
  obtain ⟨⟨a1, a2, a3, a4⟩, a5⟩ := h3
  obtain ⟨⟨b1, b2, b3, b4⟩, b5⟩ := h2
  obtain ⟨⟨c1, c2, c3, c4⟩, c5⟩ := h1
  obtain ⟨⟨d1, d2, d3, d4⟩, d5⟩ := h0
  have dz : v - ch 3 * W 3 - ch 2 * W 2 - ch 1 * W 1 - ch 0 * W 0 = 0 := by
    have e : (if v - ch 3 * W 3 - ch 2 * W 2 - ch 1 * W 1 - ch 0 * W 0 = 0 then 0 else 41) = f - ch 3 - ch 2 - ch 1 - ch 0 := d4
    by_cases hz : v - ch 3 * W 3 - ch 2 * W 2 - ch 1 * W 1 - ch 0 * W 0 = 0
    · exact hz
    · rw [if_neg hz] at e
      omega
  have dl : f - ch 3 - ch 2 - ch 1 - ch 0 = 0 := by
    have e : nt_rw W N 0 (v - ch 3 * W 3 - ch 2 * W 2 - ch 1 * W 1 - ch 0 * W 0) = f - ch 3 - ch 2 - ch 1 - ch 0 := d4
    rw [dz] at e
    have e0 : nt_rw W N 0 0 = 0 := rfl
    omega
  refine ⟨by omega, fun a b c d q _ => ?_, fun _ => ?_⟩
  · rw [← hf]; exact (nt_ok_rw hW q).1
  · refine ⟨⟨a1, b1, c1, d1, by omega, by omega⟩, trivial, by omega, fun a b c d q _ e => ?_⟩
    obtain ⟨q1, q2, q3, q4, q5, q6, q7, q8⟩ := nt_ok_rw hW q
    obtain ⟨k1, k2, k3, k4, k5, -⟩ := q
    have s3 : nt_sl W N 3 v f a := by
      refine ⟨k1, by omega, q2, ?_⟩
      have := nt_rw_le (W := W) (N := N) (c := 3) (v := v) (k := a) (hW 3 (by omega)) k1 (by omega) q2
      have e4 : nt_rw W N (3 + 1) v = f := hf
      omega
    have l3 : a ≤ ch 3 := Nat.le_of_not_lt (fun h => a5 a h s3)
    unfold nt_lx
    by_cases ea : a = ch 3
    · subst ea
      have s2 : nt_sl W N 2 (v - ch 3 * W 3) (f - ch 3) b := by
        refine ⟨k2, by omega, q4, ?_⟩
        have := nt_rw_le (W := W) (N := N) (c := 2) (v := v - ch 3 * W 3) (k := b) (hW 2 (by omega)) k2 (by omega) q4
        have e4 : nt_rw W N (2 + 1) (v - ch 3 * W 3) = f - ch 3 := a4
        omega
      have l2 : b ≤ ch 2 := Nat.le_of_not_lt (fun h => b5 b h s2)
      by_cases eb : b = ch 2
      · subst eb
        have s1 : nt_sl W N 1 (v - ch 3 * W 3 - ch 2 * W 2) (f - ch 3 - ch 2) c := by
          refine ⟨k3, by omega, q6, ?_⟩
          have := nt_rw_le (W := W) (N := N) (c := 1) (v := v - ch 3 * W 3 - ch 2 * W 2) (k := c) (hW 1 (by omega)) k3 (by omega) q6
          have e4 : nt_rw W N (1 + 1) (v - ch 3 * W 3 - ch 2 * W 2) = f - ch 3 - ch 2 := b4
          omega
        have l1 : c ≤ ch 1 := Nat.le_of_not_lt (fun h => c5 c h s1)
        exact Or.inr ⟨rfl, Or.inr ⟨rfl, l1⟩⟩
      · exact Or.inr ⟨rfl, Or.inl (by omega)⟩
    · exact Or.inl (by omega)
/-- of the solutions below a bound there is a greatest -/
theorem nt_gk_ex {W N : Nat → Nat} {c am left : Nat} (h : ∃ k, nt_sl W N c am left k) : ∃ k, nt_gk W N c am left k := by
  have key : ∀ n, (∃ k, nt_sl W N c am left k ∧ left ≤ k + n) → ∃ k, nt_gk W N c am left k := by
    intro n
    induction n with
    | zero =>
      intro ⟨k, hk, hl⟩
      exact ⟨k, hk, fun j hj hs => by have := hs.2.1; omega⟩
    | succ n ih =>
      intro ⟨k, hk, hl⟩
      by_cases hx : ∃ j, k < j ∧ nt_sl W N c am left j
      · obtain ⟨j, hj, hs⟩ := hx
        exact ih ⟨j, hs, by omega⟩
      · exact ⟨k, hk, fun j hj hs => hx ⟨j, hj, hs⟩⟩
  obtain ⟨k, hk⟩ := h
  exact key left ⟨k, hk, by omega⟩
/-- there is a best, with the rows' number -/
theorem nt_bst_ex {W N : Nat → Nat} (hW : ∀ i, i < 4 → 1 ≤ W i) (v : Nat) : ∃ ch, nt_bst W N v (nt_rw W N 4 v) ch := by
  by_cases h : nt_rw W N 4 v = 41
  · exact ⟨fun _ => 0, by rw [h]; exact nt_bst_no hW h⟩
  · have h41 := nt_rw_41 W N 4 v
    obtain ⟨k3, g3⟩ := nt_gk_ex (nt_sl_ex (W := W) (N := N) (c := 3) (am := v) (left := nt_rw W N 4 v) (hW 3 (by omega)) rfl (by omega))
    have e3 := g3.1.2.2.2
    have l3 := g3.1.2.1
    obtain ⟨k2, g2⟩ := nt_gk_ex (nt_sl_ex (W := W) (N := N) (c := 2) (hW 2 (by omega)) e3 (by omega))
    have e2 := g2.1.2.2.2
    have l2 := g2.1.2.1
    obtain ⟨k1, g1⟩ := nt_gk_ex (nt_sl_ex (W := W) (N := N) (c := 1) (hW 1 (by omega)) e2 (by omega))
    have e1 := g1.1.2.2.2
    have l1 := g1.1.2.1
    obtain ⟨k0, g0⟩ := nt_gk_ex (nt_sl_ex (W := W) (N := N) (c := 0) (hW 0 (by omega)) e1 (by omega))
    exact ⟨fun i => if i = 3 then k3 else if i = 2 then k2 else if i = 1 then k1 else k0, nt_bst_gk hW rfl (by omega) g3 g2 g1 g0⟩
theorem nt_bst_rw {W N : Nat → Nat} {v f : Nat} {ch : Nat → Nat} (hW : ∀ i, i < 4 → 1 ≤ W i) (h : nt_bst W N v f ch) : f = nt_rw W N 4 v := by
  obtain ⟨cg, k⟩ := nt_bst_ex (N := N) hW v
  exact nt_bst_f h k
/-- 1: there is a mix -/
def nt_hs (W N : Nat → Nat) (v : Nat) : Nat := if nt_rw W N 4 v = 41 then 0 else 1
theorem nt_hs_1 {W N : Nat → Nat} {v a b c d : Nat} (hW : ∀ i, i < 4 → 1 ≤ W i) (h : nt_ok W N v a b c d) : nt_hs W N v = 1 := by
  have h1 := (nt_ok_rw hW h).1
  obtain ⟨-, -, -, -, h5, -⟩ := h
  unfold nt_hs
  rw [if_neg (by omega)]
theorem nt_hs_0 {W N : Nat → Nat} {v : Nat} (hW : ∀ i, i < 4 → 1 ≤ W i) (h : ∀ a b c d, ¬ nt_ok W N v a b c d) : nt_hs W N v = 0 := by
  obtain ⟨ch, k⟩ := nt_bst_ex (N := N) hW v
  unfold nt_hs
  rw [if_pos ((nt_bst_41 k).mpr h)]
theorem nt_hs_le (W N : Nat → Nat) (v : Nat) : nt_hs W N v ≤ 1 := by
  unfold nt_hs; split <;> omega
/-! which amounts have a mix: what has been marked (V) -/
def nt_ci (W N : Nat → Nat) (V : Nat → Nat → Nat → Nat → Prop) (can : Nat → Int32) : Prop :=
  ∀ j, j ≤ 2000 → (can j = 1 ∧ ∃ a b c d, nt_ok W N j a b c d ∧ V a b c d) ∨ (can j = 0 ∧ ∀ a b c d, nt_ok W N j a b c d → ¬ V a b c d)
theorem nt_ci_mono {W N : Nat → Nat} {V V' : Nat → Nat → Nat → Nat → Prop} {can : Nat → Int32} (h : nt_ci W N V can) (h1 : ∀ x y z t, V x y z t → V' x y z t) (h2 : ∀ j x y z t, j ≤ 2000 → nt_ok W N j x y z t → V' x y z t → V x y z t) : nt_ci W N V' can := by
  intro j hj
  rcases h j hj with ⟨e, a, b, c, d, q, hv⟩ | ⟨e, hn⟩
  · exact Or.inl ⟨e, a, b, c, d, q, h1 _ _ _ _ hv⟩
  · exact Or.inr ⟨e, fun a b c d q hv => hn a b c d q (h2 j a b c d hj q hv)⟩
theorem nt_ci_put {W N : Nat → Nat} {V V' : Nat → Nat → Nat → Nat → Prop} {can can' : Nat → Int32} {v a b c d : Nat} (h : nt_ci W N V can) (hq : nt_ok W N v a b c d) (e1 : can' v = 1) (e2 : ∀ j, j ≠ v → can' j = can j) (h1 : ∀ x y z t, V x y z t → V' x y z t) (h2 : V' a b c d) (h3 : ∀ x y z t, V' x y z t → V x y z t ∨ (x = a ∧ y = b ∧ z = c ∧ t = d)) : nt_ci W N V' can' := by
  intro j hj
  by_cases hjv : j = v
  · subst hjv
    exact Or.inl ⟨e1, a, b, c, d, hq, h2⟩
  · rw [e2 j hjv]
    rcases h j hj with ⟨e, x, y, z, t, q, hv⟩ | ⟨e, hn⟩
    · exact Or.inl ⟨e, x, y, z, t, q, h1 _ _ _ _ hv⟩
    · refine Or.inr ⟨e, fun x y z t q hv => ?_⟩
      rcases h3 x y z t hv with hv | ⟨rfl, rfl, rfl, rfl⟩
      · exact hn x y z t q hv
      · obtain ⟨-, -, -, -, -, q6⟩ := q
        obtain ⟨-, -, -, -, -, k6⟩ := hq
        omega
theorem nt_ci_hs {W N : Nat → Nat} {can : Nat → Int32} {V : Nat → Nat → Nat → Nat → Prop} (hW : ∀ i, i < 4 → 1 ≤ W i) (h : nt_ci W N V can) (hV : ∀ j a b c d, nt_ok W N j a b c d → V a b c d) : ∀ j, j ≤ 2000 → can j = nI (nt_hs W N j) := by
  intro j hj
  rcases h j hj with ⟨e, a, b, c, d, q, -⟩ | ⟨e, hn⟩
  · rw [e, nt_hs_1 hW q]; rfl
  · rw [e, nt_hs_0 hW (fun a b c d q => hn a b c d q (hV j a b c d q))]; rfl
/-! paying out -/
def nt_up (f : Nat → Nat) (k x : Nat) : Nat → Nat := fun j => if j = k then x else f j
def nt_py (W ch : Nat → Nat) : Nat → (Nat → Nat) → Nat → Nat → (Nat → Nat) × Nat
  | 0, N, _, out => (N, out)
  | r + 1, N, left, out => nt_py W ch r (nt_up N r (N r - min (ch r) left)) (left - min (ch r) left) (out + min (ch r) left * W r)
theorem nt_py_eq {W ch cg : Nat → Nat} : ∀ (r : Nat) (N : Nat → Nat) (left out : Nat), (∀ i, i < r → ch i = cg i) → nt_py W ch r N left out = nt_py W cg r N left out
  | 0, _, _, _, _ => rfl
  | r + 1, N, left, out, h => by
    have h1 : ch r = cg r := h r (by omega)
    show nt_py W ch r (nt_up N r (N r - min (ch r) left)) (left - min (ch r) left) (out + min (ch r) left * W r) = nt_py W cg r (nt_up N r (N r - min (cg r) left)) (left - min (cg r) left) (out + min (cg r) left * W r)
    rw [h1]
    exact nt_py_eq r _ _ _ (fun i hi => h i (by omega))
theorem nt_py_le {W ch : Nat → Nat} : ∀ (r : Nat) (N : Nat → Nat) (left out : Nat) (i : Nat), (nt_py W ch r N left out).1 i ≤ N i
  | 0, _, _, _, _ => Nat.le_refl _
  | r + 1, N, left, out, i => by
    have h := nt_py_le (W := W) (ch := ch) r (nt_up N r (N r - min (ch r) left)) (left - min (ch r) left) (out + min (ch r) left * W r) i
    refine Nat.le_trans h ?_
    unfold nt_up
    split
    · rename_i e; subst e; omega
    · exact Nat.le_refl _
/-- all that the cassettes hold -/
def nt_vl (W N : Nat → Nat) : Nat → Int32
  | 0 => 0
  | n + 1 => nt_vl W N n + nI (N n) * nI (W n)
/-- what a call of one amount throws: 1: the amount is out of range; 2: there is no mix -/
def nt_cd (W N : Nat → Nat) (v : Nat) : Nat := if nt_rw W N 4 v = 41 then 2 else 0
end
section
/-! A small kit for methods that throw: a contract that returns OR throws, calls with two ways on, leaving by a throw, catching. -/
section XKA
variable {p : Program} {l : Launch} {e : Env} {R : Room} {s : State} {m : MethodId} {args : Array Value} {below : List Frame} {meth : Method} {c : Code} {H : Heap} {locs : List Loc} {cells slots : Nat} {Q : State → Prop}
theorem xk_mono {Q' : State → Prop} {g : JFrame} (h : ∀ t, Q t → Q' t) (k : W p l e R s m args below meth c H locs cells slots Q g) : W p l e R s m args below meth c H locs cells slots Q' g := by
  intro T hT X
  obtain ⟨t, a, b⟩ := k T hT X
  exact ⟨t, a, h t b⟩
/-- what a call leaves: warmer tables; at most k new cells of n slots; of the old slots those of L written -/
def xk_F (st t : State) (L : List Loc) (k n : Nat) : Prop := st.WarmedH t.vm ∧ st.sameButNew ({ t with vm := st.vm } : State) L k n
/-- what a call may make: z where it returns, the whole room where it throws -/
def xk_k (rm : Room) (z : Nat × Nat) : Outcome → Nat × Nat
  | .returned _ => z
  | .threw _ => (rm.cells, rm.slots)
/-- a contract, throws and all: 'free' names the cells that it may change -/
def Ct (l : Launch) (y : MethodName) (cd : Cond) (rm : Room) (z : Nat × Nat) (Pc : Array Value → State → Prop) (Qc : Array Value → State → Outcome → State → Prop) (free : Nat → Prop) : Prop :=
  MetFree l y (headSpec (cd :: tb) rm) Pc (fun _ _ _ _ _ => True) (fun a st o t => Qc a st o t ∧ va_F free st t ∧ ∃ L, xk_F st t L (xk_k rm z o).1 (xk_k rm z o).2 ∧ ∀ q ∈ L, free q.base)
def xk_Q (below : List Frame) (Qc : Array Value → State → Outcome → State → Prop) (a : Array Value) (s : State) (rm : Room) (z : Nat × Nat) (free : Nat → Prop) : State → Prop := fun t =>
  ∃ o, t.status = .running ∧ Ended t below o ∧ Qc a s o t ∧ va_F free s t ∧ ∃ L, xk_F s t L (xk_k rm z o).1 (xk_k rm z o).2 ∧ ∀ q ∈ L, free q.base
/-- what a body's walk starts with -/
def xk_B (p : Program) (s : State) (m : MethodId) (args : Array Value) (meth : Method) (c : Code) (y : MethodName) (cc : ByteArray) (nL : Nat) (ret : Option FieldType) (hh : List (Nat × Nat × Nat × Nat)) : Prop :=
  CallFix p m c cc nL s args tb y.cls ∧ meth.sig.returnType = ret ∧ meth.locks = false ∧ meth.name = y.name ∧ c.exceptionTable.toList.map (fun h => (h.startPc, h.endPc, h.handlerPc, h.catchType)) = hh
theorem Ct.ofW {y : MethodName} {rm : Room} {z : Nat × Nat} {Pc : Array Value → State → Prop} {Qc : Array Value → State → Outcome → State → Prop} {free : Nat → Prop} {cc : ByteArray} {maxL : Nat} {ret : Option FieldType} (hy : plainName y.cls = true)
    (body : ∀ p e s m args below meth c, xk_B p s m args meth c y cc maxL ret [] → Pc args s → W p l e rm s m args below meth c s.heap [] 0 0 (xk_Q below Qc args s rm z free) (entryFrame m args maxL)) : Ct l y (.code y cc maxL ret) rm z Pc Qc free := by
  refine MetFree.of_bodyS (code := cc) (maxLocals := maxL) (ret := ret) hy ?_ ?_
  · intro args s m h hn
    obtain ⟨meth, c, h1, h2, h3, h4, h5, h6, -, -⟩ := Cond.code_spec hn (atoms_spec (ws := Cond.code y cc maxL ret :: tb) h _ List.mem_cons_self)
    exact ⟨meth, c, h1, h2, h3, h4, h5, h6⟩
  · intro p e s m args below meth c s₁ B hml hP _
    have hts := atoms_spec (ws := Cond.code y cc maxL ret :: tb) B.pre
    have hnh := BodyLoose.noHandlers B (hts _ List.mem_cons_self)
    have hh0 : s₁.heap = s.heap := by rw [B.state]; rfl
    have he : c.exceptionTable.toList.map (fun h => (h.startPc, h.endPc, h.handlerPc, h.catchType)) = [] := by
      have h0 : c.exceptionTable.size = 0 := by simpa [Array.isEmpty] using hnh
      have h1 : c.exceptionTable.toList = [] := List.eq_nil_of_length_eq_zero (by simpa using h0)
      rw [h1]; rfl
    obtain ⟨t, a1, o, b1, b2, b3⟩ := body p e s m args below meth c ⟨⟨B.exec, B.bytes, hml, findClass_of_methodNamed B.named, fun w hw => hts w (List.mem_cons_of_mem _ hw)⟩, B.returns, B.notSynchronized, (name_of_methodNamed B.named B.method).1, he⟩ hP s₁ hh0 (Stand.of_body B)
    exact ⟨t, o, a1, b1, b2, b3⟩
theorem Ct.ofWW {y : MethodName} {rm : Room} {z : Nat × Nat} {Pc : Array Value → State → Prop} {Qc : Array Value → State → Outcome → State → Prop} {free : Nat → Prop} {cc : ByteArray} {maxL : Nat} {ret : Option FieldType} {hh : List (Nat × Nat × Nat × Nat)} (hy : plainName y.cls = true)
    (body : ∀ p e s m args below meth c, xk_B p s m args meth c y cc maxL ret hh → Pc args s → W p l e rm s m args below meth c s.heap [] 0 0 (xk_Q below Qc args s rm z free) (entryFrame m args maxL)) : Ct l y (.codeWith y cc maxL ret hh) rm z Pc Qc free := by
  refine MetFree.of_bodyS (code := cc) (maxLocals := maxL) (ret := ret) hy ?_ ?_
  · intro args s m h hn
    obtain ⟨m9, meth, c, hn9, h1, h2, h3, h4, -, h5, h6, -⟩ := Cond.codeWith_spec (atoms_spec (ws := Cond.codeWith y cc maxL ret hh :: tb) h _ List.mem_cons_self)
    cases hn.symm.trans hn9
    exact ⟨meth, c, h1, h2, h3, h4, h5, h6⟩
  · intro p e s m args below meth c s₁ B hml hP _
    have hts := atoms_spec (ws := Cond.codeWith y cc maxL ret hh :: tb) B.pre
    obtain ⟨m9, meth9, c9, hn9, h1, h2, -, -, he, -, -, -⟩ := Cond.codeWith_spec (hts _ List.mem_cons_self)
    have hh0 : s₁.heap = s.heap := by rw [B.state]; rfl
    have X := Stand.of_body B
    cases B.named.symm.trans hn9
    cases B.method.symm.trans h1
    cases X.code.symm.trans h2
    obtain ⟨t, a1, o, b1, b2, b3⟩ := body p e s m args below meth c ⟨⟨B.exec, B.bytes, hml, findClass_of_methodNamed B.named, fun w hw => hts w (List.mem_cons_of_mem _ hw)⟩, B.returns, B.notSynchronized, (name_of_methodNamed B.named B.method).1, he⟩ hP s₁ hh0 X
    exact ⟨t, o, a1, b1, b2, b3⟩
/-! ends -/
theorem x_iret {y : MethodName} {cc : ByteArray} {nL : Nat} {hh : List (Nat × Nat × Nat × Nat)} {Qc : Array Value → State → Outcome → State → Prop} {A : Nat → Prop} {rm : Room} {z : Nat × Nat} {v : Int32} (B : xk_B p s m args meth c y cc nL (some .int) hh) (hS : va_S A s.heap H locs) (hc : cells ≤ z.1) (hs : slots ≤ z.2)
    (hq : ∀ t : State, t.heap = H → s.WarmedH t.vm → Qc args s (.returned (some (.int v))) t) {pc : Nat} {ls : Array Slot} (hdg : decode cc pc = .ok (.ireturn, 1)) : W p l e R s m args below meth c H locs cells slots (xk_Q below Qc args s rm z A) (F0 m pc ls [.int v]) := by
  refine W.widen (k := z.1) (n := z.2) hc hs ?_
  refine xk_mono ?_ (W.iret (Qc := fun a st o t => Qc a st o t ∧ va_F A st t) (free := A) B.1.1 B.1.2.1 B.2.1 (fun t ht hW => ⟨hq t ht hW, hS.F ht⟩) hS.2.2 hdg B.2.2.1)
  rintro t ⟨o, h1, h2, h3, L, ⟨⟨v', rfl⟩, h4, h5⟩, h6⟩
  exact ⟨_, h1, h2, h3.1, h3.2, L, ⟨h4, h5⟩, h6⟩
theorem x_zret {y : MethodName} {cc : ByteArray} {nL : Nat} {hh : List (Nat × Nat × Nat × Nat)} {Qc : Array Value → State → Outcome → State → Prop} {A : Nat → Prop} {rm : Room} {z : Nat × Nat} {v : Int32} (B : xk_B p s m args meth c y cc nL (some .boolean) hh) (hn : narrow .boolean (.int v) = .int v) (hS : va_S A s.heap H locs) (hc : cells ≤ z.1) (hs : slots ≤ z.2)
    (hq : ∀ t : State, t.heap = H → s.WarmedH t.vm → Qc args s (.returned (some (.int v))) t) {pc : Nat} {ls : Array Slot} (hdg : decode cc pc = .ok (.ireturn, 1)) : W p l e R s m args below meth c H locs cells slots (xk_Q below Qc args s rm z A) (F0 m pc ls [.int v]) := by
  refine W.widen (k := z.1) (n := z.2) hc hs ?_
  refine xk_mono ?_ (W.zret (Qc := fun a st o t => Qc a st o t ∧ va_F A st t) (free := A) B.1.1 B.1.2.1 B.2.1 hn (fun t ht hW => ⟨hq t ht hW, hS.F ht⟩) hS.2.2 hdg B.2.2.1)
  rintro t ⟨o, h1, h2, h3, L, ⟨⟨v', rfl⟩, h4, h5⟩, h6⟩
  exact ⟨_, h1, h2, h3.1, h3.2, L, ⟨h4, h5⟩, h6⟩
theorem x_vret {y : MethodName} {cc : ByteArray} {nL : Nat} {hh : List (Nat × Nat × Nat × Nat)} {Qc : Array Value → State → Outcome → State → Prop} {A : Nat → Prop} {rm : Room} {z : Nat × Nat} (B : xk_B p s m args meth c y cc nL none hh) (hS : va_S A s.heap H locs) (hc : cells ≤ z.1) (hs : slots ≤ z.2)
    (hq : ∀ t : State, t.heap = H → s.WarmedH t.vm → Qc args s (.returned none) t) {pc : Nat} {ls : Array Slot} (hdg : decode cc pc = .ok (.return_, 1)) : W p l e R s m args below meth c H locs cells slots (xk_Q below Qc args s rm z A) (F0 m pc ls []) := by
  refine W.widen (k := z.1) (n := z.2) hc hs ?_
  refine xk_mono ?_ (W.vret (Qc := fun a st o t => Qc a st o t ∧ va_F A st t) (free := A) B.1.1 B.1.2.1 B.2.1 (fun t ht hW => ⟨hq t ht hW, hS.F ht⟩) hS.2.2 hdg B.2.2.1)
  rintro t ⟨o, h1, h2, h3, L, ⟨⟨v', rfl⟩, h4, h5⟩, h6⟩
  exact ⟨_, h1, h2, h3.1, h3.2, L, ⟨h4, h5⟩, h6⟩
/-! the machine with a thrown object over the frame g comes to Q -/
def xk_T (p : Program) (l : Launch) (e : Env) (R : Room) (s : State) (m : MethodId) (args : Array Value) (below : List Frame) (meth : Method) (c : Code) (H : Heap) (locs : List Loc) (cells slots : Nat) (Q : State → Prop) (g : JFrame) (x : Addr) : Prop :=
  ∀ T : State, T.heap = H → Stand p l e R s m args below meth c T locs cells slots → ∃ t, Steps p.tables e below ((T.setTop g).pushFrame (.throwing x)) t ∧ Q t
/-- no handler: out of the method -/
theorem x_leave {y : MethodName} {cc : ByteArray} {nL : Nat} {ret : Option FieldType} {Qc : Array Value → State → Outcome → State → Prop} {A : Nat → Prop} {rm : Room} {z : Nat × Nat} {x : Addr} (B : xk_B p s m args meth c y cc nL ret []) (hS : va_S A s.heap H locs) (hc : cells ≤ rm.cells) (hs : slots ≤ rm.slots)
    (hq : ∀ t : State, t.heap = H → s.WarmedH t.vm → Qc args s (.threw x) t) {pc : Nat} {ls : Array Slot} {st : List Value} : xk_T p l e R s m args below meth c H locs cells slots (xk_Q below Qc args s rm z A) (F0 m pc ls st) x := by
  intro T hT X
  have hout : ∀ z ∈ c.exceptionTable.toList, covers z (F0 m pc ls st).pc = false := by
    have h0 := List.map_eq_nil_iff.mp B.2.2.2.2
    intro z hz
    rw [h0] at hz
    cases hz
  obtain ⟨h1, h2, h3, h4, h5⟩ := X.leaveThrown x (g := F0 m pc ls st) rfl rfl rfl hout B.2.2.1
  exact ⟨_, h1, .threw x, h2, h3, hq _ hT h4, hS.F hT, locs, ⟨h4, h5.mono hc hs⟩, hS.2.2⟩
end XKA
end
section
/-! Calls of contracts that may throw. -/
def xk_cd (cd : Cond) (y : MethodName) (maxL : Nat) : Prop := (∃ b r, cd = Cond.code y b maxL r) ∨ ∃ b r hh, cd = Cond.codeWith y b maxL r hh
theorem xk_cd.spec {cd : Cond} {y : MethodName} {maxL : Nat} {a : Array Value} {U : State} {mk : MethodId} (h : xk_cd cd y maxL) (hb : cd.before a U = true) (hn : U.methodNamed? y = some mk) : ∃ meth cY, U.vm.method? mk = some meth ∧ meth.code = some cY ∧ cY.maxLocals = maxL ∧ parseMethodDescriptor y.desc = some meth.sig := by
  rcases h with ⟨b, r, rfl⟩ | ⟨b, r, hh, rfl⟩
  · obtain ⟨meth, cY, h1, h2, -, h4, -, -, -, h7⟩ := Cond.code_spec hn hb
    exact ⟨meth, cY, h1, h2, h4, h7⟩
  · obtain ⟨m9, meth, cY, hn9, h1, h2, -, h4, -, -, -, h7⟩ := Cond.codeWith_spec hb
    cases hn.symm.trans hn9
    exact ⟨meth, cY, h1, h2, h4, h7⟩
theorem xk_cd.named {cd : Cond} {y : MethodName} {maxL : Nat} {a : Array Value} {U : State} (h : xk_cd cd y maxL) (hb : cd.before a U = true) : ∃ mk, U.methodNamed? y = some mk := by
  rcases h with ⟨b, r, rfl⟩ | ⟨b, r, hh, rfl⟩
  · exact Cond.code_named hb
  · obtain ⟨m9, meth, cY, hn9, -⟩ := Cond.codeWith_spec hb
    exact ⟨m9, hn9⟩
section XKC
variable {p : Program} {l : Launch} {e : Env} {R : Room} {s : State} {m : MethodId} {args : Array Value} {below : List Frame} {meth : Method} {c : Code} {H : Heap} {locs : List Loc} {cells slots : Nat} {Q : State → Prop}
variable {y : MethodName} {cd : Cond} {rm : Room} {z : Nat × Nat} {Pc : Array Value → State → Prop} {Qc : Array Value → State → Outcome → State → Prop} {free : Nat → Prop} {maxL : Nat}
/-- what a call by contract needs of words and room -/
def xk_W (R : Room) (cells slots : Nat) (y : MethodName) (cd : Cond) (rm : Room) (maxL n : Nat) : Prop :=
  cd ∈ tb ∧ xk_cd cd y maxL ∧ Cond.initialized y.cls ∈ tb ∧ (y.cls ≠ "java/lang/invoke/MethodHandle" ∧ y.cls ≠ "java/lang/invoke/VarHandle") ∧ (parseMethodDescriptor y.desc).map (fun d => d.parameters.length) = some n ∧
  rm.frames + 1 ≤ R.frames ∧ 8 + (maxL + 11) + rm.locals ≤ R.locals ∧ cells + rm.cells ≤ R.cells ∧ slots + rm.slots ≤ R.slots
theorem xk_run {U : State} {n len : Nat} {g : JFrame} {ig : Instr} {mk : MethodId} {a : Array Value} (X : Stand p l e R s m args below meth c U locs cells slots) (hM : Ct l y cd rm z Pc Qc free) (hts : ∀ w ∈ tb, w.before args s = true)
    (hw : xk_W R cells slots y cd rm maxL n) (hg : g.method = m) (hsize : g.locals.size = c.maxLocals) (hdg : decode c.code g.pc = .ok (ig, len)) (hst : 2 * g.monitorRoom + (g.stack.map fun v => v.category).sum ≤ 8)
    (hn : U.methodNamed? y = some mk) (hP : Pc a (U.calling g mk a)) :
    ∃ (o : Outcome) (t T' : State) (L : List Loc), Qc a (U.calling g mk a) o t ∧ va_F free (U.calling g mk a) t ∧ Stand p l e R s m args below meth c T' (locs ++ L) (cells + (xk_k rm z o).1) (slots + (xk_k rm z o).2) ∧ (∀ q ∈ L, free q.base) ∧ T'.heap = t.heap ∧ T'.vm = t.vm ∧
      ((∃ v, o = .returned v ∧ Steps p.tables e below (doInvoke e (U.setTop g) [] mk a).1 (T'.setTop { g with pc := g.pc + len, stack := v.toList ++ g.stack })) ∨
       ∃ x, o = .threw x ∧ Steps p.tables e below (doInvoke e (U.setTop g) [] mk a).1 ((T'.setTop g).pushFrame (.throwing x))) := by
  obtain ⟨w1, w2, w3, -, -, w6, w7, w8, w9⟩ := hw
  have htU : ∀ w ∈ tb, ∀ a', w.before a' U = true := fun w hw a' => tb_at X.warmed hts w hw
  obtain ⟨methY, cY, hmY, hcY, hlY, -⟩ := w2.spec (htU _ w1 a) hn
  obtain ⟨kY, hkY, -⟩ := className_of_methodNamed hn
  have hinitY : kY.init = .initialized := Cond.initialized_spec (findClass_of_methodNamed hn) hkY (htU _ w3 a)
  have h : At U g.method c below := by rw [hg]; exact X.here
  have hpre : (headSpec (cd :: tb) rm).pre.before a U = true := atoms_intro (fun w hw => by
    rcases List.mem_cons.mp hw with rfl | hw
    · exact htU _ w1 a
    · exact htU _ hw a)
  have happ : (headSpec (cd :: tb) rm).appliesLoose y e.platform (U.calling g mk a) = true :=
    Spec.appliesLoose_calling (g := g) h hdg hn hkY hinitY (X.room_calling (g := g) (R' := rm) hsize hmY hcY w6 (by rw [hlY]; omega) w8 w9) hpre
  obtain ⟨mid, hmid⟩ := h.above
  have hfr : (U.setTop g).frames = (.java g :: mid) ++ below := by rw [State.frames_setTop' g h.top, hmid]; rfl
  obtain ⟨o, s₂, hsteps, -, hend, hq, hF, L, hx, hL⟩ := Steps.callFree hM p X.admits X.cas X.clock (acts := []) hfr happ hP trivial
  rw [State.frames_setTop' g h.top, X.tail] at hend
  cases o with
  | returned v =>
    obtain ⟨T', X', hW', -, ht⟩ := X.outOf hg hdg hend hx.1 hx.2
    refine ⟨_, s₂, T', L, hq, hF, X', hL, ?_, ?_, Or.inl ⟨v, rfl, ?_⟩⟩
    · rw [ht]; exact (State.heap_setTop _ _).symm
    · rw [ht]; exact (State.vm_setTop _ _).symm
    · rw [← ht]; exact hsteps
  | threw x =>
    obtain ⟨T', X', hW', -, ht⟩ := X.outOfThrown hg hend hx.1 hx.2
    refine ⟨_, s₂, T', L, hq, hF, X', hL, ?_, ?_, Or.inr ⟨x, rfl, ?_⟩⟩
    · rw [ht]; exact (Stand.throwing_heap _ _ _).symm
    · rw [ht]; exact (Stand.throwing_vm _ _ _).symm
    · rw [← ht]; exact hsteps
variable {cc : ByteArray} {nL index pc : Nat} {own C : String} {ls : Array Slot} {As rest : List Value} {A0 : Nat → Prop} {b : Addr}
/-- what is known behind a call -/
def xk_N (s : State) (H : Heap) (locs : List Loc) (A0 free : Nat → Prop) (Qo : State → State → Prop) (t : State) (H1 : Heap) (locs1 : List Loc) : Prop :=
  t.heap = H1 ∧ s.vm.Alike t.vm ∧ (∃ st : State, st.heap = H ∧ Qo st t) ∧ H.size ≤ H1.size ∧ (∀ q : Nat, q < H.size → ¬ free q → H1[q]? = H[q]?) ∧ va_S A0 s.heap H1 locs1 ∧ ∃ L, locs1 = locs ++ L ∧ ∀ q ∈ L, free q.base
theorem xk_N.of {L : List Loc} {t T' st : State} {Qo : State → State → Prop} {meth' : Method} {c' : Code} {n1 n2 : Nat} (hS : va_S A0 s.heap H locs) (hf : ∀ q, free q → A0 q) (X' : Stand p l e R s m args below meth' c' T' (locs ++ L) n1 n2) (h0 : st.heap = H) (hF : va_F free st t) (hL : ∀ q ∈ L, free q.base) (e1 : T'.heap = t.heap) (e2 : T'.vm = t.vm) (hq : Qo st t) :
    xk_N s H locs A0 free Qo t T'.heap (locs ++ L) := by
  obtain ⟨hz, hk⟩ := hF
  rw [h0] at hz hk
  refine ⟨e1.symm, by rw [← e2]; exact X'.warmed.alike, ⟨st, h0, hq⟩, by rw [e1]; exact hz, fun q h1 h2 => by rw [e1]; exact hk q h1 h2, ⟨Nat.le_trans hS.1 (by rw [e1]; exact hz), fun q h1 h2 => ?_, fun q hq => ?_⟩, L, rfl, hL⟩
  · rw [e1, hk q (Nat.lt_of_lt_of_le h1 hS.1) (fun z => h2 (hf q z))]
    exact hS.2.1 q h1 h2
  · rcases List.mem_append.mp hq with h | h
    · exact hS.2.2 q h
    · exact hf _ (hL q h)
theorem x_calS (B : CallFix p m c cc nL s args tb own) (hM : Ct l y cd rm z Pc Qc free) (hw : xk_W R cells slots y cd rm maxL As.length) (hlink : Cond.methodLink own index y ∈ tb) (hst : Cond.static y ∈ tb)
    (hp : PreS s H Pc As) (hl : ls.size = nL) (hr : (rest.map fun v => v.category).sum ≤ 8) (hS : va_S A0 s.heap H locs) (hf : ∀ q, free q → A0 q) {st0 : List Value} (hst0 : st0 = As.reverse ++ rest) (hdg : decode cc pc = .ok (.invokestatic index, 3))
    (kr : ∀ (v : Option Value) (t : State) (H1 : Heap) (locs1 : List Loc), xk_N s H locs A0 free (fun st t => Qc As.toArray st (.returned v) t) t H1 locs1 → W p l e R s m args below meth c H1 locs1 (cells + z.1) (slots + z.2) Q (F0 m (pc + 3) ls (v.toList ++ rest)))
    (kt : ∀ (x : Addr) (t : State) (H1 : Heap) (locs1 : List Loc), xk_N s H locs A0 free (fun st t => Qc As.toArray st (.threw x) t) t H1 locs1 → xk_T p l e R s m args below meth c H1 locs1 (cells + rm.cells) (slots + rm.slots) Q (F0 m pc ls rest) x) :
    W p l e R s m args below meth c H locs cells slots Q (F0 m pc ls st0) := by
  obtain ⟨hx, hb, hml, ho, hts⟩ := B
  subst hst0
  intro T hT X
  obtain ⟨w1, w2, w3, w4, w5, -⟩ := id hw
  obtain ⟨mk, hnamed⟩ := w2.named (hts _ w1)
  obtain ⟨methM, cM, hmethM, -, -, hsigM⟩ := w2.spec (hts _ w1) hnamed
  have hstatic : methM.isStatic = true := Cond.static_spec hnamed hmethM (hts _ hst)
  obtain ⟨kP, hkP, -⟩ := className_of_methodNamed hnamed
  have hinitP : kP.init = .initialized := Cond.initialized_spec (findClass_of_methodNamed hnamed) hkP (hts _ w3)
  have hlen : As.length = methM.sig.parameters.length := by
    rw [hsigM] at w5
    exact (Option.some.inj w5).symm
  obtain ⟨vm₁, X₁, hstep₁⟩ := X.invokestatic hx ho (hts _ hlink) hnamed hmethM hstatic hkP hinitP w4 (g := F0 m pc ls (As.reverse ++ rest)) rfl (argsL := As) (rest := rest) hlen rfl (by rw [hb]; exact hdg)
  have hPc : Pc As.toArray ((T.setVm vm₁).calling (F0 m pc ls rest) mk As.toArray) := hp.1 _ _ _ _ (hp.2 (T.setVm vm₁) hT X₁.warmed)
  obtain ⟨o, t, T', L, hq, hF, X', hL, e1, e2, hgo⟩ := xk_run X₁ hM hts hw (g := F0 m pc ls rest) (ig := .invokestatic index) (len := 3) rfl (by rw [hml]; exact hl) (by rw [hb]; exact hdg) (lv_room hr) (X₁.named hnamed) hPc
  rcases hgo with ⟨v, rfl, hs⟩ | ⟨x, rfl, hs⟩
  · obtain ⟨t2, a1, b1⟩ := kr v t T'.heap (locs ++ L) (xk_N.of (st := (T.setVm vm₁).calling (F0 m pc ls rest) mk As.toArray) (Qo := fun st t => Qc As.toArray st (.returned v) t) hS hf X' hT hF hL e1 e2 hq) T' rfl X'
    exact ⟨t2, hstep₁ _ fun acts => by rw [doInvoke_state]; exact hs.trans a1, b1⟩
  · obtain ⟨t2, a1, b1⟩ := kt x t T'.heap (locs ++ L) (xk_N.of (st := (T.setVm vm₁).calling (F0 m pc ls rest) mk As.toArray) (Qo := fun st t => Qc As.toArray st (.threw x) t) hS hf X' hT hF hL e1 e2 hq) T' rfl X'
    exact ⟨t2, hstep₁ _ fun acts => by rw [doInvoke_state]; exact hs.trans a1, b1⟩
theorem x_calV (B : CallFix p m c cc nL s args tb own) (hM : Ct l y cd rm z Pc Qc free) (hw : xk_W R cells slots y cd rm maxL As.length) (hlink : Cond.methodLink own index y ∈ tb) (hin : Cond.instanceMethod y ∈ tb) (hse : Cond.selects C y y ∈ tb)
    (hrec : ∃ cellB : Cell, H[b]? = some cellB ∧ cellB.vm.isStatics = false ∧ s.vm.findClass C = some cellB.cls)
    (hp : PreS s H Pc (.ref b :: As)) (hl : ls.size = nL) (hr : (rest.map fun v => v.category).sum ≤ 8) (hS : va_S A0 s.heap H locs) (hf : ∀ q, free q → A0 q) {st0 : List Value} (hst0 : st0 = As.reverse ++ .ref b :: rest) (hdg : decode cc pc = .ok (.invokevirtual index, 3))
    (kr : ∀ (v : Option Value) (t : State) (H1 : Heap) (locs1 : List Loc), xk_N s H locs A0 free (fun st t => Qc (Value.ref b :: As).toArray st (.returned v) t) t H1 locs1 → W p l e R s m args below meth c H1 locs1 (cells + z.1) (slots + z.2) Q (F0 m (pc + 3) ls (v.toList ++ rest)))
    (kt : ∀ (x : Addr) (t : State) (H1 : Heap) (locs1 : List Loc), xk_N s H locs A0 free (fun st t => Qc (Value.ref b :: As).toArray st (.threw x) t) t H1 locs1 → xk_T p l e R s m args below meth c H1 locs1 (cells + rm.cells) (slots + rm.slots) Q (F0 m pc ls rest) x) :
    W p l e R s m args below meth c H locs cells slots Q (F0 m pc ls st0) := by
  obtain ⟨hx, hb, hml, ho, hts⟩ := B
  subst hst0
  intro T hT X
  obtain ⟨w1, w2, w3, w4, w5, -⟩ := id hw
  obtain ⟨mk, methM, hnamed, hmethM, hstM, habM⟩ := Cond.instanceMethod_spec (hts _ hin)
  obtain ⟨methM', cM, hmethM', -, -, hsigM⟩ := w2.spec (hts _ w1) hnamed
  cases hmethM.symm.trans hmethM'
  obtain ⟨c2, r2, m2, q1, q2, q3, q4, kP, hkP, hkPi⟩ := Cond.selects_spec (hts _ hse)
  obtain ⟨cellB, hcB, hoB, hclB⟩ := hrec
  cases hclB.symm.trans q1
  cases (State.methodFound?_of_named hnamed w4).symm.trans q2
  cases hnamed.symm.trans q3
  have hselP : selectMethod e.platform s.vm cellB.cls mk = .method mk := by rw [Launch.admits_selectMethod X.admits]; exact q4
  have hlen : As.length = methM.sig.parameters.length := by
    rw [hsigM] at w5
    exact (Option.some.inj w5).symm
  obtain ⟨vm₁, X₁, hstep₁⟩ := X.invokevirtual hx ho (hts _ hlink) hnamed hmethM hstM hkP hkPi w4 (a := b) (cell := cellB) (by rw [hT]; exact hcB)
    (fun z h => by rw [h] at hoB; cases hoB) hselP hmethM habM hkP hkPi (g := F0 m pc ls (As.reverse ++ .ref b :: rest)) rfl (argsL := As) (rest := rest) hlen rfl (by rw [hb]; exact hdg)
  have hPc : Pc (Value.ref b :: As).toArray ((T.setVm vm₁).calling (F0 m pc ls rest) mk (Value.ref b :: As).toArray) := hp.1 _ _ _ _ (hp.2 (T.setVm vm₁) hT X₁.warmed)
  obtain ⟨o, t, T', L, hq, hF, X', hL, e1, e2, hgo⟩ := xk_run X₁ hM hts hw (g := F0 m pc ls rest) (ig := .invokevirtual index) (len := 3) rfl (by rw [hml]; exact hl) (by rw [hb]; exact hdg) (lv_room hr) (X₁.named hnamed) hPc
  rcases hgo with ⟨v, rfl, hs⟩ | ⟨x, rfl, hs⟩
  · obtain ⟨t2, a1, b1⟩ := kr v t T'.heap (locs ++ L) (xk_N.of (st := (T.setVm vm₁).calling (F0 m pc ls rest) mk (Value.ref b :: As).toArray) (Qo := fun st t => Qc (Value.ref b :: As).toArray st (.returned v) t) hS hf X' hT hF hL e1 e2 hq) T' rfl X'
    exact ⟨t2, hstep₁ _ fun acts => by rw [doInvoke_state]; exact hs.trans a1, b1⟩
  · obtain ⟨t2, a1, b1⟩ := kt x t T'.heap (locs ++ L) (xk_N.of (st := (T.setVm vm₁).calling (F0 m pc ls rest) mk (Value.ref b :: As).toArray) (Qo := fun st t => Qc (Value.ref b :: As).toArray st (.threw x) t) hS hf X' hT hF hL e1 e2 hq) T' rfl X'
    exact ⟨t2, hstep₁ _ fun acts => by rw [doInvoke_state]; exact hs.trans a1, b1⟩
theorem x_calI (B : CallFix p m c cc nL s args tb own) (hM : Ct l y cd rm z Pc Qc free) (hw : xk_W R cells slots y cd rm maxL As.length) {bytes : ByteArray} (hcd : cd = Cond.code y bytes maxL none) (hy1 : y.name = "<init>") (hlink : Cond.methodLink own index y ∈ tb) (hin : Cond.instanceMethod y ∈ tb)
    (hp : PreS s H Pc (.ref b :: As)) (hl : ls.size = nL) (hr : (rest.map fun v => v.category).sum ≤ 8) (hS : va_S A0 s.heap H locs) (hf : ∀ q, free q → A0 q) {st0 : List Value} (hst0 : st0 = As.reverse ++ .ref b :: rest) (hdg : decode cc pc = .ok (.invokespecial index, 3))
    (kr : ∀ (v : Option Value) (t : State) (H1 : Heap) (locs1 : List Loc), xk_N s H locs A0 free (fun st t => Qc (Value.ref b :: As).toArray st (.returned v) t) t H1 locs1 → W p l e R s m args below meth c H1 locs1 (cells + z.1) (slots + z.2) Q (F0 m (pc + 3) ls (v.toList ++ rest)))
    (kt : ∀ (x : Addr) (t : State) (H1 : Heap) (locs1 : List Loc), xk_N s H locs A0 free (fun st t => Qc (Value.ref b :: As).toArray st (.threw x) t) t H1 locs1 → xk_T p l e R s m args below meth c H1 locs1 (cells + rm.cells) (slots + rm.slots) Q (F0 m pc ls rest) x) :
    W p l e R s m args below meth c H locs cells slots Q (F0 m pc ls st0) := by
  obtain ⟨hx, hb, hml, ho, hts⟩ := B
  subst hst0
  intro T hT X
  obtain ⟨w1, w2, w3, w4, w5, -⟩ := id hw
  subst hcd
  have hpl : e.platform.magicAccessors = ({} : Platform).magicAccessors := by rw [X.admits.platform]
  obtain ⟨mk, methM, cM, kP, vm₁, hnamed, hmethM, hcodeM, -, hlocalsM, -, hkP, -, hW₁, hstep₁⟩ := Steps.initColdArgs (e := e) X.here hx X.warmed hpl ho hy1 w4 (hts _ hlink) (hts _ hin) (hts _ w1) (f := F0 m pc ls (As.reverse ++ .ref b :: rest)) (argsL := As) (rest := rest) (a := b) rfl (fun sig hs => by rw [hs] at w5; exact (Option.some.inj w5).symm) rfl (by rw [hb]; exact hdg)
  have X₁ := X.noted hW₁
  have hPc : Pc (Value.ref b :: As).toArray ((T.setVm vm₁).calling (F0 m pc ls rest) mk (Value.ref b :: As).toArray) := hp.1 _ _ _ _ (hp.2 (T.setVm vm₁) hT X₁.warmed)
  obtain ⟨o, t, T', L, hq, hF, X', hL, e1, e2, hgo⟩ := xk_run X₁ hM hts hw (g := F0 m pc ls rest) (ig := .invokespecial index) (len := 3) rfl (by rw [hml]; exact hl) (by rw [hb]; exact hdg) (lv_room hr) (X₁.named hnamed) hPc
  rcases hgo with ⟨v, rfl, hs⟩ | ⟨x, rfl, hs⟩
  · obtain ⟨t2, a1, b1⟩ := kr v t T'.heap (locs ++ L) (xk_N.of (st := (T.setVm vm₁).calling (F0 m pc ls rest) mk (Value.ref b :: As).toArray) (Qo := fun st t => Qc (Value.ref b :: As).toArray st (.returned v) t) hS hf X' hT hF hL e1 e2 hq) T' rfl X'
    exact ⟨t2, hstep₁ _ fun acts => by rw [doInvoke_state]; exact hs.trans a1, b1⟩
  · obtain ⟨t2, a1, b1⟩ := kt x t T'.heap (locs ++ L) (xk_N.of (st := (T.setVm vm₁).calling (F0 m pc ls rest) mk (Value.ref b :: As).toArray) (Qo := fun st t => Qc (Value.ref b :: As).toArray st (.threw x) t) hS hf X' hT hF hL e1 e2 hq) T' rfl X'
    exact ⟨t2, hstep₁ _ fun acts => by rw [doInvoke_state]; exact hs.trans a1, b1⟩
end XKC
/-! calls that leave the heap as it is -/
def xk_pi (r : Int32) : Array Value → State → Outcome → State → Prop := fun _ st o t => o = .returned (some (.int r)) ∧ t.heap = st.heap
section XKP
variable {p : Program} {l : Launch} {e : Env} {R : Room} {s : State} {m : MethodId} {args : Array Value} {below : List Frame} {meth : Method} {c : Code} {H : Heap} {locs : List Loc} {cells slots : Nat} {Q : State → Prop}
variable {y : MethodName} {cd : Cond} {rm : Room} {Pc : Array Value → State → Prop} {maxL : Nat}
variable {cc : ByteArray} {nL index pc : Nat} {own C : String} {ls : Array Slot} {As rest : List Value} {A0 : Nat → Prop} {b : Addr} {r : Int32}
theorem x_pS (B : CallFix p m c cc nL s args tb own) (hM : Ct l y cd rm (0, 0) Pc (xk_pi r) (fun _ => False)) (hw : xk_W R cells slots y cd rm maxL As.length) (hlink : Cond.methodLink own index y ∈ tb) (hst : Cond.static y ∈ tb)
    (hp : PreS s H Pc As) (hl : ls.size = nL) (hr : (rest.map fun v => v.category).sum ≤ 8) (hS : va_S A0 s.heap H locs) {st0 : List Value} (hst0 : st0 = As.reverse ++ rest) (hdg : decode cc pc = .ok (.invokestatic index, 3))
    (k : W p l e R s m args below meth c H locs cells slots Q (F0 m (pc + 3) ls (.int r :: rest))) : W p l e R s m args below meth c H locs cells slots Q (F0 m pc ls st0) := by
  refine x_calS B hM hw hlink hst hp hl hr hS (fun _ h => h.elim) hst0 hdg (fun v t H1 locs1 hN => ?_) (fun x t H1 locs1 hN => ?_)
  · obtain ⟨e1, -, ⟨st, h0, hv, hh⟩, -, -, -, L, rfl, hL⟩ := hN
    cases hv
    have hH : H1 = H := by rw [← e1, hh, h0]
    subst hH
    exact fun T hT X => k T hT (Stand.forget X (fun q hq => (hL q hq).elim))
  · obtain ⟨-, -, ⟨st, h0, hv, -⟩, -⟩ := hN
    cases hv
theorem x_pV (B : CallFix p m c cc nL s args tb own) (hM : Ct l y cd rm (0, 0) Pc (xk_pi r) (fun _ => False)) (hw : xk_W R cells slots y cd rm maxL As.length) (hlink : Cond.methodLink own index y ∈ tb) (hin : Cond.instanceMethod y ∈ tb) (hse : Cond.selects C y y ∈ tb)
    (hrec : ∃ cellB : Cell, H[b]? = some cellB ∧ cellB.vm.isStatics = false ∧ s.vm.findClass C = some cellB.cls)
    (hp : PreS s H Pc (.ref b :: As)) (hl : ls.size = nL) (hr : (rest.map fun v => v.category).sum ≤ 8) (hS : va_S A0 s.heap H locs) {st0 : List Value} (hst0 : st0 = As.reverse ++ .ref b :: rest) (hdg : decode cc pc = .ok (.invokevirtual index, 3))
    (k : W p l e R s m args below meth c H locs cells slots Q (F0 m (pc + 3) ls (.int r :: rest))) : W p l e R s m args below meth c H locs cells slots Q (F0 m pc ls st0) := by
  refine x_calV B hM hw hlink hin hse hrec hp hl hr hS (fun _ h => h.elim) hst0 hdg (fun v t H1 locs1 hN => ?_) (fun x t H1 locs1 hN => ?_)
  · obtain ⟨e1, -, ⟨st, h0, hv, hh⟩, -, -, -, L, rfl, hL⟩ := hN
    cases hv
    have hH : H1 = H := by rw [← e1, hh, h0]
    subst hH
    exact fun T hT X => k T hT (Stand.forget X (fun q hq => (hL q hq).elim))
  · obtain ⟨-, -, ⟨st, h0, hv, -⟩, -⟩ := hN
    cases hv
end XKP
end
section
/-! A throw out of a method: new X(); athrow. And catching. -/
abbrev tN_ : String := "java/lang/Throwable"
/-- a static of Throwable's: it holds a reference or null; its cell isn't in A -/
def xk_S1 (n d : String) (A : Nat → Prop) (U : State) (H : Heap) : Prop := ∃ (c : ClassId) (k : Class) (i : Nat) (f : Field) (aS : Nat) (cell : Cell) (r : Option Nat), U.vm.findClass tN_ = some c ∧ U.fieldFound? tN_ n d = some (c, k, i, f) ∧ k.statics = some aS ∧ H[aS]? = some cell ∧ f.isStatic = true ∧ cell.vm.isStatics = true ∧ cell.cls = c ∧ f.slot < cell.slots.size ∧ k.staticTypes[f.slot]? = some f.type ∧ cell.slots[f.slot]? = some (va_rf r) ∧ ¬ A aS
theorem xk_S1.of {args : Array Value} {s : State} {n d : String} {A : Nat → Prop} (hl : (Cond.laysStatic tN_ n d).before args s = true) (hr : (Cond.isRef (.static tN_ n d)).before args s = true) (hA : ∀ q : Nat, q < s.heap.size → ¬ A q) : xk_S1 n d A s s.heap := by
  obtain ⟨c, k, i, f, a, cell, hc, hi, hst, ha, hcell, hs, hcls, hlt, hty⟩ := Cond.laysStatic_spec hl
  obtain ⟨u, hu⟩ := Cond.staticRefV hi hst ha hcell hs hr
  obtain ⟨v, hv⟩ := u
  have hr : ∃ r, v = va_rf r := by
    cases v with
    | null => exact ⟨none, rfl⟩
    | ref x => exact ⟨some x, rfl⟩
    | _ => cases hv
  obtain ⟨r, rfl⟩ := hr
  exact ⟨c, k, i, f, a, cell, r, hc, hi, ha, hcell, hst, hs, hcls, hlt, hty, hu, hA a (Array.getElem?_eq_some_iff.mp hcell).1⟩
theorem xk_S1.moved {n d : String} {A : Nat → Prop} {u U : State} {H : Heap} (hvm : u.vm.Alike U.vm) (h : xk_S1 n d A u H) : xk_S1 n d A U H := by
  obtain ⟨c, k, i, f, a, cell, r, h1, h2, h3, h4, h5, h6, h7, h8, h9, h10, h11⟩ := h
  obtain ⟨k', hi', he⟩ := State.fieldFound?_setVm hvm h2
  exact ⟨c, k', i, f, a, cell, r, by rw [hvm.findClass]; exact h1, hi', by rw [he]; exact h3, h4, h5, h6, h7, h8, by rw [he]; exact h9, h10, h11⟩
theorem xk_S1.kept {n d : String} {A B : Nat → Prop} {U : State} {H H1 : Heap} (h : xk_S1 n d A U H) (hq : ∀ q : Nat, q < H.size → ¬ A q → H1[q]? = H[q]? ∧ ¬ B q) : xk_S1 n d B U H1 := by
  obtain ⟨c, k, i, f, a, cell, r, h1, h2, h3, h4, h5, h6, h7, h8, h9, h10, h11⟩ := h
  obtain ⟨g1, g2⟩ := hq a (Array.getElem?_eq_some_iff.mp h4).1 h11
  exact ⟨c, k, i, f, a, cell, r, h1, h2, h3, by rw [g1]; exact h4, h5, h6, h7, h8, h9, h10, g2⟩
theorem xk_S1.words {n d : String} {A : Nat → Prop} {U : State} {H : Heap} (h : xk_S1 n d A U H) (hU : U.heap = H) (args : Array Value) : (Cond.laysStatic tN_ n d).before args U = true ∧ (Cond.isRef (.static tN_ n d)).before args U = true := by
  obtain ⟨c, k, i, f, a, cell, r, h1, h2, h3, h4, h5, h6, h7, h8, h9, h10, h11⟩ := h
  subst hU
  constructor
  · simp [Cond.before, Cond.holds, Cond.value, h1, h2, h3, h4, h5, h6, h7, h8, h9]
  · have he : (Term.static tN_ n d).eval args U none [] U = some (va_rf r) := by
      simp [Term.eval, State.fieldNamed?, h2, h5, h3, h4, h6, h10]
    cases r <;> simp [Cond.before, Cond.holds, Cond.value, he, va_rf]
/-- both statics that a Throwable's constructor reads -/
def TS (A : Nat → Prop) (U : State) (H : Heap) : Prop := xk_S1 "UNASSIGNED_STACK" "[Ljava/lang/StackTraceElement;" A U H ∧ xk_S1 "SUPPRESSED_SENTINEL" "Ljava/util/List;" A U H
theorem TS.moved {A : Nat → Prop} {u U : State} {H : Heap} (hvm : u.vm.Alike U.vm) (h : TS A u H) : TS A U H := ⟨h.1.moved hvm, h.2.moved hvm⟩
theorem TS.kept {A : Nat → Prop} {U : State} {H H1 : Heap} (h : TS A U H) (hq : ∀ q : Nat, q < H.size → ¬ A q → H1[q]? = H[q]?) : TS A U H1 := ⟨h.1.kept fun q a b => ⟨hq q a b, b⟩, h.2.kept fun q a b => ⟨hq q a b, b⟩⟩
theorem TS.narrow {A B : Nat → Prop} {U : State} {H : Heap} (h : TS A U H) (hq : ∀ q : Nat, B q → A q) : TS B U H := ⟨h.1.kept fun q _ b => ⟨rfl, fun z => b (hq q z)⟩, h.2.kept fun q _ b => ⟨rfl, fun z => b (hq q z)⟩⟩
/-- an object of the class cls at x -/
def TH (cls : String) (x : Addr) (t : State) : Prop := ∃ cell : Cell, t.heap[x]? = some cell ∧ cell.vm.isStatics = false ∧ t.vm.findClass cls = some cell.cls
section XKR
variable {p : Program} {l : Launch} {e : Env} {R : Room} {s : State} {m : MethodId} {args : Array Value} {below : List Frame} {meth : Method} {c : Code} {H : Heap} {locs : List Loc} {cells slots : Nat} {Q : State → Prop}
/-- the walk as one that begins here -/
theorem xk_re {T : State} {R' : Room} (X : Stand p l e R s m args below meth c T locs cells slots) (hf : R'.frames ≤ R.frames) (hl : R'.locals ≤ R.locals) (hc : cells + R'.cells ≤ R.cells) (hs : slots + R'.slots ≤ R.slots) :
    Stand p l e R' (T.setFrames (.invoking m args :: below)) m args below meth c T [] 0 0 := by
  obtain ⟨g₀, hfr⟩ := X.frames_eq
  have hcur : T.cur < T.threads.size := State.cur_lt_of_frames hfr
  have hfs : (T.setFrames (.invoking m args :: below)).frames = .invoking m args :: below := State.frames_setFrames _ hcur
  have hmeth : (T.setFrames (.invoking m args :: below)).vm.method? m = some meth := X.method'
  have h1 := State.localsInUse_invoking X.frames X.method X.code
  have h2 := State.localsInUse_invoking hfs hmeth X.code
  have hroom : (T.setFrames (.invoking m args :: below)).hasRoom e.platform R' = true := by
    have hr := X.room
    have hbk := X.book
    have hz := X.heapSize
    have hu := X.used
    simp only [State.hasRoom, Bool.and_eq_true, decide_eq_true_eq] at hr ⊢
    rw [h2, hfs, State.stackLimits_setFrames, State.stackBytes_setFrames, X.limits, X.bytes]
    rw [h1, X.frames] at hr
    obtain ⟨⟨⟨⟨r1, r2, r3, r4, r5, r6⟩, r7⟩, r8⟩, r9⟩ := hr
    refine ⟨⟨⟨⟨by omega, by omega, by omega, by omega, by omega, r6⟩, ?_⟩, ?_⟩, hbk⟩
    · show T.heap.size + R'.cells ≤ _
      omega
    · show T.slotsUsed + R'.slots ≤ _
      omega
  have hhears : (T.setFrames (.invoking m args :: below)).hears m below = true := by
    have h := X.hears
    have hv : (T.setFrames (.invoking m args :: below)).vm = T.vm := rfl
    cases below with
    | nil =>
      simp only [State.hears] at h ⊢
      rw [hv, X.warmed.alike.method?]
      exact h
    | cons f r =>
      cases f with
      | java g =>
        simp only [State.hears] at h ⊢
        rw [State.code?_eq] at h ⊢
        rw [hv, X.warmed.alike.method?]
        exact h
      | _ =>
        simp only [State.hears] at h ⊢
        try (rw [hv, X.warmed.alike.method?])
        try exact h
  obtain ⟨th, hth, -⟩ := State.frames_cons hfs
  have hs0 := (State.sameButNew.refl (T.setFrames (.invoking m args :: below)) hth).setFrames T.frames (Array.getElem?_eq_some_iff.mp hth).1
  have hTT : (T.setFrames (.invoking m args :: below)).setFrames T.frames = T := by
    obtain ⟨th', hth', -⟩ := State.frames_cons hfr
    rw [State.setFrames_setFrames, State.setFrames_self hth']
  refine ⟨X.admits, X.cas, X.clock, hfs, hroom, hhears, hmeth, X.code, X.here, X.tail, State.WarmedH.refl (T.setFrames (.invoking m args :: below)), by rw [State.stackLimits_setFrames], by rw [State.stackBytes_setFrames], ?_⟩
  rw [hTT] at hs0
  exact hs0
end XKR
end
section
/-! 'new X(); athrow', where no handler takes it -/
def xk_st : List Cond := [.laysStatic tN_ "UNASSIGNED_STACK" "[Ljava/lang/StackTraceElement;", .laysStatic tN_ "SUPPRESSED_SENTINEL" "Ljava/util/List;", .isRef (.static tN_ "UNASSIGNED_STACK" "[Ljava/lang/StackTraceElement;"), .isRef (.static tN_ "SUPPRESSED_SENTINEL" "Ljava/util/List;")]
theorem TS.words {A : Nat → Prop} {U : State} {H : Heap} (h : TS A U H) (hU : U.heap = H) (args : Array Value) : ∀ w ∈ xk_st, w.before args U = true := by
  intro w hw
  have h1 := h.1.words hU args
  have h2 := h.2.words hU args
  simp only [xk_st, List.mem_cons, List.not_mem_nil, or_false] at hw
  rcases hw with rfl | rfl | rfl | rfl
  · exact h1.1
  · exact h2.1
  · exact h1.2
  · exact h2.2
section XKT
variable {p : Program} {l : Launch} {e : Env} {s : State} {m : MethodId} {args : Array Value} {below : List Frame} {meth : Method} {c : Code} {H : Heap} {locs : List Loc} {cells slots : Nat}
theorem x_thr {y : MethodName} {cc : ByteArray} {nL : Nat} {ret : Option FieldType} {Qc : Array Value → State → Outcome → State → Prop} {A : Nat → Prop} {rm : Room} {z : Nat × Nat} {cls : String} {names : List String} {ia ic pc : Nat} {ls : Array Slot} {rest : List Value}
    (hfl : l.flags = flags0) (B : xk_B p s m args meth c y cc nL ret []) (hTS : TS A s H) (hS : va_S A s.heap H locs)
    (hcls : Bundle.fit cls = true) (hnames : ∀ n ∈ names, Bundle.fit n = true) (hwd : ∀ w ∈ Bundle.ownAtoms0 y.cls ic cls names, w ∈ tb ∨ w ∈ xk_st)
    (hci : Cond.classLink y.cls ia cls ∈ tb) (hins : Cond.instantiable cls 6 ∈ tb) (hini : Cond.initialized cls ∈ tb)
    (d0 : decode cc pc = .ok (.new ia, 3)) (d3 : decode cc (pc + 3) = .ok (.dup, 1)) (d4 : decode cc (pc + 4) = .ok (.invokespecial ic, 3)) (d7 : decode cc (pc + 7) = .ok (.athrow, 1))
    (hl : ls.size = nL) (hr : (rest.map fun v => v.category).sum + 1 + (13 * (names.length + 1) + 41) ≤ rm.locals) (hRf : names.length + 3 < rm.frames) (hc : cells + 1 ≤ rm.cells) (hs : slots + 6 ≤ rm.slots)
    (hq : ∀ (x : Addr) (t : State), s.WarmedH t.vm → TH cls x t → H.size ≤ t.heap.size → (∀ q : Nat, q < H.size → t.heap[q]? = H[q]?) → Qc args s (.threw x) t) :
    W p l e rm s m args below meth c H locs cells slots (xk_Q below Qc args s rm z A) (F0 m pc ls rest) := by
  intro T hT X
  obtain ⟨⟨hx, hb, hml, hown, hts⟩, hret, hlk, hnm, hex⟩ := B
  have X' := xk_re (R' := { rm with cells := 1, slots := 6 }) X (Nat.le_refl _) (Nat.le_refl _) hc hs
  have hal : s.vm.Alike (T.setFrames (.invoking m args :: below)).vm := X.warmed.alike
  have htS : ∀ w ∈ tb, w.before args (T.setFrames (.invoking m args :: below)) = true := tb_at (U := T.setFrames (.invoking m args :: below)) X.warmed hts
  have hown' : (T.setFrames (.invoking m args :: below)).vm.findClass y.cls = some m.cls := by rw [hal.findClass]; exact hown
  have hTS' : TS A (T.setFrames (.invoking m args :: below)) H := hTS.moved hal
  have hout : ∀ z ∈ c.exceptionTable.toList, covers z (pc + 4 + 3) = false := by
    have h0 := List.map_eq_nil_iff.mp hex
    intro z hz
    rw [h0] at hz
    cases hz
  have hwm := X.warmed
  have hsm := X.same
  have hh' : (T.setFrames (.invoking m args :: below)).heap = H := hT
  have hst' := hTS'.words hh' args
  generalize hse : T.setFrames (.invoking m args :: below) = s' at X' hal htS hown' hTS' hh' hst'
  have key : W p l e { rm with cells := 1, slots := 6 } s' m args below meth c H [] 0 0 (xk_Q below Qc args s rm z A) (F0 m pc ls rest) := by
    refine W.newc (own := y.cls) (C := cls) (index := ia) (n := 6) hx hb hown' (htS _ hci) (htS _ hins) (htS _ hini) rfl d0 (Nat.le_refl _) (Nat.le_refl _) (fun cC kC h1 h2 h3 h4 => ?_)
    refine W.eq (g2 := F0 m (pc + 3) ls (.ref H.size :: rest)) rfl ?_
    refine lv_dup hx hb d3 rfl ?_
    intro T2 hT2 X2
    obtain ⟨U, hst, hrun, hend, hwarm, hsame, ce, hce, hoc⟩ := X2.ctorThrow0 (own := y.cls) (cls := cls) (names := names) (ic := ic) hx (Launch.traces_off hfl X2.admits) hown' hcls hnames
      (fun w hw => by
        rcases hwd w hw with h | h
        · exact htS _ h
        · exact hst' _ h)
      (fun z hz => by cases hz) (a := H.size) h1 h2 (by rw [hT2]; simp [freshCell]) (by rw [hh']; exact Nat.le_refl _)
      (g := F0 m (pc + 4) ls (.ref H.size :: .ref H.size :: rest)) rfl (by rw [hml]; exact hl) rfl rfl (rest := rest) rfl (by rw [hb]; exact d4) (by rw [hb]; exact d7) hout hRf
      (by
        simp only [List.map_cons, List.sum_cons]
        show 2 * 0 + (1 + (rest.map fun v => v.category).sum) + (13 * (names.length + 1) + 41) ≤ rm.locals
        omega) hlk
    have hold : ∀ q : Nat, q < H.size → U.heap[q]? = H[q]? := by
      intro q hq
      have h5 : s'.heap[q]? = some H[q] := by rw [hh']; exact Array.getElem?_eq_getElem hq
      have h6 : U.heap[q]? = some H[q] := hsame.old_cell h5
      rw [h6]
      exact (Array.getElem?_eq_getElem hq).symm
    have hsz : H.size ≤ U.heap.size := by
      have h5 : s'.heap.size ≤ U.heap.size := hsame.2.1
      rw [hh'] at h5
      exact h5
    have hsU : s.WarmedH U.vm := by
      subst hse
      exact State.WarmedH.trans hwm hwarm
    have hth : TH cls H.size U := by
      refine ⟨ce, hce, ?_, ?_⟩
      · rw [hoc.vm]; rfl
      · rw [hwarm.alike.findClass]; exact hoc.cls
    have hsameU : s.sameButNew ({ U with vm := s.vm } : State) locs rm.cells rm.slots := by
      subst hse
      obtain ⟨e1, e2⟩ := hsame
      rw [State.setFrames_setFrames] at e1
      have e3 : (T.setVm s.vm).sameButNew ({ U with vm := s.vm } : State) [] 1 6 := ⟨congrArg (fun z : State => ({ z with vm := s.vm } : State)) e1, e2⟩
      have e4 := hsm.trans e3
      rw [List.append_nil] at e4
      exact e4.mono hc hs
    exact ⟨U, hst, .threw H.size, hrun, hend, hq _ _ hsU hth hsz hold, ⟨Nat.le_trans hS.1 hsz, fun q h1 h2 => by rw [hold q (Nat.lt_of_lt_of_le h1 hS.1)]; exact hS.2.1 q h1 h2⟩, locs, ⟨hsU, hsameU⟩, hS.2.2⟩
  exact key T hT X'
end XKT
/-! catching -/
section XKG
variable {E : CtlPost} {e : Env} {d : Bool} {acts : List Action} {s : State} {f : JFrame} {a : Addr} {Q : Handler → Pre}
theorem xk_cold {x : ExceptionTableEntry} {t : List ExceptionTableEntry} {cT : ClassId} {vm' : Vm} (hx : covers x f.pc = true) (h0 : x.catchType ≠ 0) (hg : (Jvm.resolveClass f.method.cls x.catchType).Gives e.toSetting s.vm (.ok cT) vm') (hr : vm'.classReady f.method.cls x.catchType cT) (hsz : vm'.classes.size ≤ s.vm.classes.size) :
    wp (findHandler.go f a (x :: t)) Q E e d acts s ↔ wp (findHandler.go f a (x :: t)) Q E e d acts (s.setVm vm') := by
  simp only [covers] at hx
  obtain ⟨ha, ht⟩ := hg.op (op := VmOp.resolveClass f.method.cls x.catchType) rfl
  obtain ⟨k, hkd, hres⟩ := hr
  have hm := resolveClass_memo e (vm := vm') hkd hres
  simp [findHandler.go, hx, h0, ha, ht, hsz, hm, VmOp.dirties, VmOp.acts]
  exact Iff.rfl
/-- what the search gives, and the tables that it leaves -/
def xk_Fv (e : Env) (s : State) (f : JFrame) (a : Addr) (h : Handler) (vm' : Vm) : Prop :=
  ∀ (Q : Handler → Pre) (E : CtlPost) (d : Bool) (acts : List Action), wp (findHandler f a) Q E e d acts s ↔ Q h d acts (s.setVm vm')
theorem xk_step {r : List Frame} {pc : Nat} {vm' : Vm} (hfind : xk_Fv e s f a (.found pc) vm') :
    (stepThrowing e s a (.java f :: r)).Is ((s.setVm vm').setFrames (.java { f with pc := pc, stack := [.ref a] } :: r)) [] := by
  simp only [stepThrowing, searchFrame, vmDo]
  generalize hr : Sem.go _ e false [] s = res
  obtain ⟨as, rfl, ha⟩ := Sem.eq_ok_of hr (a := Handler.found pc) (s' := s.setVm vm') (acts' := []) (by simp [hfind _ _ _ _])
  exact ⟨rfl, ha⟩
theorem xk_caught {tb : Tables} {target : State} {g : JFrame} {c : Code} {below : List Frame} (h : At s g.method c below) {pc : Nat} {vm' : Vm} (hfind : xk_Fv e ((s.setTop g).pushFrame (.throwing a)) g a (.found pc) vm')
    (hrest : Steps tb e below ((s.setVm vm').setTop { g with pc := pc, stack := [.ref a] }) target) :
    Steps tb e below ((s.setTop g).pushFrame (.throwing a)) target := by
  obtain ⟨hgo, hw⟩ := h.throwing a
  refine Steps.head hgo hw ?_
  rw [stepThread_throwing (frames_entered h.top _), (xk_step (s := (s.setTop g).pushFrame (.throwing a)) hfind).1]
  obtain ⟨g₀, hg⟩ := Option.isSome_iff_exists.mp h.top
  obtain ⟨r, hr⟩ := State.topJava?_eq_some.mp hg
  have hr' : (s.setVm vm').frames = .java g₀ :: r := hr
  rw [State.setTop_of_frames _ hr'] at hrest
  have e1 : (((s.setTop g).pushFrame (.throwing a)).setVm vm').setFrames (.java { g with pc := pc, stack := [.ref a] } :: s.frames.tail) = (s.setVm vm').setFrames (.java { g with pc := pc, stack := [.ref a] } :: r) := by
    have e2 : ((s.setTop g).pushFrame (.throwing a)).setFrames (.java { g with pc := pc, stack := [.ref a] } :: r) = s.setFrames (.java { g with pc := pc, stack := [.ref a] } :: r) := by
      rw [State.pushFrame, State.setFrames_setFrames, State.setTop_of_frames _ hr, State.setFrames_setFrames]
    rw [hr]
    exact congrArg (fun z : State => z.setVm vm') e2
  rw [e1]
  exact hrest
theorem xk_hit {S0 : State} {x : ExceptionTableEntry} {t : List ExceptionTableEntry} {cT : ClassId} {cell : Cell} (hx : covers x f.pc = true) (h0 : x.catchType ≠ 0) (hcl : S0.vm.ClassLinks e.platform f.method.cls x.catchType cT) (hal : S0.vm.Alike (S0.vm.noted f.method.cls x.catchType (.cls cT)))
    (hcell : S0.heap[a]? = some cell) (hobj : cell.vm.isStatics = false) (hk : ∃ k, S0.vm.classes[cell.cls]? = some k) (hc : ∃ k, S0.vm.classes[cT]? = some k) :
    wp (findHandler.go f a (x :: t)) Q E e d acts S0 ↔ if S0.vm.assignable cell.cls cT = true then Q (.found x.handlerPc) d acts (S0.setVm (S0.vm.noted f.method.cls x.catchType (.cls cT))) else wp (findHandler.go f a t) Q E e d acts (S0.setVm (S0.vm.noted f.method.cls x.catchType (.cls cT))) := by
  obtain ⟨k1, hk1⟩ := hk
  obtain ⟨k2, hk2⟩ := hc
  obtain ⟨k1', hk1', -⟩ := hal.2.2 _ _ hk1
  obtain ⟨k2', hk2', -⟩ := hal.2.2 _ _ hk2
  rw [xk_cold hx h0 (resolveClass_links e.toSetting hcl) hcl.ready hal.size_le]
  rw [W.findHandler_go_class (s := S0.setVm (S0.vm.noted f.method.cls x.catchType (.cls cT))) hx h0 hcl.ready hcell (VmData.noStatics_of hobj) ⟨k1', hk1'⟩ ⟨k2', hk2'⟩]
  rw [show (S0.setVm (S0.vm.noted f.method.cls x.catchType (.cls cT))).vm.assignable cell.cls cT = S0.vm.assignable cell.cls cT from hal.assignable ..]
end XKG
section XKH
variable {p : Program} {l : Launch} {e : Env} {R : Room} {s : State} {m : MethodId} {args : Array Value} {below : List Frame} {meth : Method} {c : Code} {H : Heap} {locs : List Loc} {cells slots : Nat} {Q : State → Prop}
/-- one handler: it takes the object -/
theorem x_catch1 {y : MethodName} {cc : ByteArray} {nL : Nat} {ret : Option FieldType} {a0 b0 hp ct pc : Nat} {r : List (Nat × Nat × Nat × Nat)} {CN CX : String} {ls : Array Slot} {st : List Value} {x : Addr} (B : xk_B p s m args meth c y cc nL ret ((a0, b0, hp, ct) :: r)) (h1 : a0 ≤ pc) (h2 : pc < b0) (h0 : ct ≠ 0)
    (hcl : Cond.classLink y.cls ct CN ∈ tb) (hca : Cond.castable CX CN ∈ tb) (hth : ∃ cell : Cell, H[x]? = some cell ∧ cell.vm.isStatics = false ∧ s.vm.findClass CX = some cell.cls)
    (k : W p l e R s m args below meth c H locs cells slots Q (F0 m hp ls [.ref x])) : xk_T p l e R s m args below meth c H locs cells slots Q (F0 m pc ls st) x := by
  intro T hT X
  obtain ⟨⟨hx, hb, hml, hown, hts⟩, hret, hlk, hnm, hex⟩ := B
  obtain ⟨z, tl, hz, hze, -⟩ := List.map_eq_cons_iff.mp hex
  simp only [Prod.mk.injEq] at hze
  obtain ⟨e1, e2, e3, e4⟩ := hze
  have hpl : e.platform.magicAccessors = ({} : Platform).magicAccessors := by rw [X.admits.platform]
  obtain ⟨cT, hcT, hlk1⟩ := Cond.classLink_spec hown (hts _ hcl) e.platform hpl
  obtain ⟨dk, _, _, kt, hd, _, _, _, _, hkt, _, hopen⟩ := hlk1.here
  obtain ⟨cell, hcell, hobj, hcx⟩ := hth
  obtain ⟨c3, t3, w1, w2, w3⟩ := Cond.castable_spec (hts _ hca)
  cases hcx.symm.trans w1
  cases hcT.symm.trans w2
  have hlk2 := X.warmed.classLinks hlk1
  have hW' : s.WarmedH (T.vm.noted m.cls ct (.cls cT)) := X.warmed.noted hd hopen (State.rightAt_cls hlk1)
  have hal : T.vm.Alike (T.vm.noted m.cls ct (.cls cT)) := X.warmed.alike.symm.trans hW'.alike
  obtain ⟨ks, hks⟩ := Vm.classAt_of_assignable w3 ⟨kt, hkt⟩
  obtain ⟨ks', hks', -⟩ := X.warmed.alike.2.2 _ _ hks
  obtain ⟨kt', hkt', -⟩ := X.warmed.alike.2.2 _ _ hkt
  obtain ⟨t, a1, b1⟩ := k (T.setVm (T.vm.noted m.cls ct (.cls cT))) hT (X.noted hW')
  have hv : ((T.setTop (F0 m pc ls st)).pushFrame (.throwing x)).vm = T.vm := Stand.throwing_vm _ _ _
  have hh : ((T.setTop (F0 m pc ls st)).pushFrame (.throwing x)).heap = T.heap := Stand.throwing_heap _ _ _
  refine ⟨t, xk_caught (g := F0 m pc ls st) (pc := hp) (vm' := T.vm.noted m.cls ct (.cls cT)) X.here ?_ a1, b1⟩
  intro Q' E d acts
  rw [W.findHandler_eq (f := F0 m pc ls st) (meth := meth) (code := c) (by rw [hv]; exact X.method') X.code, hz]
  rw [xk_hit (S0 := (T.setTop (F0 m pc ls st)).pushFrame (.throwing x)) (cT := cT) (cell := cell) (by simp [covers, e1, e2, h1, h2]) (by rw [e4]; exact h0) (by rw [hv, e4]; exact hlk2) (by rw [hv, e4]; exact hal) (by rw [hh, hT]; exact hcell) hobj (by rw [hv]; exact ⟨ks', hks'⟩) (by rw [hv]; exact ⟨kt', hkt'⟩)]
  rw [if_pos (by rw [hv, X.warmed.alike.assignable]; exact w3), hv, e3, e4]
/-- two handlers: the first doesn't take the object, the second does -/
theorem x_catch2 {y : MethodName} {cc : ByteArray} {nL : Nat} {ret : Option FieldType} {a0 b0 hp ct a1 b1 hq ct2 pc : Nat} {CN CM CX : String} {ls : Array Slot} {st : List Value} {x : Addr} (B : xk_B p s m args meth c y cc nL ret [(a0, b0, hp, ct), (a1, b1, hq, ct2)]) (h1 : a0 ≤ pc) (h2 : pc < b0) (h3 : a1 ≤ pc) (h4 : pc < b1) (h0 : ct ≠ 0) (h5 : ct2 ≠ 0)
    (hcl : Cond.classLink y.cls ct CN ∈ tb) (hcl2 : Cond.classLink y.cls ct2 CM ∈ tb) (hno : Cond.not (.castable CX CN) ∈ tb) (hca : Cond.castable CX CM ∈ tb) (hth : ∃ cell : Cell, H[x]? = some cell ∧ cell.vm.isStatics = false ∧ s.vm.findClass CX = some cell.cls)
    (k : W p l e R s m args below meth c H locs cells slots Q (F0 m hq ls [.ref x])) : xk_T p l e R s m args below meth c H locs cells slots Q (F0 m pc ls st) x := by
  intro T hT X
  obtain ⟨⟨hx, hb, hml, hown, hts⟩, hret, hlk, hnm, hex⟩ := B
  obtain ⟨z, tl, hz, hze, hex2⟩ := List.map_eq_cons_iff.mp hex
  obtain ⟨z2, tl2, hz2, hze2, -⟩ := List.map_eq_cons_iff.mp hex2
  simp only [Prod.mk.injEq] at hze hze2
  obtain ⟨e1, e2, e3, e4⟩ := hze
  obtain ⟨f1, f2, f3, f4⟩ := hze2
  have hpl : e.platform.magicAccessors = ({} : Platform).magicAccessors := by rw [X.admits.platform]
  obtain ⟨cT, hcT, hlk1⟩ := Cond.classLink_spec hown (hts _ hcl) e.platform hpl
  obtain ⟨cM, hcM, hlm1⟩ := Cond.classLink_spec hown (hts _ hcl2) e.platform hpl
  obtain ⟨dk, _, _, kt, hd, _, _, _, _, hkt, _, hopen⟩ := hlk1.here
  obtain ⟨dm, _, _, km, hdm, _, _, _, _, hkm, _, hopenm⟩ := hlm1.here
  obtain ⟨cell, hcell, hobj, hcx⟩ := hth
  obtain ⟨c3, t3, w1, w2, w3⟩ := Cond.castable_spec (hts _ hca)
  cases hcx.symm.trans w1
  cases hcM.symm.trans w2
  have hna : s.vm.assignable cell.cls cT = false := by
    have h := hts _ hno
    simp only [Cond.before, Cond.holds, Cond.value, hcx, hcT] at h
    cases hq : s.vm.assignable cell.cls cT with
    | false => rfl
    | true => simp [hq] at h
  have hlk2 := X.warmed.classLinks hlk1
  have hW1 : s.WarmedH (T.vm.noted m.cls ct (.cls cT)) := X.warmed.noted hd hopen (State.rightAt_cls hlk1)
  have hal : T.vm.Alike (T.vm.noted m.cls ct (.cls cT)) := X.warmed.alike.symm.trans hW1.alike
  have hlm2 := hW1.classLinks hlm1
  have hW2 : s.WarmedH ((T.vm.noted m.cls ct (.cls cT)).noted m.cls ct2 (.cls cM)) := hW1.noted hdm hopenm (State.rightAt_cls hlm1)
  have hal2 : (T.vm.noted m.cls ct (.cls cT)).Alike ((T.vm.noted m.cls ct (.cls cT)).noted m.cls ct2 (.cls cM)) := hW1.alike.symm.trans hW2.alike
  obtain ⟨ks, hks⟩ := Vm.classAt_of_assignable w3 ⟨km, hkm⟩
  obtain ⟨ks', hks', -⟩ := X.warmed.alike.2.2 _ _ hks
  obtain ⟨kt', hkt', -⟩ := X.warmed.alike.2.2 _ _ hkt
  obtain ⟨ks2, hks2, -⟩ := hW1.alike.2.2 _ _ hks
  obtain ⟨km2, hkm2, -⟩ := hW1.alike.2.2 _ _ hkm
  obtain ⟨t, g1, g2⟩ := k (T.setVm ((T.vm.noted m.cls ct (.cls cT)).noted m.cls ct2 (.cls cM))) hT (X.noted hW2)
  have hv : ((T.setTop (F0 m pc ls st)).pushFrame (.throwing x)).vm = T.vm := Stand.throwing_vm _ _ _
  have hh : ((T.setTop (F0 m pc ls st)).pushFrame (.throwing x)).heap = T.heap := Stand.throwing_heap _ _ _
  refine ⟨t, xk_caught (g := F0 m pc ls st) (pc := hq) (vm' := (T.vm.noted m.cls ct (.cls cT)).noted m.cls ct2 (.cls cM)) X.here ?_ g1, g2⟩
  intro Q' E d acts
  rw [W.findHandler_eq (f := F0 m pc ls st) (meth := meth) (code := c) (by rw [hv]; exact X.method') X.code, hz, hz2]
  rw [xk_hit (S0 := (T.setTop (F0 m pc ls st)).pushFrame (.throwing x)) (cT := cT) (cell := cell) (by simp [covers, e1, e2, h1, h2]) (by rw [e4]; exact h0) (by rw [hv, e4]; exact hlk2) (by rw [hv, e4]; exact hal) (by rw [hh, hT]; exact hcell) hobj (by rw [hv]; exact ⟨ks', hks'⟩) (by rw [hv]; exact ⟨kt', hkt'⟩)]
  rw [if_neg (by rw [hv, X.warmed.alike.assignable, hna]; decide), hv, e4]
  rw [xk_hit (S0 := ((T.setTop (F0 m pc ls st)).pushFrame (.throwing x)).setVm (T.vm.noted m.cls ct (.cls cT))) (cT := cM) (cell := cell) (by simp [covers, f1, f2, h3, h4]) (by rw [f4]; exact h5) (by rw [f4]; exact hlm2) (by rw [f4]; exact hal2) (by show ((T.setTop (F0 m pc ls st)).pushFrame (.throwing x)).heap[x]? = _; rw [hh, hT]; exact hcell) hobj ⟨ks2, hks2⟩ ⟨km2, hkm2⟩]
  rw [if_pos (by show (T.vm.noted m.cls ct (.cls cT)).assignable cell.cls cM = true; rw [hW1.alike.assignable]; exact w3), f3, f4]
  exact Iff.rfl
end XKH
end
section
/-! rows for Nats -/
section RWA
variable {p : Program} {l : Launch} {e : Env} {R : Room} {s : State} {m : MethodId} {args : Array Value} {below : List Frame} {meth : Method} {c : Code} {H : Heap} {locs : List Loc} {cells slots : Nat} {Q : State → Prop}
variable {cc : ByteArray} {pc : Nat} {ls : Array Slot} {rest : List Value}
theorem n_add (hexec : p.tables.exec = Jvm.exec) (hb : c.code = cc) {x y : Nat} (hdg : decode cc pc = .ok (.iadd, 1)) (k : W p l e R s m args below meth c H locs cells slots Q (F0 m (pc + 1) ls (.int (nI (x + y)) :: rest))) : W p l e R s m args below meth c H locs cells slots Q (F0 m pc ls (.int (nI y) :: .int (nI x) :: rest)) := lv_iadd hexec hb hdg (by rw [nI_add]; exact k)
theorem n_sub (hexec : p.tables.exec = Jvm.exec) (hb : c.code = cc) {x y : Nat} (hdg : decode cc pc = .ok (.isub, 1)) (h : y ≤ x) (k : W p l e R s m args below meth c H locs cells slots Q (F0 m (pc + 1) ls (.int (nI (x - y)) :: rest))) : W p l e R s m args below meth c H locs cells slots Q (F0 m pc ls (.int (nI y) :: .int (nI x) :: rest)) := lv_isub hexec hb hdg (by rw [pk_sub h]; exact k)
theorem n_mul (hexec : p.tables.exec = Jvm.exec) (hb : c.code = cc) {x y : Nat} (hdg : decode cc pc = .ok (.imul, 1)) (k : W p l e R s m args below meth c H locs cells slots Q (F0 m (pc + 1) ls (.int (nI (x * y)) :: rest))) : W p l e R s m args below meth c H locs cells slots Q (F0 m pc ls (.int (nI y) :: .int (nI x) :: rest)) := lv_imul hexec hb hdg (by rw [pk_mul]; exact k)
theorem n_div (hexec : p.tables.exec = Jvm.exec) (hb : c.code = cc) {x y : Nat} (hdg : decode cc pc = .ok (.idiv, 1)) (hx : x < 2147483648) (h0 : 0 < y) (hy : y < 2147483648) (k : W p l e R s m args below meth c H locs cells slots Q (F0 m (pc + 1) ls (.int (nI (x / y)) :: rest))) : W p l e R s m args below meth c H locs cells slots Q (F0 m pc ls (.int (nI y) :: .int (nI x) :: rest)) := lv_idiv hexec hb hdg (nI_ne0 h0 hy) (by rw [pk_div hx h0 hy]; exact k)
theorem n_rem (hexec : p.tables.exec = Jvm.exec) (hb : c.code = cc) {x y : Nat} (hdg : decode cc pc = .ok (.irem, 1)) (hx : x < 2147483648) (h0 : 0 < y) (hy : y < 2147483648) (k : W p l e R s m args below meth c H locs cells slots Q (F0 m (pc + 1) ls (.int (nI (x % y)) :: rest))) : W p l e R s m args below meth c H locs cells slots Q (F0 m pc ls (.int (nI y) :: .int (nI x) :: rest)) := lv_irem hexec hb hdg (nI_ne0 h0 hy) (by rw [pk_rem hx h0 hy]; exact k)
theorem n_ilt (hexec : p.tables.exec = Jvm.exec) (hb : c.code = cc) {x y : Nat} {off : Int} {tgt : Nat} (hdg : decode cc pc = .ok (.if_icmp .lt off, 3)) (ht : (pc : Int) + off = (tgt : Int)) (hx : x < 2147483648) (hy : y < 2147483648) (kt : x < y → W p l e R s m args below meth c H locs cells slots Q (F0 m tgt ls rest)) (kf : y ≤ x → W p l e R s m args below meth c H locs cells slots Q (F0 m (pc + 3) ls rest)) : W p l e R s m args below meth c H locs cells slots Q (F0 m pc ls (.int (nI y) :: .int (nI x) :: rest)) := lv_icmp_lt hexec hb hdg ht (fun h => kt ((nI_ltI hx hy).mp h)) (fun h => kf (Nat.not_lt.mp (fun q => h ((nI_ltI hx hy).mpr q))))
theorem n_ige (hexec : p.tables.exec = Jvm.exec) (hb : c.code = cc) {x y : Nat} {off : Int} {tgt : Nat} (hdg : decode cc pc = .ok (.if_icmp .ge off, 3)) (ht : (pc : Int) + off = (tgt : Int)) (hx : x < 2147483648) (hy : y < 2147483648) (kt : y ≤ x → W p l e R s m args below meth c H locs cells slots Q (F0 m tgt ls rest)) (kf : x < y → W p l e R s m args below meth c H locs cells slots Q (F0 m (pc + 3) ls rest)) : W p l e R s m args below meth c H locs cells slots Q (F0 m pc ls (.int (nI y) :: .int (nI x) :: rest)) := lv_icmp_ge hexec hb hdg ht (fun h => kt ((nI_leI hy hx).mp h)) (fun h => kf (Nat.not_le.mp (fun q => h ((nI_leI hy hx).mpr q))))
theorem n_igt (hexec : p.tables.exec = Jvm.exec) (hb : c.code = cc) {x y : Nat} {off : Int} {tgt : Nat} (hdg : decode cc pc = .ok (.if_icmp .gt off, 3)) (ht : (pc : Int) + off = (tgt : Int)) (hx : x < 2147483648) (hy : y < 2147483648) (kt : y < x → W p l e R s m args below meth c H locs cells slots Q (F0 m tgt ls rest)) (kf : x ≤ y → W p l e R s m args below meth c H locs cells slots Q (F0 m (pc + 3) ls rest)) : W p l e R s m args below meth c H locs cells slots Q (F0 m pc ls (.int (nI y) :: .int (nI x) :: rest)) := lv_icmp_gt hexec hb hdg ht (fun h => kt ((nI_ltI hy hx).mp h)) (fun h => kf (Nat.not_lt.mp (fun q => h ((nI_ltI hy hx).mpr q))))
theorem n_ile (hexec : p.tables.exec = Jvm.exec) (hb : c.code = cc) {x y : Nat} {off : Int} {tgt : Nat} (hdg : decode cc pc = .ok (.if_icmp .le off, 3)) (ht : (pc : Int) + off = (tgt : Int)) (hx : x < 2147483648) (hy : y < 2147483648) (kt : x ≤ y → W p l e R s m args below meth c H locs cells slots Q (F0 m tgt ls rest)) (kf : y < x → W p l e R s m args below meth c H locs cells slots Q (F0 m (pc + 3) ls rest)) : W p l e R s m args below meth c H locs cells slots Q (F0 m pc ls (.int (nI y) :: .int (nI x) :: rest)) := lv_icmp_le hexec hb hdg ht (fun h => kt ((nI_leI hx hy).mp h)) (fun h => kf (Nat.not_le.mp (fun q => h ((nI_leI hx hy).mpr q))))
theorem n_ieq (hexec : p.tables.exec = Jvm.exec) (hb : c.code = cc) {x y : Nat} {off : Int} {tgt : Nat} (hdg : decode cc pc = .ok (.if_icmp .eq off, 3)) (ht : (pc : Int) + off = (tgt : Int)) (hx : x < 2147483648) (hy : y < 2147483648) (kt : x = y → W p l e R s m args below meth c H locs cells slots Q (F0 m tgt ls rest)) (kf : x ≠ y → W p l e R s m args below meth c H locs cells slots Q (F0 m (pc + 3) ls rest)) : W p l e R s m args below meth c H locs cells slots Q (F0 m pc ls (.int (nI y) :: .int (nI x) :: rest)) := lv_icmp_eq hexec hb hdg ht (fun h => kt ((nI_eq hx hy).mp h)) (fun h => kf (fun q => h ((nI_eq hx hy).mpr q)))
theorem n_ine (hexec : p.tables.exec = Jvm.exec) (hb : c.code = cc) {x y : Nat} {off : Int} {tgt : Nat} (hdg : decode cc pc = .ok (.if_icmp .ne off, 3)) (ht : (pc : Int) + off = (tgt : Int)) (hx : x < 2147483648) (hy : y < 2147483648) (kt : x ≠ y → W p l e R s m args below meth c H locs cells slots Q (F0 m tgt ls rest)) (kf : x = y → W p l e R s m args below meth c H locs cells slots Q (F0 m (pc + 3) ls rest)) : W p l e R s m args below meth c H locs cells slots Q (F0 m pc ls (.int (nI y) :: .int (nI x) :: rest)) := lv_icmp_ne hexec hb hdg ht (fun h => kt (fun q => h ((nI_eq hx hy).mpr q))) (fun h => kf ((nI_eq hx hy).mp h))
theorem n_ifeq (hexec : p.tables.exec = Jvm.exec) (hb : c.code = cc) {x : Nat} {off : Int} {tgt : Nat} (hdg : decode cc pc = .ok (.ifCond .eq off, 3)) (ht : (pc : Int) + off = (tgt : Int)) (hx : x < 2147483648) (kt : x = 0 → W p l e R s m args below meth c H locs cells slots Q (F0 m tgt ls rest)) (kf : 0 < x → W p l e R s m args below meth c H locs cells slots Q (F0 m (pc + 3) ls rest)) : W p l e R s m args below meth c H locs cells slots Q (F0 m pc ls (.int (nI x) :: rest)) := lv_if_eq hexec hb hdg ht (fun h => kt ((nI_eq (b := 0) hx (by decide)).mp h)) (fun h => kf (Nat.pos_of_ne_zero (fun q => h (by rw [q]; rfl))))
theorem n_ifne (hexec : p.tables.exec = Jvm.exec) (hb : c.code = cc) {x : Nat} {off : Int} {tgt : Nat} (hdg : decode cc pc = .ok (.ifCond .ne off, 3)) (ht : (pc : Int) + off = (tgt : Int)) (hx : x < 2147483648) (kt : 0 < x → W p l e R s m args below meth c H locs cells slots Q (F0 m tgt ls rest)) (kf : x = 0 → W p l e R s m args below meth c H locs cells slots Q (F0 m (pc + 3) ls rest)) : W p l e R s m args below meth c H locs cells slots Q (F0 m pc ls (.int (nI x) :: rest)) := lv_if_ne hexec hb hdg ht (fun h => kt (Nat.pos_of_ne_zero (fun q => h (by rw [q]; rfl)))) (fun h => kf ((nI_eq (b := 0) hx (by decide)).mp h))
theorem n_ifle (hexec : p.tables.exec = Jvm.exec) (hb : c.code = cc) {x : Nat} {off : Int} {tgt : Nat} (hdg : decode cc pc = .ok (.ifCond .le off, 3)) (ht : (pc : Int) + off = (tgt : Int)) (hx : x < 2147483648) (kt : x = 0 → W p l e R s m args below meth c H locs cells slots Q (F0 m tgt ls rest)) (kf : 0 < x → W p l e R s m args below meth c H locs cells slots Q (F0 m (pc + 3) ls rest)) : W p l e R s m args below meth c H locs cells slots Q (F0 m pc ls (.int (nI x) :: rest)) := lv_if_le hexec hb hdg ht (fun h => kt (Nat.le_zero.mp ((nI_leI (b := 0) hx (by decide)).mp h))) (fun h => kf (Nat.pos_of_ne_zero (fun q => h (by rw [q]; decide))))
theorem n_ifgt (hexec : p.tables.exec = Jvm.exec) (hb : c.code = cc) {x : Nat} {off : Int} {tgt : Nat} (hdg : decode cc pc = .ok (.ifCond .gt off, 3)) (ht : (pc : Int) + off = (tgt : Int)) (hx : x < 2147483648) (kt : 0 < x → W p l e R s m args below meth c H locs cells slots Q (F0 m tgt ls rest)) (kf : x = 0 → W p l e R s m args below meth c H locs cells slots Q (F0 m (pc + 3) ls rest)) : W p l e R s m args below meth c H locs cells slots Q (F0 m pc ls (.int (nI x) :: rest)) := lv_if_gt hexec hb hdg ht (fun h => kt ((nI_ltI (a := 0) (by decide) hx).mp h)) (fun h => kf (Nat.eq_zero_of_not_pos (fun q => h ((nI_ltI (a := 0) (by decide) hx).mpr q))))
/-- counting down: one less, as it stands in the variable -/
def dn (a : Nat) : Int32 := nI a + (-1)
theorem dn_s (k : Nat) : dn (k + 1) = nI k := pk_m1 k
theorem n_dn (hexec : p.tables.exec = Jvm.exec) (hb : c.code = cc) {x : Nat} {off : Int} {tgt : Nat} (hdg : decode cc pc = .ok (.ifCond .lt off, 3)) (ht : (pc : Int) + off = (tgt : Int)) (hx : x < 2147483648) (kt : x = 0 → W p l e R s m args below meth c H locs cells slots Q (F0 m tgt ls rest)) (kf : ∀ k, x = k + 1 → W p l e R s m args below meth c H locs cells slots Q (F0 m (pc + 3) ls rest)) : W p l e R s m args below meth c H locs cells slots Q (F0 m pc ls (.int (dn x) :: rest)) := by
  cases x with
  | zero => exact lv_if_lt hexec hb hdg ht (fun _ => kt rfl) (fun h => absurd (by decide) h)
  | succ k => exact lv_if_lt hexec hb hdg ht (fun h => absurd (by rw [dn_s] at h; exact h) (nI_pos (n := k) (by omega))) (fun _ => kf k rfl)
end RWA
/-! worlds -/
abbrev Gc : Type := va_G × (Nat → ClassId)
/-- the classes, and the classes of arrays of int, byte, boolean, long -/
abbrev gK (g : Gc) (U : State) : Prop := va_K g.1 cl [(g.2 0, .int), (g.2 1, .byte), (g.2 2, .boolean), (g.2 3, .long)] U
abbrev nF (W : Nat → Nat) : Nat → Int32 := fun i => nI (W i)
abbrev wX (g : Gc) (ad : Nat → Nat) (wv nv : Nat → Int32) (kn : Int32) (fw pp : Nat → Int32) : va_W := [(ad 0, .inr (0, [.ref (ad 1), .ref (ad 2), .ref (ad 3), .int kn, .ref (ad 4)])), (ad 1, .inl (g.2 0, 4, .inl wv)), (ad 2, .inl (g.2 0, 4, .inl nv)), (ad 3, .inl (g.2 1, 8004, .inl fw)), (ad 4, .inl (g.2 0, 4, .inl pp))]
abbrev wM (g : Gc) (ad : Nat → Nat) (wv nv ch cn : Nat → Int32) (f mx th : Int32) : va_W := [(ad 0, .inr (1, [.ref (ad 1), .ref (ad 2), .ref (ad 3), .ref (ad 4), .int f, .int mx, .int th])), (ad 1, .inl (g.2 0, 4, .inl wv)), (ad 2, .inl (g.2 0, 4, .inl nv)), (ad 3, .inl (g.2 0, 4, .inl ch)), (ad 4, .inl (g.2 2, 2001, .inl cn))]
theorem nF_up (W : Nat → Nat) (k x : Nat) : upd (nF W) k (nI x) = nF (nt_up W k x) := by
  funext j
  show (if j = k then nI x else nI (W j)) = nI (if j = k then x else W j)
  split <;> rfl
section RWB
variable {p : Program} {l : Launch} {e : Env} {R : Room} {s : State} {m : MethodId} {args : Array Value} {below : List Frame} {meth : Method} {c : Code} {H : Heap} {locs : List Loc} {cells slots : Nat} {Q : State → Prop}
variable {cc : ByteArray} {pc : Nat} {ls : Array Slot} {rest : List Value}
variable {g : Gc} {ws tl : va_W} {a : Nat} {A : Nat → Prop} {nL : Nat}
theorem gX_worth (S : CallFix p m c cc nL s args tb R_X) (hK : gK g s) {v0 v1 v2 v3 v4 : Value} (hP : va_P g.1 cl ws H) (he : ws[0]? = some (a, .inr (0, [v0, v1, v2, v3, v4]))) (hdg : decode cc pc = .ok (.getfield 9, 3)) (kk : W p l e R s m args below meth c H locs cells slots Q (F0 m (pc + 3) ls (v0 :: rest))) : W p l e R s m args below meth c H locs cells slots Q (F0 m pc ls (.ref a :: rest)) :=
  va_get (D := g.1) (ci := 0) (C := R_X) (T := F_X) (N := 5) S.1 S.2.1 S.2.2.2.2 u_X S.2.2.2.1 hK hP 0 he rfl 0 (by decide) (S.2.2.2.2 _ tw_17) (fun _ h => h) rfl hdg kk
theorem gX_notes (S : CallFix p m c cc nL s args tb R_X) (hK : gK g s) {v0 v1 v2 v3 v4 : Value} (hP : va_P g.1 cl ws H) (he : ws[0]? = some (a, .inr (0, [v0, v1, v2, v3, v4]))) (hdg : decode cc pc = .ok (.getfield 13, 3)) (kk : W p l e R s m args below meth c H locs cells slots Q (F0 m (pc + 3) ls (v1 :: rest))) : W p l e R s m args below meth c H locs cells slots Q (F0 m pc ls (.ref a :: rest)) :=
  va_get (D := g.1) (ci := 0) (C := R_X) (T := F_X) (N := 5) S.1 S.2.1 S.2.2.2.2 u_X S.2.2.2.1 hK hP 0 he rfl 1 (by decide) (S.2.2.2.2 _ tw_18) (fun _ h => h) rfl hdg kk
theorem gX_fewest (S : CallFix p m c cc nL s args tb R_X) (hK : gK g s) {v0 v1 v2 v3 v4 : Value} (hP : va_P g.1 cl ws H) (he : ws[0]? = some (a, .inr (0, [v0, v1, v2, v3, v4]))) (hdg : decode cc pc = .ok (.getfield 16, 3)) (kk : W p l e R s m args below meth c H locs cells slots Q (F0 m (pc + 3) ls (v2 :: rest))) : W p l e R s m args below meth c H locs cells slots Q (F0 m pc ls (.ref a :: rest)) :=
  va_get (D := g.1) (ci := 0) (C := R_X) (T := F_X) (N := 5) S.1 S.2.1 S.2.2.2.2 u_X S.2.2.2.1 hK hP 0 he rfl 2 (by decide) (S.2.2.2.2 _ tw_19) (fun _ h => h) rfl hdg kk
theorem gX_known (S : CallFix p m c cc nL s args tb R_X) (hK : gK g s) {v0 v1 v2 v3 v4 : Value} (hP : va_P g.1 cl ws H) (he : ws[0]? = some (a, .inr (0, [v0, v1, v2, v3, v4]))) (hdg : decode cc pc = .ok (.getfield 34, 3)) (kk : W p l e R s m args below meth c H locs cells slots Q (F0 m (pc + 3) ls (v3 :: rest))) : W p l e R s m args below meth c H locs cells slots Q (F0 m pc ls (.ref a :: rest)) :=
  va_get (D := g.1) (ci := 0) (C := R_X) (T := F_X) (N := 5) S.1 S.2.1 S.2.2.2.2 u_X S.2.2.2.1 hK hP 0 he rfl 3 (by decide) (S.2.2.2.2 _ tw_20) (fun _ h => h) rfl hdg kk
theorem pX_known (S : CallFix p m c cc nL s args tb R_X) (hK : gK g s) {v0 v1 v2 v3 v4 : Value} {z : Int32} (hn : narrow .boolean (.int z) = .int z) (hf : fits .boolean (.int z) = true) (hP : va_P g.1 cl ((a, .inr (0, [v0, v1, v2, v3, v4])) :: tl) H) (hD : va_D A ((a, .inr (0, [v0, v1, v2, v3, v4])) :: tl)) (hS : va_S A s.heap H locs) (hdg : decode cc pc = .ok (.putfield 34, 3))
    (kk : ∀ (H1 : Heap) (locs1 : List Loc), va_P g.1 cl ((a, .inr (0, [v0, v1, v2, .int z, v4])) :: tl) H1 → va_D A ((a, .inr (0, [v0, v1, v2, .int z, v4])) :: tl) → va_S A s.heap H1 locs1 → W p l e R s m args below meth c H1 locs1 cells slots Q (F0 m (pc + 3) ls rest)) : W p l e R s m args below meth c H locs cells slots Q (F0 m pc ls (.int z :: .ref a :: rest)) :=
  va_put (D := g.1) (ci := 0) (C := R_X) (T := F_X) (N := 5) S.1 S.2.1 S.2.2.2.2 u_X t_X t_X_ok n_X S.2.2.2.1 hK hP hD hS 0 rfl rfl 3 (by decide) (S.2.2.2.2 _ tw_20) (fun _ h => h) rfl (ty := .boolean) (t_X_ok 3 (by decide)) hn hf (by show 3 < _; simp) hdg kk
theorem gX_parts (S : CallFix p m c cc nL s args tb R_X) (hK : gK g s) {v0 v1 v2 v3 v4 : Value} (hP : va_P g.1 cl ws H) (he : ws[0]? = some (a, .inr (0, [v0, v1, v2, v3, v4]))) (hdg : decode cc pc = .ok (.getfield 20, 3)) (kk : W p l e R s m args below meth c H locs cells slots Q (F0 m (pc + 3) ls (v4 :: rest))) : W p l e R s m args below meth c H locs cells slots Q (F0 m pc ls (.ref a :: rest)) :=
  va_get (D := g.1) (ci := 0) (C := R_X) (T := F_X) (N := 5) S.1 S.2.1 S.2.2.2.2 u_X S.2.2.2.1 hK hP 0 he rfl 4 (by decide) (S.2.2.2.2 _ tw_21) (fun _ h => h) rfl hdg kk
theorem gM_worth (S : CallFix p m c cc nL s args tb R_M) (hK : gK g s) {v0 v1 v2 v3 v4 v5 v6 : Value} (hP : va_P g.1 cl ws H) (he : ws[0]? = some (a, .inr (1, [v0, v1, v2, v3, v4, v5, v6]))) (hdg : decode cc pc = .ok (.getfield 7, 3)) (kk : W p l e R s m args below meth c H locs cells slots Q (F0 m (pc + 3) ls (v0 :: rest))) : W p l e R s m args below meth c H locs cells slots Q (F0 m pc ls (.ref a :: rest)) :=
  va_get (D := g.1) (ci := 1) (C := R_M) (T := F_M) (N := 7) S.1 S.2.1 S.2.2.2.2 u_M S.2.2.2.1 hK hP 0 he rfl 0 (by decide) (S.2.2.2.2 _ tw_203) (fun _ h => h) rfl hdg kk
theorem gM_notes (S : CallFix p m c cc nL s args tb R_M) (hK : gK g s) {v0 v1 v2 v3 v4 v5 v6 : Value} (hP : va_P g.1 cl ws H) (he : ws[0]? = some (a, .inr (1, [v0, v1, v2, v3, v4, v5, v6]))) (hdg : decode cc pc = .ok (.getfield 13, 3)) (kk : W p l e R s m args below meth c H locs cells slots Q (F0 m (pc + 3) ls (v1 :: rest))) : W p l e R s m args below meth c H locs cells slots Q (F0 m pc ls (.ref a :: rest)) :=
  va_get (D := g.1) (ci := 1) (C := R_M) (T := F_M) (N := 7) S.1 S.2.1 S.2.2.2.2 u_M S.2.2.2.1 hK hP 0 he rfl 1 (by decide) (S.2.2.2.2 _ tw_204) (fun _ h => h) rfl hdg kk
theorem gM_chosen (S : CallFix p m c cc nL s args tb R_M) (hK : gK g s) {v0 v1 v2 v3 v4 v5 v6 : Value} (hP : va_P g.1 cl ws H) (he : ws[0]? = some (a, .inr (1, [v0, v1, v2, v3, v4, v5, v6]))) (hdg : decode cc pc = .ok (.getfield 16, 3)) (kk : W p l e R s m args below meth c H locs cells slots Q (F0 m (pc + 3) ls (v2 :: rest))) : W p l e R s m args below meth c H locs cells slots Q (F0 m pc ls (.ref a :: rest)) :=
  va_get (D := g.1) (ci := 1) (C := R_M) (T := F_M) (N := 7) S.1 S.2.1 S.2.2.2.2 u_M S.2.2.2.1 hK hP 0 he rfl 2 (by decide) (S.2.2.2.2 _ tw_205) (fun _ h => h) rfl hdg kk
theorem gM_can (S : CallFix p m c cc nL s args tb R_M) (hK : gK g s) {v0 v1 v2 v3 v4 v5 v6 : Value} (hP : va_P g.1 cl ws H) (he : ws[0]? = some (a, .inr (1, [v0, v1, v2, v3, v4, v5, v6]))) (hdg : decode cc pc = .ok (.getfield 19, 3)) (kk : W p l e R s m args below meth c H locs cells slots Q (F0 m (pc + 3) ls (v3 :: rest))) : W p l e R s m args below meth c H locs cells slots Q (F0 m pc ls (.ref a :: rest)) :=
  va_get (D := g.1) (ci := 1) (C := R_M) (T := F_M) (N := 7) S.1 S.2.1 S.2.2.2.2 u_M S.2.2.2.1 hK hP 0 he rfl 3 (by decide) (S.2.2.2.2 _ tw_206) (fun _ h => h) rfl hdg kk
theorem gM_fewest (S : CallFix p m c cc nL s args tb R_M) (hK : gK g s) {v0 v1 v2 v3 v4 v5 v6 : Value} (hP : va_P g.1 cl ws H) (he : ws[0]? = some (a, .inr (1, [v0, v1, v2, v3, v4, v5, v6]))) (hdg : decode cc pc = .ok (.getfield 34, 3)) (kk : W p l e R s m args below meth c H locs cells slots Q (F0 m (pc + 3) ls (v4 :: rest))) : W p l e R s m args below meth c H locs cells slots Q (F0 m pc ls (.ref a :: rest)) :=
  va_get (D := g.1) (ci := 1) (C := R_M) (T := F_M) (N := 7) S.1 S.2.1 S.2.2.2.2 u_M S.2.2.2.1 hK hP 0 he rfl 4 (by decide) (S.2.2.2.2 _ tw_207) (fun _ h => h) rfl hdg kk
theorem pM_fewest (S : CallFix p m c cc nL s args tb R_M) (hK : gK g s) {v0 v1 v2 v3 v4 v5 v6 : Value} {z : Int32} (hP : va_P g.1 cl ((a, .inr (1, [v0, v1, v2, v3, v4, v5, v6])) :: tl) H) (hD : va_D A ((a, .inr (1, [v0, v1, v2, v3, v4, v5, v6])) :: tl)) (hS : va_S A s.heap H locs) (hdg : decode cc pc = .ok (.putfield 34, 3))
    (kk : ∀ (H1 : Heap) (locs1 : List Loc), va_P g.1 cl ((a, .inr (1, [v0, v1, v2, v3, .int z, v5, v6])) :: tl) H1 → va_D A ((a, .inr (1, [v0, v1, v2, v3, .int z, v5, v6])) :: tl) → va_S A s.heap H1 locs1 → W p l e R s m args below meth c H1 locs1 cells slots Q (F0 m (pc + 3) ls rest)) : W p l e R s m args below meth c H locs cells slots Q (F0 m pc ls (.int z :: .ref a :: rest)) :=
  va_put (D := g.1) (ci := 1) (C := R_M) (T := F_M) (N := 7) S.1 S.2.1 S.2.2.2.2 u_M t_M t_M_ok n_M S.2.2.2.1 hK hP hD hS 0 rfl rfl 4 (by decide) (S.2.2.2.2 _ tw_207) (fun _ h => h) rfl (ty := .int) (t_M_ok 4 (by decide)) rfl rfl (by show 4 < _; simp) hdg kk
theorem gM_mixes (S : CallFix p m c cc nL s args tb R_M) (hK : gK g s) {v0 v1 v2 v3 v4 v5 v6 : Value} (hP : va_P g.1 cl ws H) (he : ws[0]? = some (a, .inr (1, [v0, v1, v2, v3, v4, v5, v6]))) (hdg : decode cc pc = .ok (.getfield 31, 3)) (kk : W p l e R s m args below meth c H locs cells slots Q (F0 m (pc + 3) ls (v5 :: rest))) : W p l e R s m args below meth c H locs cells slots Q (F0 m pc ls (.ref a :: rest)) :=
  va_get (D := g.1) (ci := 1) (C := R_M) (T := F_M) (N := 7) S.1 S.2.1 S.2.2.2.2 u_M S.2.2.2.1 hK hP 0 he rfl 5 (by decide) (S.2.2.2.2 _ tw_208) (fun _ h => h) rfl hdg kk
theorem pM_mixes (S : CallFix p m c cc nL s args tb R_M) (hK : gK g s) {v0 v1 v2 v3 v4 v5 v6 : Value} {z : Int32} (hP : va_P g.1 cl ((a, .inr (1, [v0, v1, v2, v3, v4, v5, v6])) :: tl) H) (hD : va_D A ((a, .inr (1, [v0, v1, v2, v3, v4, v5, v6])) :: tl)) (hS : va_S A s.heap H locs) (hdg : decode cc pc = .ok (.putfield 31, 3))
    (kk : ∀ (H1 : Heap) (locs1 : List Loc), va_P g.1 cl ((a, .inr (1, [v0, v1, v2, v3, v4, .int z, v6])) :: tl) H1 → va_D A ((a, .inr (1, [v0, v1, v2, v3, v4, .int z, v6])) :: tl) → va_S A s.heap H1 locs1 → W p l e R s m args below meth c H1 locs1 cells slots Q (F0 m (pc + 3) ls rest)) : W p l e R s m args below meth c H locs cells slots Q (F0 m pc ls (.int z :: .ref a :: rest)) :=
  va_put (D := g.1) (ci := 1) (C := R_M) (T := F_M) (N := 7) S.1 S.2.1 S.2.2.2.2 u_M t_M t_M_ok n_M S.2.2.2.1 hK hP hD hS 0 rfl rfl 5 (by decide) (S.2.2.2.2 _ tw_208) (fun _ h => h) rfl (ty := .int) (t_M_ok 5 (by decide)) rfl rfl (by show 5 < _; simp) hdg kk
theorem gM_thrown (S : CallFix p m c cc nL s args tb R_M) (hK : gK g s) {v0 v1 v2 v3 v4 v5 v6 : Value} (hP : va_P g.1 cl ws H) (he : ws[0]? = some (a, .inr (1, [v0, v1, v2, v3, v4, v5, v6]))) (hdg : decode cc pc = .ok (.getfield 23, 3)) (kk : W p l e R s m args below meth c H locs cells slots Q (F0 m (pc + 3) ls (v6 :: rest))) : W p l e R s m args below meth c H locs cells slots Q (F0 m pc ls (.ref a :: rest)) :=
  va_get (D := g.1) (ci := 1) (C := R_M) (T := F_M) (N := 7) S.1 S.2.1 S.2.2.2.2 u_M S.2.2.2.1 hK hP 0 he rfl 6 (by decide) (S.2.2.2.2 _ tw_209) (fun _ h => h) rfl hdg kk
theorem pM_thrown (S : CallFix p m c cc nL s args tb R_M) (hK : gK g s) {v0 v1 v2 v3 v4 v5 v6 : Value} {z : Int32} (hP : va_P g.1 cl ((a, .inr (1, [v0, v1, v2, v3, v4, v5, v6])) :: tl) H) (hD : va_D A ((a, .inr (1, [v0, v1, v2, v3, v4, v5, v6])) :: tl)) (hS : va_S A s.heap H locs) (hdg : decode cc pc = .ok (.putfield 23, 3))
    (kk : ∀ (H1 : Heap) (locs1 : List Loc), va_P g.1 cl ((a, .inr (1, [v0, v1, v2, v3, v4, v5, .int z])) :: tl) H1 → va_D A ((a, .inr (1, [v0, v1, v2, v3, v4, v5, .int z])) :: tl) → va_S A s.heap H1 locs1 → W p l e R s m args below meth c H1 locs1 cells slots Q (F0 m (pc + 3) ls rest)) : W p l e R s m args below meth c H locs cells slots Q (F0 m pc ls (.int z :: .ref a :: rest)) :=
  va_put (D := g.1) (ci := 1) (C := R_M) (T := F_M) (N := 7) S.1 S.2.1 S.2.2.2.2 u_M t_M t_M_ok n_M S.2.2.2.1 hK hP hD hS 0 rfl rfl 6 (by decide) (S.2.2.2.2 _ tw_209) (fun _ h => h) rfl (ty := .int) (t_M_ok 6 (by decide)) rfl rfl (by show 6 < _; simp) hdg kk
theorem n_iald (hexec : p.tables.exec = Jvm.exec) (hb : c.code = cc) (hK : gK g s) (hP : va_P g.1 cl ws H) (q0 : Nat) {n i : Nat} {f : Nat → Int32} (ha : ws[q0]? = some (a, .inl (g.2 0, n, .inl f))) (hi : i < n) (hn : n < 2147483648) (hdg : decode cc pc = .ok (.iaload, 1)) (kk : W p l e R s m args below meth c H locs cells slots Q (F0 m (pc + 1) ls (.int (f i) :: rest))) : W p l e R s m args below meth c H locs cells slots Q (F0 m pc ls (.int (nI i) :: .ref a :: rest)) :=
  va_iald hexec hb hK hP q0 0 ha rfl (vp_in_nI hi hn) hdg (by rw [nI_clamp (show i < 2 ^ 31 by omega)]; exact kk)
theorem n_bald (hexec : p.tables.exec = Jvm.exec) (hb : c.code = cc) (hK : gK g s) (hP : va_P g.1 cl ws H) (q0 : Nat) {n i : Nat} {f : Nat → Int32} (ha : ws[q0]? = some (a, .inl (g.2 1, n, .inl f))) (hi : i < n) (hn : n < 2147483648) (hdg : decode cc pc = .ok (.baload, 1)) (kk : W p l e R s m args below meth c H locs cells slots Q (F0 m (pc + 1) ls (.int (f i) :: rest))) : W p l e R s m args below meth c H locs cells slots Q (F0 m pc ls (.int (nI i) :: .ref a :: rest)) :=
  va_bald hexec hb hK hP q0 1 ha rfl (vp_in_nI hi hn) hdg (by rw [nI_clamp (show i < 2 ^ 31 by omega)]; exact kk)
theorem n_zald (hexec : p.tables.exec = Jvm.exec) (hb : c.code = cc) (hK : gK g s) (hP : va_P g.1 cl ws H) (q0 : Nat) {n i : Nat} {f : Nat → Int32} (ha : ws[q0]? = some (a, .inl (g.2 2, n, .inl f))) (hi : i < n) (hn : n < 2147483648) (hdg : decode cc pc = .ok (.baload, 1)) (kk : W p l e R s m args below meth c H locs cells slots Q (F0 m (pc + 1) ls (.int (f i) :: rest))) : W p l e R s m args below meth c H locs cells slots Q (F0 m pc ls (.int (nI i) :: .ref a :: rest)) :=
  va_zald hexec hb hK hP q0 2 ha rfl (vp_in_nI hi hn) hdg (by rw [nI_clamp (show i < 2 ^ 31 by omega)]; exact kk)
theorem n_iast (hexec : p.tables.exec = Jvm.exec) (hb : c.code = cc) (hK : gK g s) (hP : va_P g.1 cl ws H) (hD : va_D A ws) (hS : va_S A s.heap H locs) (q0 : Nat) {n i : Nat} {f : Nat → Int32} {x : Int32} (ha : ws[q0]? = some (a, .inl (g.2 0, n, .inl f))) (hi : i < n) (hn : n < 2147483648) (hdg : decode cc pc = .ok (.iastore, 1))
    (kk : ∀ (H1 : Heap) (locs1 : List Loc), va_P g.1 cl (ws.set q0 (a, .inl (g.2 0, n, .inl (upd f i x)))) H1 → va_D A (ws.set q0 (a, .inl (g.2 0, n, .inl (upd f i x)))) → va_S A s.heap H1 locs1 → W p l e R s m args below meth c H1 locs1 cells slots Q (F0 m (pc + 1) ls rest)) : W p l e R s m args below meth c H locs cells slots Q (F0 m pc ls (.int x :: .int (nI i) :: .ref a :: rest)) := by
  refine va_iast hexec hb hK hP hD hS q0 0 ha rfl (vp_in_nI hi hn) hdg (fun H1 locs1 h1 h2 h3 => ?_)
  rw [nI_clamp (show i < 2 ^ 31 by omega)] at h1 h2
  exact kk H1 locs1 h1 h2 h3
theorem n_bast (hexec : p.tables.exec = Jvm.exec) (hb : c.code = cc) (hK : gK g s) (hP : va_P g.1 cl ws H) (hD : va_D A ws) (hS : va_S A s.heap H locs) (q0 : Nat) {n i : Nat} {f : Nat → Int32} {x : Int32} (ha : ws[q0]? = some (a, .inl (g.2 1, n, .inl f))) (hi : i < n) (hn : n < 2147483648) (hdg : decode cc pc = .ok (.bastore, 1))
    (kk : ∀ (H1 : Heap) (locs1 : List Loc), va_P g.1 cl (ws.set q0 (a, .inl (g.2 1, n, .inl (upd f i (vp_nar .byte x))))) H1 → va_D A (ws.set q0 (a, .inl (g.2 1, n, .inl (upd f i (vp_nar .byte x))))) → va_S A s.heap H1 locs1 → W p l e R s m args below meth c H1 locs1 cells slots Q (F0 m (pc + 1) ls rest)) : W p l e R s m args below meth c H locs cells slots Q (F0 m pc ls (.int x :: .int (nI i) :: .ref a :: rest)) := by
  refine va_bast hexec hb hK hP hD hS q0 1 ha rfl (vp_in_nI hi hn) hdg (fun H1 locs1 h1 h2 h3 => ?_)
  rw [nI_clamp (show i < 2 ^ 31 by omega)] at h1 h2
  exact kk H1 locs1 h1 h2 h3
theorem n_zast (hexec : p.tables.exec = Jvm.exec) (hb : c.code = cc) (hK : gK g s) (hP : va_P g.1 cl ws H) (hD : va_D A ws) (hS : va_S A s.heap H locs) (q0 : Nat) {n i : Nat} {f : Nat → Int32} {x : Int32} (ha : ws[q0]? = some (a, .inl (g.2 2, n, .inl f))) (hi : i < n) (hn : n < 2147483648) (hdg : decode cc pc = .ok (.bastore, 1))
    (kk : ∀ (H1 : Heap) (locs1 : List Loc), va_P g.1 cl (ws.set q0 (a, .inl (g.2 2, n, .inl (upd f i (vp_nar .boolean x))))) H1 → va_D A (ws.set q0 (a, .inl (g.2 2, n, .inl (upd f i (vp_nar .boolean x))))) → va_S A s.heap H1 locs1 → W p l e R s m args below meth c H1 locs1 cells slots Q (F0 m (pc + 1) ls rest)) : W p l e R s m args below meth c H locs cells slots Q (F0 m pc ls (.int x :: .int (nI i) :: .ref a :: rest)) := by
  refine va_zast hexec hb hK hP hD hS q0 2 ha rfl (vp_in_nI hi hn) hdg (fun H1 locs1 h1 h2 h3 => ?_)
  rw [nI_clamp (show i < 2 ^ 31 by omega)] at h1 h2
  exact kk H1 locs1 h1 h2 h3
end RWB
end
section
/-! contracts: what all of them speak of; then in, right, before, atMost -/
def nt_gd (W N : Nat → Nat) : Prop := ∀ i, i < 4 → 1 ≤ W i ∧ W i ≤ 500 ∧ N i ≤ 500
/-- the rows are right, or will be made anew -/
def nt_kn (W N : Nat → Nat) (kn : Int32) (fw : Nat → Int32) : Prop := kn = 0 ∨ (kn = 1 ∧ ∀ r v, r < 4 → v ≤ 2000 → fw (r * 2001 + v) = nI (nt_rw W N (r + 1) v))
def in3 (v a b : Int32) : Int32 := if a ≤ v ∧ v ≤ b then 1 else 0
theorem in3_lo {v a b : Int32} (h : v < a) : in3 v a b = 0 := by
  unfold in3
  rw [if_neg]
  intro q
  have h1 := Int32.lt_iff_toInt_lt.mp h
  have h2 := Int32.le_iff_toInt_le.mp q.1
  omega
theorem in3_hi {v a b : Int32} (h : b < v) : in3 v a b = 0 := by
  unfold in3
  rw [if_neg]
  intro q
  have h1 := Int32.lt_iff_toInt_lt.mp h
  have h2 := Int32.le_iff_toInt_le.mp q.2
  omega
theorem in3_in {v a b : Int32} (h1 : ¬ v < a) (h2 : ¬ b < v) : in3 v a b = 1 := by
  unfold in3
  rw [if_pos]
  rw [Int32.lt_iff_toInt_lt] at h1 h2
  exact ⟨Int32.le_iff_toInt_le.mpr (by omega), Int32.le_iff_toInt_le.mpr (by omega)⟩
/-- in range, from a Nat on to a Nat: it is such a Nat -/
theorem in3_nI {v : Int32} {a b : Nat} (hb : b < 2147483648) (ha : a < 2147483648) (h : in3 v (nI a) (nI b) ≠ 0) : ∃ n, v = nI n ∧ a ≤ n ∧ n ≤ b := by
  unfold in3 at h
  split at h
  · rename_i q
    obtain ⟨q1, q2⟩ := q
    have h0 : ¬ v < 0 := by
      intro z
      have h1 := Int32.lt_iff_toInt_lt.mp z
      have h2 := Int32.le_iff_toInt_le.mp q1
      rw [nI_toInt ha] at h2
      rw [Int32.toInt_zero] at h1
      omega
    obtain ⟨n, hn, rfl⟩ := nI_of h0
    exact ⟨n, rfl, (nI_leI ha hn).mp q1, (nI_leI hn hb).mp q2⟩
  · exact absurd rfl h
theorem in3_01 (v a b : Int32) : in3 v a b = 0 ∨ in3 v a b = 1 := by
  unfold in3
  split
  · exact Or.inr rfl
  · exact Or.inl rfl

abbrev rm1 : Room := { frames := 6, cells := 1, slots := 6, locals := 81 }
abbrev IAE : String := "java/lang/IllegalArgumentException"
abbrev NSE : String := "java/util/NoSuchElementException"
theorem c_X_in (l : Launch) (v a b : Int32) : Ct l y_X_in cd_X_in rm0 (0, 0) (va_Pc [.int v, .int a, .int b] (fun _ => True)) (xk_pi (in3 v a b)) (fun _ => False) := by
  refine Ct.ofW (by decide) ?_
  intro p e s m args below meth c B hv
  obtain ⟨rfl, -⟩ := hv
  obtain ⟨⟨hx, hb, hml, hown, hts⟩, hret, hlk, hnm, hex⟩ := id B
  have hl := lv_entry ([.int v, .int a, .int b]) (n := 3) (Nat.le_of_ble_eq_true rfl)
  rw [lg_entry_eq]
  generalize (lg_sl ([.int v, .int a, .int b]) ++ List.replicate (3 - (lg_sl ([.int v, .int a, .int b])).length) Slot.unset).toArray = ls at hl ⊢
  have hl : lv_has ls 3 [(0, .int v), (1, .int a), (2, .int b)] := hl
  have hS : va_S (fun _ => False) s.heap s.heap [] := va_S.rf
  refine lv_iload_n hx hb d_X_in_0 rfl (lv_at hl 0 rfl) ?_
  refine lv_iload_n hx hb d_X_in_1 rfl (lv_at hl 1 rfl) ?_
  refine lv_icmp_lt hx hb d_X_in_2 rfl (fun h => ?_) (fun h => ?_)
  · refine lv_iconst (v := nI 0) hx hb d_X_in_14 (by decide) ?_
    exact x_zret B (by decide) hS (by decide) (by decide) (fun t ht hW => ⟨by rw [in3_lo h]; rfl, ht⟩) d_X_in_15
  · refine lv_iload_n hx hb d_X_in_5 rfl (lv_at hl 0 rfl) ?_
    refine lv_iload_n hx hb d_X_in_6 rfl (lv_at hl 2 rfl) ?_
    refine lv_icmp_gt hx hb d_X_in_7 rfl (fun h2 => ?_) (fun h2 => ?_)
    · refine lv_iconst (v := nI 0) hx hb d_X_in_14 (by decide) ?_
      exact x_zret B (by decide) hS (by decide) (by decide) (fun t ht hW => ⟨by rw [in3_hi h2]; rfl, ht⟩) d_X_in_15
    · refine lv_iconst (v := nI 1) hx hb d_X_in_10 (by decide) ?_
      refine lv_goto hx hb d_X_in_11 rfl ?_
      exact x_zret B (by decide) hS (by decide) (by decide) (fun t ht hW => ⟨by rw [in3_in h h2]; rfl, ht⟩) d_X_in_15
theorem c_M_in (l : Launch) (v a b : Int32) : Ct l y_M_in cd_M_in rm0 (0, 0) (va_Pc [.int v, .int a, .int b] (fun _ => True)) (xk_pi (in3 v a b)) (fun _ => False) := by
  refine Ct.ofW (by decide) ?_
  intro p e s m args below meth c B hv
  obtain ⟨rfl, -⟩ := hv
  obtain ⟨⟨hx, hb, hml, hown, hts⟩, hret, hlk, hnm, hex⟩ := id B
  have hl := lv_entry ([.int v, .int a, .int b]) (n := 3) (Nat.le_of_ble_eq_true rfl)
  rw [lg_entry_eq]
  generalize (lg_sl ([.int v, .int a, .int b]) ++ List.replicate (3 - (lg_sl ([.int v, .int a, .int b])).length) Slot.unset).toArray = ls at hl ⊢
  have hl : lv_has ls 3 [(0, .int v), (1, .int a), (2, .int b)] := hl
  have hS : va_S (fun _ => False) s.heap s.heap [] := va_S.rf
  refine lv_iload_n hx hb d_M_in_0 rfl (lv_at hl 0 rfl) ?_
  refine lv_iload_n hx hb d_M_in_1 rfl (lv_at hl 1 rfl) ?_
  refine lv_icmp_lt hx hb d_M_in_2 rfl (fun h => ?_) (fun h => ?_)
  · refine lv_iconst (v := nI 0) hx hb d_M_in_14 (by decide) ?_
    exact x_zret B (by decide) hS (by decide) (by decide) (fun t ht hW => ⟨by rw [in3_lo h]; rfl, ht⟩) d_M_in_15
  · refine lv_iload_n hx hb d_M_in_5 rfl (lv_at hl 0 rfl) ?_
    refine lv_iload_n hx hb d_M_in_6 rfl (lv_at hl 2 rfl) ?_
    refine lv_icmp_gt hx hb d_M_in_7 rfl (fun h2 => ?_) (fun h2 => ?_)
    · refine lv_iconst (v := nI 0) hx hb d_M_in_14 (by decide) ?_
      exact x_zret B (by decide) hS (by decide) (by decide) (fun t ht hW => ⟨by rw [in3_hi h2]; rfl, ht⟩) d_M_in_15
    · refine lv_iconst (v := nI 1) hx hb d_M_in_10 (by decide) ?_
      refine lv_goto hx hb d_M_in_11 rfl ?_
      exact x_zret B (by decide) hS (by decide) (by decide) (fun t ht hW => ⟨by rw [in3_in h h2]; rfl, ht⟩) d_M_in_15
/-- right(is): an IllegalArgumentException unless it is; no old cell changes -/
def q_right (is : Int32) : Array Value → State → Outcome → State → Prop := fun _ st o t => (is ≠ 0 ∧ o = .returned none ∧ t.heap = st.heap) ∨ (is = 0 ∧ ∃ x, o = .threw x ∧ TH IAE x t ∧ st.heap.size ≤ t.heap.size ∧ ∀ q : Nat, q < st.heap.size → t.heap[q]? = st.heap[q]?)
theorem w_iae (own : String) (ic : Nat) (h : Cond.methodLink own ic ⟨IAE, "<init>", "()V"⟩ ∈ tb) : ∀ w ∈ Bundle.ownAtoms0 own ic IAE ["java/lang/RuntimeException", "java/lang/Exception"], w ∈ tb ∨ w ∈ xk_st := by
  intro w hw
  simp only [Bundle.ownAtoms0, List.mem_append] at hw
  rcases hw with (hw | hw) | hw
  · revert w; decide +kernel
  · revert w; decide +kernel
  · rcases List.mem_cons.mp hw with rfl | hw2
    · exact Or.inl h
    · clear h hw
      revert w; decide +kernel
theorem w_nse (own : String) (ic : Nat) (h : Cond.methodLink own ic ⟨NSE, "<init>", "()V"⟩ ∈ tb) : ∀ w ∈ Bundle.ownAtoms0 own ic NSE ["java/lang/RuntimeException", "java/lang/Exception"], w ∈ tb ∨ w ∈ xk_st := by
  intro w hw
  simp only [Bundle.ownAtoms0, List.mem_append] at hw
  rcases hw with (hw | hw) | hw
  · revert w; decide +kernel
  · revert w; decide +kernel
  · rcases List.mem_cons.mp hw with rfl | hw2
    · exact Or.inl h
    · clear h hw
      revert w; decide +kernel
theorem c_X_right (l : Launch) (hfl : l.flags = flags0) (is : Int32) (sz : Nat) : Ct l y_X_right cd_X_right rm1 (0, 0) (va_Pc [.int is] (fun U => U.heap.size = sz ∧ TS (fun q => sz ≤ q) U U.heap)) (q_right is) (fun q => sz ≤ q) := by
  refine Ct.ofW (by decide) ?_
  intro p e s m args below meth c B hv
  obtain ⟨rfl, hsz, hTS⟩ := hv
  subst hsz
  obtain ⟨⟨hx, hb, hml, hown, hts⟩, hret, hlk, hnm, hex⟩ := id B
  have hl := lv_entry ([.int is]) (n := 1) (Nat.le_of_ble_eq_true rfl)
  rw [lg_entry_eq]
  generalize (lg_sl ([.int is]) ++ List.replicate (1 - (lg_sl ([.int is])).length) Slot.unset).toArray = ls at hl ⊢
  have hl : lv_has ls 1 [(0, .int is)] := hl
  have hS : va_S (fun q => s.heap.size ≤ q) s.heap s.heap [] := va_S.rf
  refine lv_iload_n hx hb d_X_right_0 rfl (lv_at hl 0 rfl) ?_
  refine lv_if_ne hx hb d_X_right_1 rfl (fun h => ?_) (fun h => ?_)
  · exact x_vret B hS (by decide) (by decide) (fun t ht hW => Or.inl ⟨h, rfl, ht⟩) d_X_right_12
  · exact x_thr (cls := IAE) (names := ["java/lang/RuntimeException", "java/lang/Exception"]) hfl B hTS hS (by decide +kernel) (by decide +kernel) (w_iae _ _ tw_105) tw_65 tw_66 tw_6 d_X_right_4 d_X_right_7 d_X_right_8 d_X_right_11 hl.1 (by decide) (by decide) (by decide) (by decide) (fun x t hW hth hz hq => Or.inr ⟨h, x, rfl, hth, hz, hq⟩)
end
section
/-! NoteMix: before, atMost -/
def qX (g : Gc) (ad : Nat → Nat) (wv nv : Nat → Int32) (kn : Int32) (fw pp : Nat → Int32) (sz : Nat) (U : State) : Prop := U.heap.size = sz ∧ va_P g.1 cl (wX g ad wv nv kn fw pp) U.heap ∧ gK g U ∧ va_D (fun _ => True) (wX g ad wv nv kn fw pp)
theorem preX {s : State} {H : Heap} {A : Nat → Prop} {g : Gc} {ad : Nat → Nat} {wv nv : Nat → Int32} {kn : Int32} {fw pp : Nat → Int32} {As : List Value} (hP : va_P g.1 cl (wX g ad wv nv kn fw pp) H) (hK : gK g s) (hD : va_D A (wX g ad wv nv kn fw pp)) : PreS s H (va_Pc As (qX g ad wv nv kn fw pp H.size)) As :=
  ⟨fun a U g1 mk q => by obtain ⟨q0, q1, qP, qK, qD⟩ := q; exact ⟨q0, q1, qP, va_K.moved (u := U) (U := U.calling g1 mk a) (Vm.Alike.refl U.vm) qK, qD⟩, fun U hU hW => ⟨rfl, by rw [hU], by rw [hU]; exact hP, va_K.moved hW.alike hK, hD.weaken (fun _ _ _ _ => trivial)⟩⟩
theorem recX {s : State} {H : Heap} {g : Gc} {ad : Nat → Nat} {wv nv : Nat → Int32} {kn : Int32} {fw pp : Nat → Int32} (hK : gK g s) (hP : va_P g.1 cl (wX g ad wv nv kn fw pp) H) : ∃ cell : Cell, H[ad 0]? = some cell ∧ cell.vm.isStatics = false ∧ s.vm.findClass R_X = some cell.cls := va_recv (q := (R_X, F_X, 5)) hK hP (ci := 0) rfl (q0 := 0) rfl
def bf (fw : Nat → Int32) (cN v : Nat) : Int32 := if cN = 0 then (if v = 0 then 0 else 41) else fw ((cN - 1) * 2001 + v)
abbrev xw_R (R : Room) (cells slots : Nat) (rm : Room) (maxL : Nat) : Prop := rm.frames + 1 ≤ R.frames ∧ 8 + (maxL + 11) + rm.locals ≤ R.locals ∧ cells + rm.cells ≤ R.cells ∧ slots + rm.slots ≤ R.slots
theorem xw_X_before {R : Room} {cells slots : Nat} (h : xw_R R cells slots rm0 3) : xk_W R cells slots y_X_before cd_X_before rm0 3 2 := ⟨kc_X_before, Or.inl ⟨_, _, rfl⟩, tw_1, by decide, by decide +kernel, h.1, h.2.1, h.2.2.1, h.2.2.2⟩
theorem xw_X_atMost {R : Room} {cells slots : Nat} (h : xw_R R cells slots rm0 5) : xk_W R cells slots y_X_atMost cd_X_atMost rm0 5 3 := ⟨kc_X_atMost, Or.inl ⟨_, _, rfl⟩, tw_1, by decide, by decide +kernel, h.1, h.2.1, h.2.2.1, h.2.2.2⟩
theorem xw_X_in {R : Room} {cells slots : Nat} (h : xw_R R cells slots rm0 3) : xk_W R cells slots y_X_in cd_X_in rm0 3 3 := ⟨kc_X_in, Or.inl ⟨_, _, rfl⟩, tw_1, by decide, by decide +kernel, h.1, h.2.1, h.2.2.1, h.2.2.2⟩
theorem xw_X_right {R : Room} {cells slots : Nat} (h : xw_R R cells slots rm1 1) : xk_W R cells slots y_X_right cd_X_right rm1 1 1 := ⟨kc_X_right, Or.inl ⟨_, _, rfl⟩, tw_1, by decide, by decide +kernel, h.1, h.2.1, h.2.2.1, h.2.2.2⟩
theorem xw_M_in {R : Room} {cells slots : Nat} (h : xw_R R cells slots rm0 3) : xk_W R cells slots y_M_in cd_M_in rm0 3 3 := ⟨kc_M_in, Or.inl ⟨_, _, rfl⟩, tw_2, by decide, by decide +kernel, h.1, h.2.1, h.2.2.1, h.2.2.2⟩
theorem c_X_before (l : Launch) (g : Gc) (ad : Nat → Nat) (wv nv : Nat → Int32) (kn : Int32) (fw pp : Nat → Int32) (cN v sz : Nat) (hc : cN ≤ 4) (hv : v ≤ 2000) : Ct l y_X_before cd_X_before rm0 (0, 0) (va_Pc [.ref (ad 0), .int (nI cN), .int (nI v)] (qX g ad wv nv kn fw pp sz)) (xk_pi (bf fw cN v)) (fun _ => False) := by
  refine Ct.ofW (by decide) ?_
  intro p e s m args below meth c B hpre
  obtain ⟨rfl, hsz, hP, hK, hD0⟩ := hpre
  obtain ⟨⟨hx, hb, hml, hown, hts⟩, hret, hlk, hnm, hex⟩ := id B
  have hl := lv_entry ([.ref (ad 0), .int (nI cN), .int (nI v)]) (n := 3) (Nat.le_of_ble_eq_true rfl)
  rw [lg_entry_eq]
  generalize (lg_sl ([.ref (ad 0), .int (nI cN), .int (nI v)]) ++ List.replicate (3 - (lg_sl ([.ref (ad 0), .int (nI cN), .int (nI v)])).length) Slot.unset).toArray = ls at hl ⊢
  have hl : lv_has ls 3 [(0, .ref (ad 0)), (1, .int (nI cN)), (2, .int (nI v))] := hl
  have hS : va_S (fun _ => False) s.heap s.heap [] := va_S.rf
  refine lv_iload_n hx hb d_X_before_0 rfl (lv_at hl 1 rfl) ?_
  refine n_ifle hx hb d_X_before_1 rfl (by omega) (fun h => ?_) (fun h => ?_)
  · refine lv_iload_n hx hb d_X_before_21 rfl (lv_at hl 2 rfl) ?_
    refine n_ifne hx hb d_X_before_22 rfl (by omega) (fun h2 => ?_) (fun h2 => ?_)
    · refine lv_bipush (v := nI 41) hx hb d_X_before_29 (by decide) ?_
      exact x_iret B hS (by decide) (by decide) (fun t ht hW => ⟨by unfold bf; rw [if_pos h, if_neg (by omega)]; rfl, ht⟩) d_X_before_31
    · refine lv_iconst (v := nI 0) hx hb d_X_before_25 (by decide) ?_
      refine lv_goto hx hb d_X_before_26 rfl ?_
      exact x_iret B hS (by decide) (by decide) (fun t ht hW => ⟨by unfold bf; rw [if_pos h, if_pos h2]; rfl, ht⟩) d_X_before_31
  · refine lv_aload_n hx hb d_X_before_4 rfl (lv_at hl 0 rfl) ?_
    refine gX_fewest B.1 hK hP rfl d_X_before_5 ?_
    refine lv_iload_n hx hb d_X_before_8 rfl (lv_at hl 1 rfl) ?_
    refine lv_iconst (v := nI 1) hx hb d_X_before_9 (by decide) ?_
    refine n_sub hx hb d_X_before_10 (by omega) ?_
    refine lv_sipush (v := nI 2001) hx hb d_X_before_11 (by decide) ?_
    refine n_mul hx hb d_X_before_14 ?_
    refine lv_iload_n hx hb d_X_before_15 rfl (lv_at hl 2 rfl) ?_
    refine n_add hx hb d_X_before_16 ?_
    refine n_bald hx hb hK hP 3 rfl (by omega) (by decide) d_X_before_17 ?_
    refine lv_goto hx hb d_X_before_18 rfl ?_
    exact x_iret B hS (by decide) (by decide) (fun t ht hW => ⟨by unfold bf; rw [if_neg (by omega)], ht⟩) d_X_before_31
theorem c_X_atMost (l : Launch) (g : Gc) (ad : Nat → Nat) (W N : Nat → Nat) (kn : Int32) (fw pp : Nat → Int32) (cN left am sz : Nat) (hG : nt_gd W N) (hc : cN < 4) (hle : left ≤ 40) (ham : am ≤ 2000) : Ct l y_X_atMost cd_X_atMost rm0 (0, 0) (va_Pc [.ref (ad 0), .int (nI cN), .int (nI left), .int (nI am)] (qX g ad (nF W) (nF N) kn fw pp sz)) (xk_pi (nI (min (min (am / W cN) (N cN)) left))) (fun _ => False) := by
  refine Ct.ofW (by decide) ?_
  intro p e s m args below meth c B hpre
  obtain ⟨rfl, hsz, hP, hK, hD0⟩ := hpre
  obtain ⟨⟨hx, hb, hml, hown, hts⟩, hret, hlk, hnm, hex⟩ := id B
  have hl := lv_entry ([.ref (ad 0), .int (nI cN), .int (nI left), .int (nI am)]) (n := 5) (Nat.le_of_ble_eq_true rfl)
  rw [lg_entry_eq]
  generalize (lg_sl ([.ref (ad 0), .int (nI cN), .int (nI left), .int (nI am)]) ++ List.replicate (5 - (lg_sl ([.ref (ad 0), .int (nI cN), .int (nI left), .int (nI am)])).length) Slot.unset).toArray = ls at hl ⊢
  have hl : lv_has ls 5 [(0, .ref (ad 0)), (1, .int (nI cN)), (2, .int (nI left)), (3, .int (nI am))] := hl
  have hS : va_S (fun _ => False) s.heap s.heap [] := va_S.rf
  obtain ⟨hg1, hg2, hg3⟩ := hG cN hc
  have hdv : am / W cN ≤ 2000 := Nat.le_trans (Nat.div_le_self _ _) ham
  refine lv_iload_n hx hb d_X_atMost_0 rfl (lv_at hl 3 rfl) ?_
  refine lv_aload_n hx hb d_X_atMost_1 rfl (lv_at hl 0 rfl) ?_
  refine gX_worth B.1 hK hP rfl d_X_atMost_2 ?_
  refine lv_iload_n hx hb d_X_atMost_5 rfl (lv_at hl 1 rfl) ?_
  refine n_iald hx hb hK hP 1 rfl (by omega) (by decide) d_X_atMost_6 ?_
  refine n_div hx hb d_X_atMost_7 (by omega) (by omega) (by omega) ?_
  refine lv_istore (lv' := [(4, .int (nI (am / (W cN)))), (0, .ref (ad 0)), (1, .int (nI cN)), (2, .int (nI left)), (3, .int (nI am))]) hx hb d_X_atMost_8 hl (by decide) rfl (fun ls hl => ?_)
  refine lv_iload hx hb d_X_atMost_10 (lv_at hl 0 rfl) ?_
  refine lv_aload_n hx hb d_X_atMost_12 rfl (lv_at hl 1 rfl) ?_
  refine gX_notes B.1 hK hP rfl d_X_atMost_13 ?_
  refine lv_iload_n hx hb d_X_atMost_16 rfl (lv_at hl 2 rfl) ?_
  refine n_iald hx hb hK hP 2 rfl (by omega) (by decide) d_X_atMost_17 ?_
  refine n_ige hx hb d_X_atMost_18 rfl (by omega) (by omega) (fun h => ?_) (fun h => ?_)
  · refine lv_aload_n hx hb d_X_atMost_26 rfl (lv_at hl 1 rfl) ?_
    refine gX_notes B.1 hK hP rfl d_X_atMost_27 ?_
    refine lv_iload_n hx hb d_X_atMost_30 rfl (lv_at hl 2 rfl) ?_
    refine n_iald hx hb hK hP 2 rfl (by omega) (by decide) d_X_atMost_31 ?_
    refine lv_istore (lv' := [(4, .int (nI (N cN))), (0, .ref (ad 0)), (1, .int (nI cN)), (2, .int (nI left)), (3, .int (nI am))]) hx hb d_X_atMost_32 hl (by decide) rfl (fun ls hl => ?_)
    refine lv_iload hx hb d_X_atMost_34 (lv_at hl 0 rfl) ?_
    refine lv_iload_n hx hb d_X_atMost_36 rfl (lv_at hl 3 rfl) ?_
    refine n_ige hx hb d_X_atMost_37 rfl (by omega) (by omega) (fun h2 => ?_) (fun h2 => ?_)
    · refine lv_iload_n hx hb d_X_atMost_45 rfl (lv_at hl 3 rfl) ?_
      exact x_iret B hS (by decide) (by decide) (fun t ht hW => ⟨by rw [show min (min (am / W cN) (N cN)) left = left by omega], ht⟩) d_X_atMost_46
    · refine lv_iload hx hb d_X_atMost_40 (lv_at hl 0 rfl) ?_
      refine lv_goto hx hb d_X_atMost_42 rfl ?_
      exact x_iret B hS (by decide) (by decide) (fun t ht hW => ⟨by rw [show min (min (am / W cN) (N cN)) left = N cN by omega], ht⟩) d_X_atMost_46
  · refine lv_iload hx hb d_X_atMost_21 (lv_at hl 0 rfl) ?_
    refine lv_goto hx hb d_X_atMost_23 rfl ?_
    refine lv_istore (lv' := [(4, .int (nI (am / (W cN)))), (0, .ref (ad 0)), (1, .int (nI cN)), (2, .int (nI left)), (3, .int (nI am))]) hx hb d_X_atMost_32 hl (by decide) rfl (fun ls hl => ?_)
    refine lv_iload hx hb d_X_atMost_34 (lv_at hl 0 rfl) ?_
    refine lv_iload_n hx hb d_X_atMost_36 rfl (lv_at hl 3 rfl) ?_
    refine n_ige hx hb d_X_atMost_37 rfl (by omega) (by omega) (fun h2 => ?_) (fun h2 => ?_)
    · refine lv_iload_n hx hb d_X_atMost_45 rfl (lv_at hl 3 rfl) ?_
      exact x_iret B hS (by decide) (by decide) (fun t ht hW => ⟨by rw [show min (min (am / W cN) (N cN)) left = left by omega], ht⟩) d_X_atMost_46
    · refine lv_iload hx hb d_X_atMost_40 (lv_at hl 0 rfl) ?_
      refine lv_goto hx hb d_X_atMost_42 rfl ?_
      exact x_iret B hS (by decide) (by decide) (fun t ht hW => ⟨by rw [show min (min (am / W cN) (N cN)) left = am / W cN by omega], ht⟩) d_X_atMost_46
end
section
/-! NoteMix.work: the rows -/
section WKA
variable {p : Program} {l : Launch} {e : Env} {R : Room} {s : State} {m : MethodId} {args : Array Value} {below : List Frame} {meth : Method} {c : Code} {H : Heap} {locs : List Loc} {cells slots : Nat} {Q : State → Prop}
variable {g : Gc} {ad : Nat → Nat} {A : Nat → Prop} {ls : Array Slot}
variable {wo N : Nat → Nat} {kn : Int32} {fw pp : Nat → Int32} {cN v most : Nat}
/-- row by row so far -/
def wk_I (wo N : Nat → Nat) (cN v : Nat) (fw : Nat → Int32) : Prop := (∀ r u, r < cN → u ≤ 2000 → fw (r * 2001 + u) = nI (nt_rw wo N (r + 1) u)) ∧ ∀ u, u < v → fw (cN * 2001 + u) = nI (nt_rw wo N (cN + 1) u)
theorem wk_bf (h : wk_I wo N cN v fw) (hc : cN < 4) : ∀ u, u ≤ 2000 → bf fw cN u = nI (nt_rw wo N cN u) := by
  intro u hu
  unfold bf
  cases cN with
  | zero =>
    rw [if_pos rfl]
    show (if u = 0 then (0 : Int32) else 41) = nI (if u = 0 then 0 else 41)
    split <;> rfl
  | succ k =>
    rw [if_neg (by omega), show k + 1 - 1 = k by omega]
    exact h.1 k u (by omega) hu
theorem wk_byte : ∀ k, k ≤ 41 → (nI k).toInt8.toInt32 = nI k := by decide +kernel
theorem wk_k (B : xk_B p s m args meth c y_X_work b_X_work 7 none []) (hG : nt_gd wo N) (hK : gK g s) (hR : xw_R R cells slots rm0 3) (hc : cN < 4) (hm : most = min (N cN) 40) (hv : v ≤ 2000) (hI : wk_I wo N cN v fw) (hP : va_P g.1 cl (wX g ad (nF wo) (nF N) kn fw pp) H) (hD : va_D A (wX g ad (nF wo) (nF N) kn fw pp)) (hS : va_S A s.heap H locs)
    (kk : ∀ ls, lv_has ls 7 [(0, .ref (ad 0)), (1, .int (nI cN)), (2, .int (nI most)), (3, .int (nI v)), (4, .int (nI (nt_rw wo N (cN + 1) v)))] → W p l e R s m args below meth c H locs cells slots Q (F0 m 116 ls [])) :
    ∀ (n k lst : Nat) (ls : Array Slot), min most (v / wo cN) + 1 - k < n → k ≤ min most (v / wo cN) + 1 → lst = nt_ls (fun k => nt_rw wo N cN (v - k * wo cN) + k) k → lv_has ls 7 [(0, .ref (ad 0)), (1, .int (nI cN)), (2, .int (nI most)), (3, .int (nI v)), (4, .int (nI lst)), (5, .int (nI k))] → W p l e R s m args below meth c H locs cells slots Q (F0 m 59 ls []) := by
  obtain ⟨hg1, hg2, hg3⟩ := hG cN hc
  obtain ⟨hx, hb, hml, hown, hts⟩ := B.1
  have hfin : ∀ lst k, lst = nt_ls (fun k => nt_rw wo N cN (v - k * wo cN) + k) k → k = min most (v / wo cN) + 1 → lst = nt_rw wo N (cN + 1) v := by
    intro lst k h1 h2
    rw [h1, h2, hm]
    rfl
  intro n
  induction n with
  | zero => intro k lst ls h; omega
  | succ n ih =>
    intro k lst ls hn hk hlst hl
    have hl41 : lst ≤ 41 := by rw [hlst]; exact nt_ls_41 _ _
    refine lv_iload hx hb d_X_work_59 (lv_at hl 5 rfl) ?_
    refine lv_iload_n hx hb d_X_work_61 rfl (lv_at hl 2 rfl) ?_
    refine n_igt hx hb d_X_work_62 rfl (by omega) (by omega) (fun h1 => ?_) (fun h1 => ?_)
    · have e := hfin lst k hlst (by omega)
      subst e
      have hl := lv_sub (l' := [(0, .ref (ad 0)), (1, .int (nI cN)), (2, .int (nI most)), (3, .int (nI v)), (4, .int (nI (nt_rw wo N (cN + 1) v)))]) hl [0, 1, 2, 3, 4] rfl
      exact kk ls hl
    · have hkw : k * wo cN ≤ 40 * 500 := Nat.mul_le_mul (by omega) hg2
      refine lv_iload hx hb d_X_work_65 (lv_at hl 5 rfl) ?_
      refine lv_aload_n hx hb d_X_work_67 rfl (lv_at hl 0 rfl) ?_
      refine gX_worth B.1 hK hP rfl d_X_work_68 ?_
      refine lv_iload_n hx hb d_X_work_71 rfl (lv_at hl 1 rfl) ?_
      refine n_iald hx hb hK hP 1 rfl (by omega) (by decide) d_X_work_72 ?_
      refine n_mul hx hb d_X_work_73 ?_
      refine lv_iload_n hx hb d_X_work_74 rfl (lv_at hl 3 rfl) ?_
      refine n_igt hx hb d_X_work_75 rfl (by omega) (by omega) (fun h2 => ?_) (fun h2 => ?_)
      · have hdl : v / wo cN < k := (Nat.div_lt_iff_lt_mul hg1).mpr h2
        have e := hfin lst k hlst (by omega)
        subst e
        have hl := lv_sub (l' := [(0, .ref (ad 0)), (1, .int (nI cN)), (2, .int (nI most)), (3, .int (nI v)), (4, .int (nI (nt_rw wo N (cN + 1) v)))]) hl [0, 1, 2, 3, 4] rfl
        exact kk ls hl
      · have hdl : k ≤ v / wo cN := (Nat.le_div_iff_mul_le hg1).mpr h2
        refine lv_aload_n hx hb d_X_work_78 rfl (lv_at hl 0 rfl) ?_
        refine lv_iload_n hx hb d_X_work_79 rfl (lv_at hl 1 rfl) ?_
        refine lv_iload_n hx hb d_X_work_80 rfl (lv_at hl 3 rfl) ?_
        refine lv_iload hx hb d_X_work_81 (lv_at hl 5 rfl) ?_
        refine lv_aload_n hx hb d_X_work_83 rfl (lv_at hl 0 rfl) ?_
        refine gX_worth B.1 hK hP rfl d_X_work_84 ?_
        refine lv_iload_n hx hb d_X_work_87 rfl (lv_at hl 1 rfl) ?_
        refine n_iald hx hb hK hP 1 rfl (by omega) (by decide) d_X_work_88 ?_
        refine n_mul hx hb d_X_work_89 ?_
        refine n_sub hx hb d_X_work_90 (by omega) ?_
        have hM := c_X_before l g ad (nF wo) (nF N) kn fw pp cN (v - k * wo cN) H.size (by omega) (by omega)
        rw [wk_bf hI hc _ (by omega)] at hM
        have hr41 := nt_rw_41 wo N cN (v - k * wo cN)
        refine x_pV (C := R_X) (b := ad 0) (As := [.int (nI cN), .int (nI (v - (k * (wo cN))))]) (rest := []) B.1 (hM) (xw_X_before hR) tw_43 tw_45 ts_1 (recX hK hP) (preX hP hK hD) hl.1 (by decide) hS rfl d_X_work_91 ?_
        refine lv_iload hx hb d_X_work_94 (lv_at hl 5 rfl) ?_
        refine n_add hx hb d_X_work_96 ?_
        refine lv_istore (lv' := [(6, .int (nI ((nt_rw wo N cN (v - k * wo cN)) + k))), (0, .ref (ad 0)), (1, .int (nI cN)), (2, .int (nI most)), (3, .int (nI v)), (4, .int (nI lst)), (5, .int (nI k))]) hx hb d_X_work_97 hl (by decide) rfl (fun ls hl => ?_)
        refine lv_iload hx hb d_X_work_99 (lv_at hl 0 rfl) ?_
        refine lv_iload hx hb d_X_work_101 (lv_at hl 5 rfl) ?_
        refine n_ige hx hb d_X_work_103 rfl (by omega) (by omega) (fun h3 => ?_) (fun h3 => ?_)
        · refine lv_iinc (k := 6) (v := nI (k + 1)) (lv' := [(5, .int (nI (k + 1))), (6, .int (nI ((nt_rw wo N cN (v - k * wo cN)) + k))), (0, .ref (ad 0)), (1, .int (nI cN)), (2, .int (nI most)), (3, .int (nI v)), (4, .int (nI lst))]) hx hb d_X_work_110 hl rfl (nI_add _ 1) (by decide) rfl (fun ls hl => ?_)
          refine lv_goto hx hb d_X_work_113 rfl ?_
          have hl := lv_sub (l' := [(0, .ref (ad 0)), (1, .int (nI cN)), (2, .int (nI most)), (3, .int (nI v)), (4, .int (nI lst)), (5, .int (nI (k + 1)))]) hl [2, 3, 4, 5, 6, 0] rfl
          exact ih (k + 1) _ ls (by omega) (by omega) (by show _ = min (nt_ls (fun k => nt_rw wo N cN (v - k * wo cN) + k) k) (nt_rw wo N cN (v - k * wo cN) + k); omega) hl
        · refine lv_iload hx hb d_X_work_106 (lv_at hl 0 rfl) ?_
          refine lv_istore (lv' := [(4, .int (nI ((nt_rw wo N cN (v - k * wo cN)) + k))), (6, .int (nI ((nt_rw wo N cN (v - k * wo cN)) + k))), (0, .ref (ad 0)), (1, .int (nI cN)), (2, .int (nI most)), (3, .int (nI v)), (5, .int (nI k))]) hx hb d_X_work_108 hl (by decide) rfl (fun ls hl => ?_)
          refine lv_iinc (k := 6) (v := nI (k + 1)) (lv' := [(5, .int (nI (k + 1))), (4, .int (nI ((nt_rw wo N cN (v - k * wo cN)) + k))), (6, .int (nI ((nt_rw wo N cN (v - k * wo cN)) + k))), (0, .ref (ad 0)), (1, .int (nI cN)), (2, .int (nI most)), (3, .int (nI v))]) hx hb d_X_work_110 hl rfl (nI_add _ 1) (by decide) rfl (fun ls hl => ?_)
          refine lv_goto hx hb d_X_work_113 rfl ?_
          have hl := lv_sub (l' := [(0, .ref (ad 0)), (1, .int (nI cN)), (2, .int (nI most)), (3, .int (nI v)), (4, .int (nI ((nt_rw wo N cN (v - k * wo cN)) + k))), (5, .int (nI (k + 1)))]) hl [3, 4, 5, 6, 1, 0] rfl
          exact ih (k + 1) _ ls (by omega) (by omega) (by show _ = min (nt_ls (fun k => nt_rw wo N cN (v - k * wo cN) + k) k) (nt_rw wo N cN (v - k * wo cN) + k); omega) hl
end WKA
section WKB
variable {p : Program} {l : Launch} {e : Env} {R : Room} {s : State} {m : MethodId} {args : Array Value} {below : List Frame} {meth : Method} {c : Code} {H : Heap} {locs : List Loc} {cells slots : Nat} {Q : State → Prop}
variable {g : Gc} {ad : Nat → Nat} {A : Nat → Prop} {ls : Array Slot}
variable {wo N : Nat → Nat} {kn : Int32} {pp : Nat → Int32} {cN most : Nat}
theorem wk_v (B : xk_B p s m args meth c y_X_work b_X_work 7 none []) (hG : nt_gd wo N) (hK : gK g s) (hR : xw_R R cells slots rm0 3) (hc : cN < 4) (hm : most = min (N cN) 40)
    (kk : ∀ (fw : Nat → Int32) (H : Heap) (locs : List Loc) (ls : Array Slot), wk_I wo N (cN + 1) 0 fw → va_P g.1 cl (wX g ad (nF wo) (nF N) kn fw pp) H → va_D A (wX g ad (nF wo) (nF N) kn fw pp) → va_S A s.heap H locs → lv_has ls 7 [(0, .ref (ad 0)), (1, .int (nI cN))] → W p l e R s m args below meth c H locs cells slots Q (F0 m 137 ls [])) :
    ∀ (n v : Nat) (fw : Nat → Int32) (H : Heap) (locs : List Loc) (ls : Array Slot), 2001 - v < n → v ≤ 2001 → wk_I wo N cN v fw → va_P g.1 cl (wX g ad (nF wo) (nF N) kn fw pp) H → va_D A (wX g ad (nF wo) (nF N) kn fw pp) → va_S A s.heap H locs → lv_has ls 7 [(0, .ref (ad 0)), (1, .int (nI cN)), (2, .int (nI most)), (3, .int (nI v))] → W p l e R s m args below meth c H locs cells slots Q (F0 m 45 ls []) := by
  obtain ⟨hx, hb, hml, hown, hts⟩ := B.1
  intro n
  induction n with
  | zero => intro v fw H locs ls h; omega
  | succ n ih =>
    intro v fw H locs ls hn hv hI hP hD hS hl
    refine lv_iload_n hx hb d_X_work_45 rfl (lv_at hl 3 rfl) ?_
    refine lv_sipush (v := nI 2000) hx hb d_X_work_46 (by decide) ?_
    refine n_igt hx hb d_X_work_49 rfl (by omega) (by omega) (fun h1 => ?_) (fun h1 => ?_)
    · have e : v = 2001 := by omega
      subst e
      have hl := lv_sub (l' := [(0, .ref (ad 0)), (1, .int (nI cN))]) hl [0, 1] rfl
      exact kk fw H locs ls ⟨fun r u hr hu => by
        by_cases e : r = cN
        · subst e; exact hI.2 u (by omega)
        · exact hI.1 r u (by omega) hu, fun u hu => by omega⟩ hP hD hS hl
    · refine lv_bipush (v := nI 41) hx hb d_X_work_52 (by decide) ?_
      refine lv_istore (lv' := [(4, .int (nI 41)), (0, .ref (ad 0)), (1, .int (nI cN)), (2, .int (nI most)), (3, .int (nI v))]) hx hb d_X_work_54 hl (by decide) rfl (fun ls hl => ?_)
      refine lv_iconst (v := nI 0) hx hb d_X_work_56 (by decide) ?_
      refine lv_istore (lv' := [(5, .int (nI 0)), (4, .int (nI 41)), (0, .ref (ad 0)), (1, .int (nI cN)), (2, .int (nI most)), (3, .int (nI v))]) hx hb d_X_work_57 hl (by decide) rfl (fun ls hl => ?_)
      have hl := lv_sub (l' := [(0, .ref (ad 0)), (1, .int (nI cN)), (2, .int (nI most)), (3, .int (nI v)), (4, .int (nI 41)), (5, .int (nI 0))]) hl [2, 3, 4, 5, 1, 0] rfl
      refine wk_k B hG hK hR hc hm (by omega) hI hP hD hS (fun ls hl => ?_) (min most (v / wo cN) + 1 + 1) 0 41 ls (by generalize v / wo cN = q; omega) (by generalize v / wo cN = q; omega) rfl hl
      have hr41 := nt_rw_41 wo N (cN + 1) v
      refine lv_aload_n hx hb d_X_work_116 rfl (lv_at hl 0 rfl) ?_
      refine gX_fewest B.1 hK hP rfl d_X_work_117 ?_
      refine lv_iload_n hx hb d_X_work_120 rfl (lv_at hl 1 rfl) ?_
      refine lv_sipush (v := nI 2001) hx hb d_X_work_121 (by decide) ?_
      refine n_mul hx hb d_X_work_124 ?_
      refine lv_iload_n hx hb d_X_work_125 rfl (lv_at hl 3 rfl) ?_
      refine n_add hx hb d_X_work_126 ?_
      refine lv_iload hx hb d_X_work_127 (lv_at hl 4 rfl) ?_
      refine lv_i2b (v := nI (nt_rw wo N (cN + 1) v)) hx hb d_X_work_129 (wk_byte _ hr41) ?_
      refine n_bast hx hb hK hP hD hS 3 rfl (by omega) (by decide) d_X_work_130 (fun H locs hP hD hS => ?_)
      rw [vp_nar_byte, wk_byte _ hr41] at hP hD
      have hP : va_P g.1 cl (wX g ad (nF wo) (nF N) kn (upd fw (cN * 2001 + v) (nI (nt_rw wo N (cN + 1) v))) pp) H := hP
      have hD : va_D A (wX g ad (nF wo) (nF N) kn (upd fw (cN * 2001 + v) (nI (nt_rw wo N (cN + 1) v))) pp) := hD
      refine lv_iinc (k := 3) (v := nI (v + 1)) (lv' := [(3, .int (nI (v + 1))), (0, .ref (ad 0)), (1, .int (nI cN)), (2, .int (nI most)), (4, .int (nI (nt_rw wo N (cN + 1) v)))]) hx hb d_X_work_131 hl rfl (nI_add _ 1) (by decide) rfl (fun ls hl => ?_)
      refine lv_goto hx hb d_X_work_134 rfl ?_
      have hl := lv_sub (l' := [(0, .ref (ad 0)), (1, .int (nI cN)), (2, .int (nI most)), (3, .int (nI (v + 1)))]) hl [1, 2, 3, 0] rfl
      refine ih (v + 1) _ H locs ls (by omega) (by omega) ⟨fun r u hr hu => ?_, fun u hu => ?_⟩ hP hD hS hl
      · rw [pk_un (by omega)]; exact hI.1 r u hr hu
      · by_cases e : u = v
        · subst e; rw [pk_us]
        · rw [pk_un (by omega)]; exact hI.2 u (by omega)
end WKB
section WKC
variable {p : Program} {l : Launch} {e : Env} {R : Room} {s : State} {m : MethodId} {args : Array Value} {below : List Frame} {meth : Method} {c : Code} {H : Heap} {locs : List Loc} {cells slots : Nat} {Q : State → Prop}
variable {g : Gc} {ad : Nat → Nat} {A : Nat → Prop} {ls : Array Slot}
variable {wo N : Nat → Nat} {kn : Int32} {pp : Nat → Int32}
theorem wk_c (B : xk_B p s m args meth c y_X_work b_X_work 7 none []) (hG : nt_gd wo N) (hK : gK g s) (hR : xw_R R cells slots rm0 3)
    (kk : ∀ (fw : Nat → Int32) (H : Heap) (locs : List Loc) (ls : Array Slot), wk_I wo N 4 0 fw → va_P g.1 cl (wX g ad (nF wo) (nF N) kn fw pp) H → va_D A (wX g ad (nF wo) (nF N) kn fw pp) → va_S A s.heap H locs → W p l e R s m args below meth c H locs cells slots Q (F0 m 143 ls [])) :
    ∀ (n cN : Nat) (fw : Nat → Int32) (H : Heap) (locs : List Loc) (ls : Array Slot), 4 - cN < n → cN ≤ 4 → wk_I wo N cN 0 fw → va_P g.1 cl (wX g ad (nF wo) (nF N) kn fw pp) H → va_D A (wX g ad (nF wo) (nF N) kn fw pp) → va_S A s.heap H locs → lv_has ls 7 [(0, .ref (ad 0)), (1, .int (nI cN))] → W p l e R s m args below meth c H locs cells slots Q (F0 m 15 ls []) := by
  obtain ⟨hx, hb, hml, hown, hts⟩ := B.1
  intro n
  induction n with
  | zero => intro cN fw H locs ls h; omega
  | succ n ih =>
    intro cN fw H locs ls hn hc4 hI hP hD hS hl
    refine lv_iload_n hx hb d_X_work_15 rfl (lv_at hl 1 rfl) ?_
    refine lv_iconst (v := nI 4) hx hb d_X_work_16 (by decide) ?_
    refine n_ige hx hb d_X_work_17 rfl (by omega) (by omega) (fun h1 => ?_) (fun h1 => ?_)
    · have e : cN = 4 := by omega
      subst e
      exact kk fw H locs ls hI hP hD hS
    · obtain ⟨hg1, hg2, hg3⟩ := hG cN h1
      refine lv_aload_n hx hb d_X_work_20 rfl (lv_at hl 0 rfl) ?_
      refine gX_notes B.1 hK hP rfl d_X_work_21 ?_
      refine lv_iload_n hx hb d_X_work_24 rfl (lv_at hl 1 rfl) ?_
      refine n_iald hx hb hK hP 2 rfl (by omega) (by decide) d_X_work_25 ?_
      refine lv_bipush (v := nI 40) hx hb d_X_work_26 (by decide) ?_
      refine n_ige hx hb d_X_work_28 rfl (by omega) (by omega) (fun h2 => ?_) (fun h2 => ?_)
      · refine lv_bipush (v := nI 40) hx hb d_X_work_40 (by decide) ?_
        refine lv_istore_n (lv' := [(2, .int (nI 40)), (0, .ref (ad 0)), (1, .int (nI cN))]) hx hb d_X_work_42 rfl hl (by decide) rfl (fun ls hl => ?_)
        refine lv_iconst (v := nI 0) hx hb d_X_work_43 (by decide) ?_
        refine lv_istore_n (lv' := [(3, .int (nI 0)), (2, .int (nI 40)), (0, .ref (ad 0)), (1, .int (nI cN))]) hx hb d_X_work_44 rfl hl (by decide) rfl (fun ls hl => ?_)
        have hl := lv_sub (l' := [(0, .ref (ad 0)), (1, .int (nI cN)), (2, .int (nI 40)), (3, .int (nI 0))]) hl [2, 3, 1, 0] rfl
        refine wk_v B hG hK hR h1 (by omega) (fun fw H locs ls hI hP hD hS hl => ?_) 2002 0 fw H locs ls (by omega) (by omega) hI hP hD hS hl
        refine lv_iinc (k := 1) (v := nI (cN + 1)) (lv' := [(1, .int (nI (cN + 1))), (0, .ref (ad 0))]) hx hb d_X_work_137 hl rfl (nI_add _ 1) (by decide) rfl (fun ls hl => ?_)
        refine lv_goto hx hb d_X_work_140 rfl ?_
        have hl := lv_sub (l' := [(0, .ref (ad 0)), (1, .int (nI (cN + 1)))]) hl [1, 0] rfl
        exact ih (cN + 1) fw H locs ls (by omega) (by omega) hI hP hD hS hl
      · refine lv_aload_n hx hb d_X_work_31 rfl (lv_at hl 0 rfl) ?_
        refine gX_notes B.1 hK hP rfl d_X_work_32 ?_
        refine lv_iload_n hx hb d_X_work_35 rfl (lv_at hl 1 rfl) ?_
        refine n_iald hx hb hK hP 2 rfl (by omega) (by decide) d_X_work_36 ?_
        refine lv_goto hx hb d_X_work_37 rfl ?_
        refine lv_istore_n (lv' := [(2, .int (nI (N cN))), (0, .ref (ad 0)), (1, .int (nI cN))]) hx hb d_X_work_42 rfl hl (by decide) rfl (fun ls hl => ?_)
        refine lv_iconst (v := nI 0) hx hb d_X_work_43 (by decide) ?_
        refine lv_istore_n (lv' := [(3, .int (nI 0)), (2, .int (nI (N cN))), (0, .ref (ad 0)), (1, .int (nI cN))]) hx hb d_X_work_44 rfl hl (by decide) rfl (fun ls hl => ?_)
        have hl := lv_sub (l' := [(0, .ref (ad 0)), (1, .int (nI cN)), (2, .int (nI (N cN))), (3, .int (nI 0))]) hl [2, 3, 1, 0] rfl
        refine wk_v B hG hK hR h1 (by omega) (fun fw H locs ls hI hP hD hS hl => ?_) 2002 0 fw H locs ls (by omega) (by omega) hI hP hD hS hl
        refine lv_iinc (k := 1) (v := nI (cN + 1)) (lv' := [(1, .int (nI (cN + 1))), (0, .ref (ad 0))]) hx hb d_X_work_137 hl rfl (nI_add _ 1) (by decide) rfl (fun ls hl => ?_)
        refine lv_goto hx hb d_X_work_140 rfl ?_
        have hl := lv_sub (l' := [(0, .ref (ad 0)), (1, .int (nI (cN + 1)))]) hl [1, 0] rfl
        exact ih (cN + 1) fw H locs ls (by omega) (by omega) hI hP hD hS hl
end WKC
abbrev rmW : Room := { frames := 1, cells := 0, slots := 0, locals := 22 }
/-- work(): behind it the rows are right -/
def q_work (g : Gc) (ad : Nat → Nat) (wo N : Nat → Nat) (pp : Nat → Int32) (A : Nat → Prop) : Array Value → State → Outcome → State → Prop := fun _ _ o t => o = .returned none ∧ ∃ fw, nt_kn wo N 1 fw ∧ va_P g.1 cl (wX g ad (nF wo) (nF N) 1 fw pp) t.heap ∧ va_D A (wX g ad (nF wo) (nF N) 1 fw pp)
theorem c_X_work (l : Launch) (g : Gc) (ad : Nat → Nat) (wo N : Nat → Nat) (kn : Int32) (fw pp : Nat → Int32) (sz : Nat) (hG : nt_gd wo N) (hkn : nt_kn wo N kn fw) : Ct l y_X_work cd_X_work rmW (0, 0) (va_Pc [.ref (ad 0)] (qX g ad (nF wo) (nF N) kn fw pp sz)) (q_work g ad wo N pp (va_A (wX g ad (nF wo) (nF N) kn fw pp) sz)) (va_A (wX g ad (nF wo) (nF N) kn fw pp) sz) := by
  refine Ct.ofW (by decide) ?_
  intro p e s m args below meth c B hpre
  obtain ⟨rfl, hsz, hP, hK, hD0⟩ := hpre
  subst hsz
  have hD := hD0.self (sz := s.heap.size)
  generalize va_A (wX g ad (nF wo) (nF N) kn fw pp) s.heap.size = A at hD ⊢
  have hS : va_S A s.heap s.heap [] := va_S.rf
  obtain ⟨⟨hx, hb, hml, hown, hts⟩, hret, hlk, hnm, hex⟩ := id B
  have hl := lv_entry ([.ref (ad 0)]) (n := 7) (Nat.le_of_ble_eq_true rfl)
  rw [lg_entry_eq]
  generalize (lg_sl ([.ref (ad 0)]) ++ List.replicate (7 - (lg_sl ([.ref (ad 0)])).length) Slot.unset).toArray = ls at hl ⊢
  have hl : lv_has ls 7 [(0, .ref (ad 0))] := hl
  refine lv_aload_n hx hb d_X_work_0 rfl (lv_at hl 0 rfl) ?_
  refine gX_known B.1 hK hP rfl d_X_work_1 ?_
  refine lv_if_eq hx hb d_X_work_4 rfl (fun h => ?_) (fun h => ?_)
  · refine lv_aload_n hx hb d_X_work_8 rfl (lv_at hl 0 rfl) ?_
    refine lv_iconst (v := nI 1) hx hb d_X_work_9 (by decide) ?_
    refine pX_known B.1 hK (z := nI 1) (by decide) (by decide) hP hD hS d_X_work_10 (fun H locs hP hD hS => ?_)
    have hP : va_P g.1 cl (wX g ad (nF wo) (nF N) (nI 1) fw pp) H := hP
    have hD : va_D A (wX g ad (nF wo) (nF N) (nI 1) fw pp) := hD
    refine lv_iconst (v := nI 0) hx hb d_X_work_13 (by decide) ?_
    refine lv_istore_n (lv' := [(1, .int (nI 0)), (0, .ref (ad 0))]) hx hb d_X_work_14 rfl hl (by decide) rfl (fun ls hl => ?_)
    have hl := lv_sub (l' := [(0, .ref (ad 0)), (1, .int (nI 0))]) hl [1, 0] rfl
    refine wk_c B hG hK (by decide) (fun fw H locs ls hI hP hD hS => ?_) 5 0 fw H locs ls (by omega) (by omega) ⟨fun r u hr hu => by omega, fun u hu => by omega⟩ hP hD hS hl
    exact x_vret B hS (by decide) (by decide) (fun t ht hW => ⟨rfl, fw, Or.inr ⟨rfl, fun r v hr hv => hI.1 r v hr hv⟩, by rw [ht]; exact hP, hD⟩) d_X_work_143
  · rcases hkn with h0 | ⟨h1, hr⟩
    · exact absurd h0 h
    · subst h1
      exact x_vret B hS (by decide) (by decide) (fun t ht hW => ⟨rfl, fw, Or.inr ⟨rfl, hr⟩, by rw [ht]; exact hP, hD⟩) d_X_work_7
end
section
/-! NoteMix.mix -/
section MIA
variable {p : Program} {l : Launch} {e : Env} {R : Room} {s : State} {m : MethodId} {args : Array Value} {below : List Frame} {meth : Method} {c : Code} {H : Heap} {locs : List Loc} {cells slots : Nat} {Q : State → Prop}
variable {g : Gc} {ad : Nat → Nat} {A : Nat → Prop} {ls : Array Slot}
variable {wo N : Nat → Nat} {kn : Int32} {fw pp : Nat → Int32} {cN v all left am : Nat}
theorem mi_bf (hrow : ∀ r v, r < 4 → v ≤ 2000 → fw (r * 2001 + v) = nI (nt_rw wo N (r + 1) v)) (hc : cN < 4) : ∀ u, u ≤ 2000 → bf fw cN u = nI (nt_rw wo N cN u) := by
  intro u hu
  exact wk_bf (v := 0) ⟨fun r u hr hu => hrow r u (by omega) hu, fun u hu => by omega⟩ hc u hu
theorem mi_w (B : xk_B p s m args meth c y_X_mix b_X_mix 7 (some .int) []) (hG : nt_gd wo N) (hK : gK g s) (hR : xw_R R cells slots rm0 3) (hrow : ∀ r v, r < 4 → v ≤ 2000 → fw (r * 2001 + v) = nI (nt_rw wo N (r + 1) v)) (hc : cN < 4) (ham : am ≤ 2000) (hle : left ≤ 40) (hP : va_P g.1 cl (wX g ad (nF wo) (nF N) kn fw pp) H) (hD : va_D A (wX g ad (nF wo) (nF N) kn fw pp)) (hS : va_S A s.heap H locs)
    (kk : ∀ (k : Nat) (ls : Array Slot), nt_gk wo N cN am left k → lv_has ls 7 [(0, .ref (ad 0)), (1, .int (nI v)), (2, .int (nI all)), (3, .int (nI left)), (4, .int (nI am)), (5, .int (nI cN)), (6, .int (nI k))] → W p l e R s m args below meth c H locs cells slots Q (F0 m 107 ls [])) :
    ∀ (n k : Nat) (ls : Array Slot), k < n → k ≤ N cN → k ≤ left → (∃ j, j ≤ k ∧ nt_sl wo N cN am left j) → (∀ j, k < j → ¬ nt_sl wo N cN am left j) → lv_has ls 7 [(0, .ref (ad 0)), (1, .int (nI v)), (2, .int (nI all)), (3, .int (nI left)), (4, .int (nI am)), (5, .int (nI cN)), (6, .int (nI k))] → W p l e R s m args below meth c H locs cells slots Q (F0 m 60 ls []) := by
  obtain ⟨hg1, hg2, hg3⟩ := hG cN hc
  obtain ⟨hx, hb, hml, hown, hts⟩ := B.1
  intro n
  induction n with
  | zero => intro k ls h; omega
  | succ n ih =>
    intro k ls hn hkN hkl hex hno hl
    have hkw : k * wo cN ≤ 40 * 500 := Nat.mul_le_mul (by omega) hg2
    refine lv_iload hx hb d_X_mix_60 (lv_at hl 6 rfl) ?_
    refine lv_aload_n hx hb d_X_mix_62 rfl (lv_at hl 0 rfl) ?_
    refine gX_worth B.1 hK hP rfl d_X_mix_63 ?_
    refine lv_iload hx hb d_X_mix_66 (lv_at hl 5 rfl) ?_
    refine n_iald hx hb hK hP 1 rfl (by omega) (by decide) d_X_mix_68 ?_
    refine n_mul hx hb d_X_mix_69 ?_
    refine lv_iload hx hb d_X_mix_70 (lv_at hl 4 rfl) ?_
    refine n_igt hx hb d_X_mix_72 rfl (by omega) (by omega) (fun h1 => ?_) (fun h1 => ?_)
    · have hns : ¬ nt_sl wo N cN am left k := (fun q => by have := q.2.2.1; omega)
      obtain ⟨j, hj, hsj⟩ := hex
      have hjk : j ≠ k := fun q => hns (q ▸ hsj)
      obtain ⟨k', rfl⟩ : ∃ k', k = k' + 1 := ⟨k - 1, by omega⟩
      refine lv_iinc (k := 6) (v := dn (k' + 1)) (lv' := [(6, .int (dn (k' + 1))), (0, .ref (ad 0)), (1, .int (nI v)), (2, .int (nI all)), (3, .int (nI left)), (4, .int (nI am)), (5, .int (nI cN))]) hx hb d_X_mix_101 hl rfl rfl (by decide) rfl (fun ls hl => ?_)
      refine lv_goto hx hb d_X_mix_104 rfl ?_
      rw [dn_s] at hl
      have hl := lv_sub (l' := [(0, .ref (ad 0)), (1, .int (nI v)), (2, .int (nI all)), (3, .int (nI left)), (4, .int (nI am)), (5, .int (nI cN)), (6, .int (nI k'))]) hl [1, 2, 3, 4, 5, 6, 0] rfl
      exact ih k' ls (by omega) (by omega) (by omega) ⟨j, by omega, hsj⟩ (fun i hi => by
        by_cases e : i = k' + 1
        · subst e; exact hns
        · exact hno i (by omega)) hl
    · refine lv_aload_n hx hb d_X_mix_75 rfl (lv_at hl 0 rfl) ?_
      refine lv_iload hx hb d_X_mix_76 (lv_at hl 5 rfl) ?_
      refine lv_iload hx hb d_X_mix_78 (lv_at hl 4 rfl) ?_
      refine lv_iload hx hb d_X_mix_80 (lv_at hl 6 rfl) ?_
      refine lv_aload_n hx hb d_X_mix_82 rfl (lv_at hl 0 rfl) ?_
      refine gX_worth B.1 hK hP rfl d_X_mix_83 ?_
      refine lv_iload hx hb d_X_mix_86 (lv_at hl 5 rfl) ?_
      refine n_iald hx hb hK hP 1 rfl (by omega) (by decide) d_X_mix_88 ?_
      refine n_mul hx hb d_X_mix_89 ?_
      refine n_sub hx hb d_X_mix_90 (by omega) ?_
      have hM := c_X_before l g ad (nF wo) (nF N) kn fw pp cN (am - k * wo cN) H.size (by omega) (by omega)
      rw [mi_bf hrow hc _ (by omega)] at hM
      have hr41 := nt_rw_41 wo N cN (am - k * wo cN)
      refine x_pV (C := R_X) (b := ad 0) (As := [.int (nI cN), .int (nI (am - (k * (wo cN))))]) (rest := []) B.1 (hM) (xw_X_before hR) tw_43 tw_45 ts_1 (recX hK hP) (preX hP hK hD) hl.1 (by decide) hS rfl d_X_mix_91 ?_
      refine lv_iload_n hx hb d_X_mix_94 rfl (lv_at hl 3 rfl) ?_
      refine lv_iload hx hb d_X_mix_95 (lv_at hl 6 rfl) ?_
      refine n_sub hx hb d_X_mix_97 (by omega) ?_
      refine n_ieq hx hb d_X_mix_98 rfl (by omega) (by omega) (fun h2 => ?_) (fun h2 => ?_)
      · have hl := lv_sub (l' := [(0, .ref (ad 0)), (1, .int (nI v)), (2, .int (nI all)), (3, .int (nI left)), (4, .int (nI am)), (5, .int (nI cN)), (6, .int (nI k))]) hl [0, 1, 2, 3, 4, 5, 6] rfl
        exact kk k ls ⟨⟨hkN, hkl, h1, h2⟩, hno⟩ hl
      · have hns : ¬ nt_sl wo N cN am left k := (fun q => h2 q.2.2.2)
        obtain ⟨j, hj, hsj⟩ := hex
        have hjk : j ≠ k := fun q => hns (q ▸ hsj)
        obtain ⟨k', rfl⟩ : ∃ k', k = k' + 1 := ⟨k - 1, by omega⟩
        refine lv_iinc (k := 6) (v := dn (k' + 1)) (lv' := [(6, .int (dn (k' + 1))), (0, .ref (ad 0)), (1, .int (nI v)), (2, .int (nI all)), (3, .int (nI left)), (4, .int (nI am)), (5, .int (nI cN))]) hx hb d_X_mix_101 hl rfl rfl (by decide) rfl (fun ls hl => ?_)
        refine lv_goto hx hb d_X_mix_104 rfl ?_
        rw [dn_s] at hl
        have hl := lv_sub (l' := [(0, .ref (ad 0)), (1, .int (nI v)), (2, .int (nI all)), (3, .int (nI left)), (4, .int (nI am)), (5, .int (nI cN)), (6, .int (nI k'))]) hl [1, 2, 3, 4, 5, 6, 0] rfl
        exact ih k' ls (by omega) (by omega) (by omega) ⟨j, by omega, hsj⟩ (fun i hi => by
          by_cases e : i = k' + 1
          · subst e; exact hns
          · exact hno i (by omega)) hl
end MIA
section MIB
variable {p : Program} {l : Launch} {e : Env} {R : Room} {s : State} {m : MethodId} {args : Array Value} {below : List Frame} {meth : Method} {c : Code} {H : Heap} {locs : List Loc} {cells slots : Nat} {Q : State → Prop}
variable {g : Gc} {ad : Nat → Nat} {A : Nat → Prop} {ls : Array Slot}
variable {wo N : Nat → Nat} {kn : Int32} {fw pp : Nat → Int32} {cN v all left am : Nat}
/-- one turn of the loop over the cassettes -/
theorem mi_s (B : xk_B p s m args meth c y_X_mix b_X_mix 7 (some .int) []) (hG : nt_gd wo N) (hK : gK g s) (hR : xw_R R cells slots rm0 3) (hrow : ∀ r v, r < 4 → v ≤ 2000 → fw (r * 2001 + v) = nI (nt_rw wo N (r + 1) v)) (hc : cN < 4) (ham : am ≤ 2000) (hle : left ≤ 40) (hl1 : nt_rw wo N (cN + 1) am = left) (hP : va_P g.1 cl (wX g ad (nF wo) (nF N) kn fw pp) H) (hD : va_D A (wX g ad (nF wo) (nF N) kn fw pp)) (hS : va_S A s.heap H locs) (hl : lv_has ls 7 [(0, .ref (ad 0)), (1, .int (nI v)), (2, .int (nI all)), (3, .int (nI left)), (4, .int (nI am)), (5, .int (dn (cN + 1)))])
    (kk : ∀ (k : Nat) (H : Heap) (locs : List Loc) (ls : Array Slot), nt_gk wo N cN am left k → va_P g.1 cl (wX g ad (nF wo) (nF N) kn fw (upd pp cN (nI k))) H → va_D A (wX g ad (nF wo) (nF N) kn fw (upd pp cN (nI k))) → va_S A s.heap H locs → lv_has ls 7 [(0, .ref (ad 0)), (1, .int (nI v)), (2, .int (nI all)), (3, .int (nI (left - k))), (4, .int (nI (am - k * wo cN))), (5, .int (dn cN))] → W p l e R s m args below meth c H locs cells slots Q (F0 m 31 ls [])) :
    W p l e R s m args below meth c H locs cells slots Q (F0 m 31 ls []) := by
  obtain ⟨hg1, hg2, hg3⟩ := hG cN hc
  obtain ⟨hx, hb, hml, hown, hts⟩ := B.1
  have hsol := nt_sl_ex (W := wo) (N := N) (c := cN) hg1 hl1 hle
  refine lv_iload hx hb d_X_mix_31 (lv_at hl 5 rfl) ?_
  refine n_dn hx hb d_X_mix_33 rfl (by omega) (fun h0 => ?_) (fun c1 h1 => ?_)
  · omega
  · have e : c1 = cN := by omega
    subst e
    rw [dn_s] at hl
    refine lv_aload_n hx hb d_X_mix_36 rfl (lv_at hl 0 rfl) ?_
    refine gX_notes B.1 hK hP rfl d_X_mix_37 ?_
    refine lv_iload hx hb d_X_mix_40 (lv_at hl 5 rfl) ?_
    refine n_iald hx hb hK hP 2 rfl (by omega) (by decide) d_X_mix_42 ?_
    refine lv_iload_n hx hb d_X_mix_43 rfl (lv_at hl 3 rfl) ?_
    refine n_ige hx hb d_X_mix_44 rfl (by omega) (by omega) (fun h2 => ?_) (fun h2 => ?_)
    · refine lv_iload_n hx hb d_X_mix_57 rfl (lv_at hl 3 rfl) ?_
      refine lv_istore (lv' := [(6, .int (nI left)), (0, .ref (ad 0)), (1, .int (nI v)), (2, .int (nI all)), (3, .int (nI left)), (4, .int (nI am)), (5, .int (nI c1))]) hx hb d_X_mix_58 hl (by decide) rfl (fun ls hl => ?_)
      have hl := lv_sub (l' := [(0, .ref (ad 0)), (1, .int (nI v)), (2, .int (nI all)), (3, .int (nI left)), (4, .int (nI am)), (5, .int (nI c1)), (6, .int (nI left))]) hl [1, 2, 3, 4, 5, 6, 0] rfl
      refine mi_w B hG hK hR hrow hc ham hle hP hD hS (fun k ls hgk hl => ?_) (left + 1) (left) ls (by omega) (by omega) (by omega) (by obtain ⟨j, hj⟩ := hsol; exact ⟨j, by have := hj.1; have := hj.2.1; omega, hj⟩) (fun j hj q => by have := q.1; have := q.2.1; omega) hl
      obtain ⟨h5, h6, h7, h8⟩ := hgk.1
      have hkw : k * wo c1 ≤ 40 * 500 := Nat.mul_le_mul (by omega) hg2
      refine lv_aload_n hx hb d_X_mix_107 rfl (lv_at hl 0 rfl) ?_
      refine gX_parts B.1 hK hP rfl d_X_mix_108 ?_
      refine lv_iload hx hb d_X_mix_111 (lv_at hl 5 rfl) ?_
      refine lv_iload hx hb d_X_mix_113 (lv_at hl 6 rfl) ?_
      refine n_iast hx hb hK hP hD hS 4 rfl (by omega) (by decide) d_X_mix_115 (fun H locs hP hD hS => ?_)
      have hP : va_P g.1 cl (wX g ad (nF wo) (nF N) kn fw (upd pp c1 (nI k))) H := hP
      have hD : va_D A (wX g ad (nF wo) (nF N) kn fw (upd pp c1 (nI k))) := hD
      refine lv_iload_n hx hb d_X_mix_116 rfl (lv_at hl 3 rfl) ?_
      refine lv_iload hx hb d_X_mix_117 (lv_at hl 6 rfl) ?_
      refine n_sub hx hb d_X_mix_119 (by omega) ?_
      refine lv_istore_n (lv' := [(3, .int (nI (left - k))), (0, .ref (ad 0)), (1, .int (nI v)), (2, .int (nI all)), (4, .int (nI am)), (5, .int (nI c1)), (6, .int (nI k))]) hx hb d_X_mix_120 rfl hl (by decide) rfl (fun ls hl => ?_)
      refine lv_iload hx hb d_X_mix_121 (lv_at hl 4 rfl) ?_
      refine lv_iload hx hb d_X_mix_123 (lv_at hl 6 rfl) ?_
      refine lv_aload_n hx hb d_X_mix_125 rfl (lv_at hl 1 rfl) ?_
      refine gX_worth B.1 hK hP rfl d_X_mix_126 ?_
      refine lv_iload hx hb d_X_mix_129 (lv_at hl 5 rfl) ?_
      refine n_iald hx hb hK hP 1 rfl (by omega) (by decide) d_X_mix_131 ?_
      refine n_mul hx hb d_X_mix_132 ?_
      refine n_sub hx hb d_X_mix_133 (by omega) ?_
      refine lv_istore (lv' := [(4, .int (nI (am - (k * (wo c1))))), (3, .int (nI (left - k))), (0, .ref (ad 0)), (1, .int (nI v)), (2, .int (nI all)), (5, .int (nI c1)), (6, .int (nI k))]) hx hb d_X_mix_134 hl (by decide) rfl (fun ls hl => ?_)
      refine lv_iinc (k := 5) (v := dn c1) (lv' := [(5, .int (dn c1)), (4, .int (nI (am - (k * (wo c1))))), (3, .int (nI (left - k))), (0, .ref (ad 0)), (1, .int (nI v)), (2, .int (nI all)), (6, .int (nI k))]) hx hb d_X_mix_136 hl rfl rfl (by decide) rfl (fun ls hl => ?_)
      refine lv_goto hx hb d_X_mix_139 rfl ?_
      have hl := lv_sub (l' := [(0, .ref (ad 0)), (1, .int (nI v)), (2, .int (nI all)), (3, .int (nI (left - k))), (4, .int (nI (am - (k * (wo c1))))), (5, .int (dn c1))]) hl [3, 4, 5, 2, 1, 0] rfl
      exact kk k H locs ls hgk hP hD hS hl
    · refine lv_aload_n hx hb d_X_mix_47 rfl (lv_at hl 0 rfl) ?_
      refine gX_notes B.1 hK hP rfl d_X_mix_48 ?_
      refine lv_iload hx hb d_X_mix_51 (lv_at hl 5 rfl) ?_
      refine n_iald hx hb hK hP 2 rfl (by omega) (by decide) d_X_mix_53 ?_
      refine lv_goto hx hb d_X_mix_54 rfl ?_
      refine lv_istore (lv' := [(6, .int (nI (N c1))), (0, .ref (ad 0)), (1, .int (nI v)), (2, .int (nI all)), (3, .int (nI left)), (4, .int (nI am)), (5, .int (nI c1))]) hx hb d_X_mix_58 hl (by decide) rfl (fun ls hl => ?_)
      have hl := lv_sub (l' := [(0, .ref (ad 0)), (1, .int (nI v)), (2, .int (nI all)), (3, .int (nI left)), (4, .int (nI am)), (5, .int (nI c1)), (6, .int (nI (N c1)))]) hl [1, 2, 3, 4, 5, 6, 0] rfl
      refine mi_w B hG hK hR hrow hc ham hle hP hD hS (fun k ls hgk hl => ?_) (N c1 + 1) (N c1) ls (by omega) (by omega) (by omega) (by obtain ⟨j, hj⟩ := hsol; exact ⟨j, by have := hj.1; have := hj.2.1; omega, hj⟩) (fun j hj q => by have := q.1; have := q.2.1; omega) hl
      obtain ⟨h5, h6, h7, h8⟩ := hgk.1
      have hkw : k * wo c1 ≤ 40 * 500 := Nat.mul_le_mul (by omega) hg2
      refine lv_aload_n hx hb d_X_mix_107 rfl (lv_at hl 0 rfl) ?_
      refine gX_parts B.1 hK hP rfl d_X_mix_108 ?_
      refine lv_iload hx hb d_X_mix_111 (lv_at hl 5 rfl) ?_
      refine lv_iload hx hb d_X_mix_113 (lv_at hl 6 rfl) ?_
      refine n_iast hx hb hK hP hD hS 4 rfl (by omega) (by decide) d_X_mix_115 (fun H locs hP hD hS => ?_)
      have hP : va_P g.1 cl (wX g ad (nF wo) (nF N) kn fw (upd pp c1 (nI k))) H := hP
      have hD : va_D A (wX g ad (nF wo) (nF N) kn fw (upd pp c1 (nI k))) := hD
      refine lv_iload_n hx hb d_X_mix_116 rfl (lv_at hl 3 rfl) ?_
      refine lv_iload hx hb d_X_mix_117 (lv_at hl 6 rfl) ?_
      refine n_sub hx hb d_X_mix_119 (by omega) ?_
      refine lv_istore_n (lv' := [(3, .int (nI (left - k))), (0, .ref (ad 0)), (1, .int (nI v)), (2, .int (nI all)), (4, .int (nI am)), (5, .int (nI c1)), (6, .int (nI k))]) hx hb d_X_mix_120 rfl hl (by decide) rfl (fun ls hl => ?_)
      refine lv_iload hx hb d_X_mix_121 (lv_at hl 4 rfl) ?_
      refine lv_iload hx hb d_X_mix_123 (lv_at hl 6 rfl) ?_
      refine lv_aload_n hx hb d_X_mix_125 rfl (lv_at hl 1 rfl) ?_
      refine gX_worth B.1 hK hP rfl d_X_mix_126 ?_
      refine lv_iload hx hb d_X_mix_129 (lv_at hl 5 rfl) ?_
      refine n_iald hx hb hK hP 1 rfl (by omega) (by decide) d_X_mix_131 ?_
      refine n_mul hx hb d_X_mix_132 ?_
      refine n_sub hx hb d_X_mix_133 (by omega) ?_
      refine lv_istore (lv' := [(4, .int (nI (am - (k * (wo c1))))), (3, .int (nI (left - k))), (0, .ref (ad 0)), (1, .int (nI v)), (2, .int (nI all)), (5, .int (nI c1)), (6, .int (nI k))]) hx hb d_X_mix_134 hl (by decide) rfl (fun ls hl => ?_)
      refine lv_iinc (k := 5) (v := dn c1) (lv' := [(5, .int (dn c1)), (4, .int (nI (am - (k * (wo c1))))), (3, .int (nI (left - k))), (0, .ref (ad 0)), (1, .int (nI v)), (2, .int (nI all)), (6, .int (nI k))]) hx hb d_X_mix_136 hl rfl rfl (by decide) rfl (fun ls hl => ?_)
      refine lv_goto hx hb d_X_mix_139 rfl ?_
      have hl := lv_sub (l' := [(0, .ref (ad 0)), (1, .int (nI v)), (2, .int (nI all)), (3, .int (nI (left - k))), (4, .int (nI (am - (k * (wo c1))))), (5, .int (dn c1))]) hl [3, 4, 5, 2, 1, 0] rfl
      exact kk k H locs ls hgk hP hD hS hl
end MIB
abbrev rmX : Room := { frames := 2, cells := 0, slots := 0, locals := 48 }
theorem xw_X_work {R : Room} {cells slots : Nat} (h : xw_R R cells slots rmW 7) : xk_W R cells slots y_X_work cd_X_work rmW 7 0 := ⟨kc_X_work, Or.inl ⟨_, _, rfl⟩, tw_1, by decide, by decide +kernel, h.1, h.2.1, h.2.2.1, h.2.2.2⟩
/-- mix(v): -1 and no mix; or how many, and the parts -/
def q_mix (g : Gc) (ad : Nat → Nat) (wo N : Nat → Nat) (v : Nat) (A : Nat → Prop) : Array Value → State → Outcome → State → Prop := fun _ _ o t => ∃ fw pp, nt_kn wo N 1 fw ∧ va_P g.1 cl (wX g ad (nF wo) (nF N) 1 fw pp) t.heap ∧ va_D A (wX g ad (nF wo) (nF N) 1 fw pp) ∧
  ((nt_rw wo N 4 v = 41 ∧ o = .returned (some (.int (-1)))) ∨ (nt_rw wo N 4 v ≤ 40 ∧ o = .returned (some (.int (nI (nt_rw wo N 4 v)))) ∧ ∃ ch, nt_bst wo N v (nt_rw wo N 4 v) ch ∧ ∀ i, i < 4 → pp i = nI (ch i)))
theorem c_X_mix (l : Launch) (g : Gc) (ad : Nat → Nat) (wo N : Nat → Nat) (kn : Int32) (fw pp : Nat → Int32) (v sz : Nat) (hG : nt_gd wo N) (hkn : nt_kn wo N kn fw) (hv : v ≤ 2000) : Ct l y_X_mix cd_X_mix rmX (0, 0) (va_Pc [.ref (ad 0), .int (nI v)] (qX g ad (nF wo) (nF N) kn fw pp sz)) (q_mix g ad wo N v (va_A (wX g ad (nF wo) (nF N) kn fw pp) sz)) (va_A (wX g ad (nF wo) (nF N) kn fw pp) sz) := by
  refine Ct.ofW (by decide) ?_
  intro p e s m args below meth c B hpre
  obtain ⟨rfl, hsz, hP, hK, hD0⟩ := hpre
  subst hsz
  have hD := hD0.self (sz := s.heap.size)
  generalize hAe : va_A (wX g ad (nF wo) (nF N) kn fw pp) s.heap.size = A at hD ⊢
  have hA : ∀ q : Nat, s.heap.size ≤ q → A q := fun q h => by rw [← hAe]; exact Or.inr h
  have hS : va_S A s.heap s.heap [] := va_S.rf
  obtain ⟨⟨hx, hb, hml, hown, hts⟩, hret, hlk, hnm, hex⟩ := id B
  have hl := lv_entry ([.ref (ad 0), .int (nI v)]) (n := 7) (Nat.le_of_ble_eq_true rfl)
  rw [lg_entry_eq]
  generalize (lg_sl ([.ref (ad 0), .int (nI v)]) ++ List.replicate (7 - (lg_sl ([.ref (ad 0), .int (nI v)])).length) Slot.unset).toArray = ls at hl ⊢
  have hl : lv_has ls 7 [(0, .ref (ad 0)), (1, .int (nI v))] := hl
  refine lv_aload_n hx hb d_X_mix_0 rfl (lv_at hl 0 rfl) ?_
  have hFc := va_free (wc := wX g ad (nF wo) (nF N) kn fw pp) hD hS hA [0, 1, 2, 3, 4] rfl
  refine x_calV (C := R_X) (b := ad 0) (As := []) (rest := []) B.1 (c_X_work l g ad wo N kn fw pp _ hG hkn) (xw_X_work (by decide)) tw_39 tw_41 ts_0 (recX hK hP) (preX hP hK hD) hl.1 (by decide) hS hFc rfl d_X_mix_1 (fun rv t H1 locs1 hN => ?_) (fun rx t H1 locs1 hN => ?_)
  · obtain ⟨e1, hal, ⟨st, h0, hv0, fw, hkn, hP, hD1⟩, hz1, hk1, hS, -⟩ := hN
    cases hv0
    rw [e1] at hP
    have hD := hD1.weaken (fun k q _ h => hFc q.1 h)
    refine W.eq (g2 := F0 m 4 ls []) rfl ?_
    have hrow : ∀ r v, r < 4 → v ≤ 2000 → fw (r * 2001 + v) = nI (nt_rw wo N (r + 1) v) := by
      rcases hkn with h | ⟨-, h⟩
      · exact absurd h (by decide)
      · exact h
    have hr4 := nt_rw_41 wo N 4 v
    refine lv_aload_n hx hb d_X_mix_4 rfl (lv_at hl 0 rfl) ?_
    refine gX_fewest B.1 hK hP rfl d_X_mix_5 ?_
    refine lv_sipush (v := nI 6003) hx hb d_X_mix_8 (by decide) ?_
    refine lv_iload_n hx hb d_X_mix_11 rfl (lv_at hl 1 rfl) ?_
    refine n_add hx hb d_X_mix_12 ?_
    refine n_bald hx hb hK hP 3 rfl (by omega) (by decide) d_X_mix_13 ?_
    rw [show fw (6003 + v) = nI (nt_rw wo N 4 v) from hrow 3 v (by omega) hv]
    refine lv_istore_n (lv' := [(2, .int (nI (nt_rw wo N 4 v))), (0, .ref (ad 0)), (1, .int (nI v))]) hx hb d_X_mix_14 rfl hl (by decide) rfl (fun ls hl => ?_)
    refine lv_iload_n hx hb d_X_mix_15 rfl (lv_at hl 0 rfl) ?_
    refine lv_bipush (v := nI 41) hx hb d_X_mix_16 (by decide) ?_
    refine n_ine hx hb d_X_mix_18 rfl (by omega) (by omega) (fun h => ?_) (fun h => ?_)
    · refine lv_iload_n hx hb d_X_mix_23 rfl (lv_at hl 0 rfl) ?_
      refine lv_istore_n (lv' := [(3, .int (nI (nt_rw wo N 4 v))), (2, .int (nI (nt_rw wo N 4 v))), (0, .ref (ad 0)), (1, .int (nI v))]) hx hb d_X_mix_24 rfl hl (by decide) rfl (fun ls hl => ?_)
      refine lv_iload_n hx hb d_X_mix_25 rfl (lv_at hl 3 rfl) ?_
      refine lv_istore (lv' := [(4, .int (nI v)), (3, .int (nI (nt_rw wo N 4 v))), (2, .int (nI (nt_rw wo N 4 v))), (0, .ref (ad 0)), (1, .int (nI v))]) hx hb d_X_mix_26 hl (by decide) rfl (fun ls hl => ?_)
      refine lv_iconst (v := nI 3) hx hb d_X_mix_28 (by decide) ?_
      refine lv_istore (lv' := [(5, .int (nI 3)), (4, .int (nI v)), (3, .int (nI (nt_rw wo N 4 v))), (2, .int (nI (nt_rw wo N 4 v))), (0, .ref (ad 0)), (1, .int (nI v))]) hx hb d_X_mix_29 hl (by decide) rfl (fun ls hl => ?_)
      have hl := lv_sub (l' := [(0, .ref (ad 0)), (1, .int (nI v)), (2, .int (nI (nt_rw wo N 4 v))), (3, .int (nI (nt_rw wo N 4 v))), (4, .int (nI v)), (5, .int (nI 3))]) hl [4, 5, 3, 2, 1, 0] rfl
      have hW1 : ∀ i, i < 4 → 1 ≤ wo i := fun i hi => (hG i hi).1
      generalize hfe : nt_rw wo N 4 v = f at hl hr4 h ⊢
      refine mi_s (cN := 3) (left := f) (am := v) B hG hK (by decide) hrow (by decide) (by omega) (by omega) hfe hP hD hS hl (fun k3 H locs ls g3 hP hD hS hl => ?_)
      have l3 := g3.1.2.1
      refine mi_s (cN := 2) (left := f - k3) (am := v - k3 * wo 3) B hG hK (by decide) hrow (by decide) (by omega) (by omega) g3.1.2.2.2 hP hD hS hl (fun k2 H locs ls g2 hP hD hS hl => ?_)
      have l2 := g2.1.2.1
      refine mi_s (cN := 1) (left := f - k3 - k2) (am := v - k3 * wo 3 - k2 * wo 2) B hG hK (by decide) hrow (by decide) (by omega) (by omega) g2.1.2.2.2 hP hD hS hl (fun k1 H locs ls g1 hP hD hS hl => ?_)
      have l1 := g1.1.2.1
      refine mi_s (cN := 0) (left := f - k3 - k2 - k1) (am := v - k3 * wo 3 - k2 * wo 2 - k1 * wo 1) B hG hK (by decide) hrow (by decide) (by omega) (by omega) g1.1.2.2.2 hP hD hS hl (fun k0 H locs ls g0 hP hD hS hl => ?_)
      have l0 := g0.1.2.1
      refine lv_iload hx hb d_X_mix_31 (lv_at hl 5 rfl) ?_
      refine n_dn hx hb d_X_mix_33 rfl (by omega) (fun h9 => ?_) (fun c9 h8 => ?_)
      · refine lv_iload_n hx hb d_X_mix_142 rfl (lv_at hl 2 rfl) ?_
        have hb4 : nt_bst wo N v f (fun i => if i = 3 then k3 else if i = 2 then k2 else if i = 1 then k1 else k0) := nt_bst_gk hW1 hfe (by omega) g3 g2 g1 g0
        refine x_iret B hS (by decide) (by decide) (fun t ht hW => ⟨fw, _, hkn, by rw [ht]; exact hP, hD, Or.inr ⟨by omega, by rw [hfe], _, by rw [hfe]; exact hb4, fun i hi => ?_⟩⟩) d_X_mix_143
        rcases (show i = 0 ∨ i = 1 ∨ i = 2 ∨ i = 3 by omega) with rfl | rfl | rfl | rfl <;> rfl
      · omega
    · refine lv_iconst (v := -1) hx hb d_X_mix_21 (by decide) ?_
      exact x_iret B hS (by decide) (by decide) (fun t ht hW => ⟨fw, pp, hkn, by rw [ht]; exact hP, hD, Or.inl ⟨h, rfl⟩⟩) d_X_mix_22
  · obtain ⟨-, -, ⟨st, h0, hv0, -⟩, -⟩ := hN
    cases hv0
end
section
/-! NoteMix: found, best, part: they throw -/
theorem TH.moved {cls : String} {x : Addr} {t u : State} (h : TH cls x t) (hh : u.heap = t.heap) (hv : t.vm.Alike u.vm) : TH cls x u := by
  obtain ⟨cell, h1, h2, h3⟩ := h
  exact ⟨cell, by rw [hh]; exact h1, h2, by rw [hv.findClass]; exact h3⟩
theorem keptP {D : va_G} {ws : va_W} {H H1 : Heap} (hP : va_P D cl ws H) (h : ∀ q : Nat, q < H.size → H1[q]? = H[q]?) : va_P D cl ws H1 := hP.kept fun k q hk => h q.1 (hP k q hk).lt
theorem preR {s : State} {H : Heap} {A : Nat → Prop} {locs : List Loc} {is : Int32} (hTS : TS A s s.heap) (hS : va_S A s.heap H locs) (hA : ∀ q : Nat, s.heap.size ≤ q → A q) : PreS s H (va_Pc [.int is] (fun U => U.heap.size = H.size ∧ TS (fun q => H.size ≤ q) U U.heap)) [.int is] :=
  ⟨fun a U g1 mk q => by obtain ⟨q0, q1, q2⟩ := q; exact ⟨q0, q1, TS.moved (u := U) (U := U.calling g1 mk a) (Vm.Alike.refl U.vm) q2⟩, fun U hU hW => ⟨rfl, by rw [hU], by
    have h1 := (hTS.kept hS.2.1).narrow (B := fun q => H.size ≤ q) (fun q h => hA q (Nat.le_trans hS.1 h))
    rw [hU]
    exact h1.moved hW.alike⟩⟩
def qXt (g : Gc) (ad : Nat → Nat) (wv nv : Nat → Int32) (kn : Int32) (fw pp : Nat → Int32) (sz : Nat) (U : State) : Prop := U.heap.size = sz ∧ va_P g.1 cl (wX g ad wv nv kn fw pp) U.heap ∧ gK g U ∧ va_D (fun _ => True) (wX g ad wv nv kn fw pp) ∧ TS (va_A (wX g ad wv nv kn fw pp) sz) U U.heap
theorem preXt {s : State} {H : Heap} {A : Nat → Prop} {g : Gc} {ad : Nat → Nat} {wv nv : Nat → Int32} {kn : Int32} {fw pp : Nat → Int32} {As : List Value} {locs : List Loc} (hP : va_P g.1 cl (wX g ad wv nv kn fw pp) H) (hK : gK g s) (hD : va_D A (wX g ad wv nv kn fw pp)) (hTS : TS A s s.heap) (hS : va_S A s.heap H locs) (hFc : ∀ q, va_A (wX g ad wv nv kn fw pp) H.size q → A q) : PreS s H (va_Pc As (qXt g ad wv nv kn fw pp H.size)) As :=
  ⟨fun a U g1 mk q => by obtain ⟨q0, q1, qP, qK, qD, qT⟩ := q; exact ⟨q0, q1, qP, va_K.moved (u := U) (U := U.calling g1 mk a) (Vm.Alike.refl U.vm) qK, qD, TS.moved (u := U) (U := U.calling g1 mk a) (Vm.Alike.refl U.vm) qT⟩, fun U hU hW => ⟨rfl, by rw [hU], by rw [hU]; exact hP, va_K.moved hW.alike hK, hD.weaken (fun _ _ _ _ => trivial), by
    have h1 := (hTS.kept hS.2.1).narrow hFc
    rw [hU]
    exact h1.moved hW.alike⟩⟩
/-- what a call of NoteMix's that answers an int comes to: c1: IllegalArgumentException; c2: NoSuchElementException; else post; the cassettes stay -/
def qI (g : Gc) (ad : Nat → Nat) (wo N : Nat → Nat) (A : Nat → Prop) (c1 c2 : Prop) (post : Int32 → (Nat → Int32) → Prop) : Array Value → State → Outcome → State → Prop := fun _ _ o t => ∃ kn fw pp, nt_kn wo N kn fw ∧ va_P g.1 cl (wX g ad (nF wo) (nF N) kn fw pp) t.heap ∧ va_D A (wX g ad (nF wo) (nF N) kn fw pp) ∧
  ((c1 ∧ ∃ x, o = .threw x ∧ TH IAE x t) ∨ (c2 ∧ ∃ x, o = .threw x ∧ TH NSE x t) ∨ ∃ r, o = .returned (some (.int r)) ∧ post r pp)
/-- found(v) -/
def pF (wo N : Nat → Nat) (v r : Int32) (pp : Nat → Int32) : Prop := ∃ n, n ≤ 2000 ∧ v = nI n ∧ nt_rw wo N 4 n ≤ 40 ∧ r = nI (nt_rw wo N 4 n) ∧ ∃ ch, nt_bst wo N n (nt_rw wo N 4 n) ch ∧ ∀ i, i < 4 → pp i = nI (ch i)
def cF (wo N : Nat → Nat) (v : Int32) : Prop := ∃ n, n ≤ 2000 ∧ v = nI n ∧ nt_rw wo N 4 n = 41
abbrev bad (v : Int32) (b : Nat) : Prop := in3 v (nI 0) (nI b) = 0
abbrev rmF : Room := { frames := 7, cells := 1, slots := 6, locals := 101 }
abbrev rmB : Room := { frames := 8, cells := 1, slots := 6, locals := 123 }
theorem xw_X_mix {R : Room} {cells slots : Nat} (h : xw_R R cells slots rmX 7) : xk_W R cells slots y_X_mix cd_X_mix rmX 7 1 := ⟨kc_X_mix, Or.inl ⟨_, _, rfl⟩, tw_1, by decide, by decide +kernel, h.1, h.2.1, h.2.2.1, h.2.2.2⟩
theorem xw_X_found {R : Room} {cells slots : Nat} (h : xw_R R cells slots rmF 3) : xk_W R cells slots y_X_found cd_X_found rmF 3 1 := ⟨kc_X_found, Or.inl ⟨_, _, rfl⟩, tw_1, by decide, by decide +kernel, h.1, h.2.1, h.2.2.1, h.2.2.2⟩
theorem c_X_found (l : Launch) (hfl : l.flags = flags0) (g : Gc) (ad : Nat → Nat) (wo N : Nat → Nat) (kn : Int32) (fw pp : Nat → Int32) (v : Int32) (sz : Nat) (hG : nt_gd wo N) (hkn : nt_kn wo N kn fw) : Ct l y_X_found cd_X_found rmF (0, 0) (va_Pc [.ref (ad 0), .int v] (qXt g ad (nF wo) (nF N) kn fw pp sz)) (qI g ad wo N (va_A (wX g ad (nF wo) (nF N) kn fw pp) sz) (bad v 2000) (cF wo N v) (pF wo N v)) (va_A (wX g ad (nF wo) (nF N) kn fw pp) sz) := by
  refine Ct.ofW (by decide) ?_
  intro p e s m args below meth c B hpre
  obtain ⟨rfl, hsz, hP, hK, hD0, hTS⟩ := hpre
  subst hsz
  have hD := hD0.self (sz := s.heap.size)
  generalize hAe : va_A (wX g ad (nF wo) (nF N) kn fw pp) s.heap.size = A at hD hTS ⊢
  have hA : ∀ q : Nat, s.heap.size ≤ q → A q := fun q h => by rw [← hAe]; exact Or.inr h
  have hS : va_S A s.heap s.heap [] := va_S.rf
  have hP : va_P g.1 cl (wX g ad (nF wo) (nF N) kn fw pp) s.heap := hP
  obtain ⟨⟨hx, hb, hml, hown, hts⟩, hret, hlk, hnm, hex⟩ := id B
  have hl := lv_entry ([.ref (ad 0), .int v]) (n := 3) (Nat.le_of_ble_eq_true rfl)
  rw [lg_entry_eq]
  generalize (lg_sl ([.ref (ad 0), .int v]) ++ List.replicate (3 - (lg_sl ([.ref (ad 0), .int v])).length) Slot.unset).toArray = ls at hl ⊢
  have hl : lv_has ls 3 [(0, .ref (ad 0)), (1, .int v)] := hl
  refine lv_iload_n hx hb d_X_found_0 rfl (lv_at hl 1 rfl) ?_
  refine lv_iconst (v := nI 0) hx hb d_X_found_1 (by decide) ?_
  refine lv_sipush (v := nI 2000) hx hb d_X_found_2 (by decide) ?_
  refine x_pS (As := [.int v, .int (nI 0), .int (nI 2000)]) (rest := []) B.1 (c_X_in l v (nI 0) (nI 2000)) (xw_X_in (by decide)) tw_59 tw_60 (⟨fun _ _ _ _ q => q, fun _ _ _ => ⟨rfl, trivial⟩⟩) hl.1 (by decide) hS rfl d_X_found_5 ?_
  refine x_calS (As := [.int (in3 v (nI 0) (nI 2000))]) (rest := []) B.1 (c_X_right l hfl (in3 v (nI 0) (nI 2000)) _) (xw_X_right (by decide)) tw_62 tw_63 (preR hTS hS hA) hl.1 (by decide) hS (fun q h => hA q (Nat.le_trans hS.1 h)) rfl d_X_found_8 (fun rv t H1 locs1 hN => ?_) (fun rx t H1 locs1 hN => ?_)
  · obtain ⟨e1, hal, ⟨st, h0, hq⟩, hz1, hk1, hS, -⟩ := hN
    rcases hq with ⟨hin, hv0, hh⟩ | ⟨-, x0, hv0, -⟩
    · cases hv0
      have hH := e1.symm.trans (hh.trans h0)
      subst hH
      refine W.eq (g2 := F0 m 11 ls []) rfl ?_
      obtain ⟨n, rfl, hn0, hn⟩ := in3_nI (by decide) (by decide) hin
      refine lv_aload_n hx hb d_X_found_11 rfl (lv_at hl 0 rfl) ?_
      refine lv_iload_n hx hb d_X_found_12 rfl (lv_at hl 1 rfl) ?_
      have hFc := va_free (wc := wX g ad (nF wo) (nF N) kn fw pp) hD hS hA [0, 1, 2, 3, 4] rfl
      refine x_calV (C := R_X) (b := ad 0) (As := [.int (nI n)]) (rest := []) B.1 (c_X_mix l g ad wo N kn fw pp n _ hG hkn hn) (xw_X_mix (by decide)) tw_139 tw_141 ts_4 (recX hK hP) (preX hP hK hD) hl.1 (by decide) hS hFc rfl d_X_found_13 (fun rv t H1 locs1 hN => ?_) (fun rx t H1 locs1 hN => ?_)
      · obtain ⟨e1, hal, ⟨st, h0, fw, pp, hkn, hP, hD1, hcase⟩, hz1, hk1, hS, -⟩ := hN
        rw [e1] at hP
        have hD := hD1.weaken (fun k q _ h => hFc q.1 h)
        rcases hcase with ⟨h41, hv0⟩ | ⟨h40, hv0, ch, hbst, hpp⟩
        · cases hv0
          refine W.eq (g2 := F0 m 16 ls [.int (-1)]) rfl ?_
          refine lv_istore_n (lv' := [(2, .int (-1)), (0, .ref (ad 0)), (1, .int (nI n))]) hx hb d_X_found_16 rfl hl (by decide) rfl (fun ls hl => ?_)
          refine lv_iload_n hx hb d_X_found_17 rfl (lv_at hl 0 rfl) ?_
          refine lv_if_ge hx hb d_X_found_18 rfl (fun h => ?_) (fun h => ?_)
          · exact absurd h (by decide)
          · exact x_thr (cls := NSE) (names := ["java/lang/RuntimeException", "java/lang/Exception"]) hfl B (hTS.kept hS.2.1) hS (by decide +kernel) (by decide +kernel) (w_nse _ _ tw_152) tw_143 tw_144 tw_7 d_X_found_21 d_X_found_24 d_X_found_25 d_X_found_28 hl.1 (by decide) (by decide) (by decide) (by decide) (fun x t hW hth hz hq => ⟨1, fw, pp, hkn, keptP hP hq, hD, Or.inr (Or.inl ⟨⟨n, hn, rfl, h41⟩, x, rfl, hth⟩)⟩)
        · cases hv0
          refine W.eq (g2 := F0 m 16 ls [.int (nI (nt_rw wo N 4 n))]) rfl ?_
          refine lv_istore_n (lv' := [(2, .int (nI (nt_rw wo N 4 n))), (0, .ref (ad 0)), (1, .int (nI n))]) hx hb d_X_found_16 rfl hl (by decide) rfl (fun ls hl => ?_)
          refine lv_iload_n hx hb d_X_found_17 rfl (lv_at hl 0 rfl) ?_
          refine lv_if_ge hx hb d_X_found_18 rfl (fun h => ?_) (fun h => ?_)
          · refine lv_iload_n hx hb d_X_found_29 rfl (lv_at hl 0 rfl) ?_
            exact x_iret B hS (by decide) (by decide) (fun t ht hW => ⟨1, fw, pp, hkn, by rw [ht]; exact hP, hD, Or.inr (Or.inr ⟨_, rfl, n, hn, rfl, h40, rfl, ch, hbst, hpp⟩)⟩) d_X_found_30
          · exact absurd (nI_pos' (n := nt_rw wo N 4 n) (by omega)) h
      · obtain ⟨-, -, ⟨st, h0, fw, pp, -, -, -, hcase⟩, -⟩ := hN
        rcases hcase with ⟨-, hv0⟩ | ⟨-, hv0, -⟩ <;> cases hv0
    · cases hv0
  · obtain ⟨e1, hal, ⟨st, h0, hq⟩, hz1, hk1, hS, -⟩ := hN
    rcases hq with ⟨-, hv0, -⟩ | ⟨hin, x0, hv0, hth, hz2, hk2⟩
    · cases hv0
    · cases hv0
      rw [h0, e1] at hk2
      have hP := keptP hP hk2
      refine x_leave B hS (by decide) (by decide) (fun u hu hW => ⟨kn, fw, pp, hkn, by rw [hu]; exact hP, hD, Or.inl ⟨hin, _, rfl, hth.moved (by rw [hu, e1]) (hal.symm.trans hW.alike)⟩⟩)
theorem c_X_best (l : Launch) (hfl : l.flags = flags0) (g : Gc) (ad : Nat → Nat) (wo N : Nat → Nat) (kn : Int32) (fw pp : Nat → Int32) (v : Int32) (sz : Nat) (hG : nt_gd wo N) (hkn : nt_kn wo N kn fw) : Ct l y_X_best cd_X_best rmB (0, 0) (va_Pc [.ref (ad 0), .int v] (qXt g ad (nF wo) (nF N) kn fw pp sz)) (qI g ad wo N (va_A (wX g ad (nF wo) (nF N) kn fw pp) sz) (bad v 2000) (cF wo N v) (pF wo N v)) (va_A (wX g ad (nF wo) (nF N) kn fw pp) sz) := by
  refine Ct.ofW (by decide) ?_
  intro p e s m args below meth c B hpre
  obtain ⟨rfl, hsz, hP, hK, hD0, hTS⟩ := hpre
  subst hsz
  have hD := hD0.self (sz := s.heap.size)
  generalize hAe : va_A (wX g ad (nF wo) (nF N) kn fw pp) s.heap.size = A at hD hTS ⊢
  have hA : ∀ q : Nat, s.heap.size ≤ q → A q := fun q h => by rw [← hAe]; exact Or.inr h
  have hS : va_S A s.heap s.heap [] := va_S.rf
  have hP : va_P g.1 cl (wX g ad (nF wo) (nF N) kn fw pp) s.heap := hP
  obtain ⟨⟨hx, hb, hml, hown, hts⟩, hret, hlk, hnm, hex⟩ := id B
  have hl := lv_entry ([.ref (ad 0), .int v]) (n := 2) (Nat.le_of_ble_eq_true rfl)
  rw [lg_entry_eq]
  generalize (lg_sl ([.ref (ad 0), .int v]) ++ List.replicate (2 - (lg_sl ([.ref (ad 0), .int v])).length) Slot.unset).toArray = ls at hl ⊢
  have hl : lv_has ls 2 [(0, .ref (ad 0)), (1, .int v)] := hl
  refine lv_aload_n hx hb d_X_best_0 rfl (lv_at hl 0 rfl) ?_
  refine lv_iload_n hx hb d_X_best_1 rfl (lv_at hl 1 rfl) ?_
  have hFc := va_free (wc := wX g ad (nF wo) (nF N) kn fw pp) hD hS hA [0, 1, 2, 3, 4] rfl
  refine x_calV (C := R_X) (b := ad 0) (As := [.int v]) (rest := []) B.1 (c_X_found l hfl g ad wo N kn fw pp v _ hG hkn) (xw_X_found (by decide)) tw_135 tw_137 ts_3 (recX hK hP) (preXt hP hK hD hTS hS hFc) hl.1 (by decide) hS hFc rfl d_X_best_2 (fun rv t H1 locs1 hN => ?_) (fun rx t H1 locs1 hN => ?_)
  · obtain ⟨e1, hal, ⟨st, h0, kn, fw, pp, hkn, hP, hD1, hcase⟩, hz1, hk1, hS, -⟩ := hN
    rw [e1] at hP
    have hD := hD1.weaken (fun k q _ h => hFc q.1 h)
    rcases hcase with ⟨-, x, hv0, -⟩ | ⟨-, x, hv0, -⟩ | ⟨r, hv0, hpost⟩
    · cases hv0
    · cases hv0
    · cases hv0
      refine W.eq (g2 := F0 m 5 ls [.int r]) rfl ?_
      exact x_iret B hS (by decide) (by decide) (fun t ht hW => ⟨kn, fw, pp, hkn, by rw [ht]; exact hP, hD, Or.inr (Or.inr ⟨_, rfl, hpost⟩)⟩) d_X_best_5
  · obtain ⟨e1, hal, ⟨st, h0, kn, fw, pp, hkn, hP, hD1, hcase⟩, hz1, hk1, hS, -⟩ := hN
    rw [e1] at hP
    have hD := hD1.weaken (fun k q _ h => hFc q.1 h)
    rcases hcase with ⟨hc1, x, hv0, hth⟩ | ⟨hc2, x, hv0, hth⟩ | ⟨r, hv0, -⟩
    · cases hv0
      exact x_leave B hS (by decide) (by decide) (fun u hu hW => ⟨kn, fw, pp, hkn, by rw [hu]; exact hP, hD, Or.inl ⟨hc1, _, rfl, hth.moved (by rw [hu, e1]) (hal.symm.trans hW.alike)⟩⟩)
    · cases hv0
      exact x_leave B hS (by decide) (by decide) (fun u hu hW => ⟨kn, fw, pp, hkn, by rw [hu]; exact hP, hD, Or.inr (Or.inl ⟨hc2, _, rfl, hth.moved (by rw [hu, e1]) (hal.symm.trans hW.alike)⟩)⟩)
    · cases hv0
def pP (wo N : Nat → Nat) (v cI r : Int32) (_ : Nat → Int32) : Prop := ∃ n k ch, n ≤ 2000 ∧ v = nI n ∧ k < 4 ∧ cI = nI k ∧ nt_rw wo N 4 n ≤ 40 ∧ nt_bst wo N n (nt_rw wo N 4 n) ch ∧ r = nI (ch k)
theorem c_X_part (l : Launch) (hfl : l.flags = flags0) (g : Gc) (ad : Nat → Nat) (wo N : Nat → Nat) (kn : Int32) (fw pp : Nat → Int32) (v cI : Int32) (sz : Nat) (hG : nt_gd wo N) (hkn : nt_kn wo N kn fw) : Ct l y_X_part cd_X_part rmB (0, 0) (va_Pc [.ref (ad 0), .int v, .int cI] (qXt g ad (nF wo) (nF N) kn fw pp sz)) (qI g ad wo N (va_A (wX g ad (nF wo) (nF N) kn fw pp) sz) (bad cI 3 ∨ (¬ bad cI 3 ∧ bad v 2000)) (¬ bad cI 3 ∧ cF wo N v) (pP wo N v cI)) (va_A (wX g ad (nF wo) (nF N) kn fw pp) sz) := by
  refine Ct.ofW (by decide) ?_
  intro p e s m args below meth c B hpre
  obtain ⟨rfl, hsz, hP, hK, hD0, hTS⟩ := hpre
  subst hsz
  have hD := hD0.self (sz := s.heap.size)
  generalize hAe : va_A (wX g ad (nF wo) (nF N) kn fw pp) s.heap.size = A at hD hTS ⊢
  have hA : ∀ q : Nat, s.heap.size ≤ q → A q := fun q h => by rw [← hAe]; exact Or.inr h
  have hS : va_S A s.heap s.heap [] := va_S.rf
  have hP : va_P g.1 cl (wX g ad (nF wo) (nF N) kn fw pp) s.heap := hP
  obtain ⟨⟨hx, hb, hml, hown, hts⟩, hret, hlk, hnm, hex⟩ := id B
  have hl := lv_entry ([.ref (ad 0), .int v, .int cI]) (n := 3) (Nat.le_of_ble_eq_true rfl)
  rw [lg_entry_eq]
  generalize (lg_sl ([.ref (ad 0), .int v, .int cI]) ++ List.replicate (3 - (lg_sl ([.ref (ad 0), .int v, .int cI])).length) Slot.unset).toArray = ls at hl ⊢
  have hl : lv_has ls 3 [(0, .ref (ad 0)), (1, .int v), (2, .int cI)] := hl
  refine lv_iload_n hx hb d_X_part_0 rfl (lv_at hl 2 rfl) ?_
  refine lv_iconst (v := nI 0) hx hb d_X_part_1 (by decide) ?_
  refine lv_iconst (v := nI 3) hx hb d_X_part_2 (by decide) ?_
  refine x_pS (As := [.int cI, .int (nI 0), .int (nI 3)]) (rest := []) B.1 (c_X_in l cI (nI 0) (nI 3)) (xw_X_in (by decide)) tw_59 tw_60 (⟨fun _ _ _ _ q => q, fun _ _ _ => ⟨rfl, trivial⟩⟩) hl.1 (by decide) hS rfl d_X_part_3 ?_
  refine x_calS (As := [.int (in3 cI (nI 0) (nI 3))]) (rest := []) B.1 (c_X_right l hfl (in3 cI (nI 0) (nI 3)) _) (xw_X_right (by decide)) tw_62 tw_63 (preR hTS hS hA) hl.1 (by decide) hS (fun q h => hA q (Nat.le_trans hS.1 h)) rfl d_X_part_6 (fun rv t H1 locs1 hN => ?_) (fun rx t H1 locs1 hN => ?_)
  · obtain ⟨e1, hal, ⟨st, h0, hq⟩, hz1, hk1, hS, -⟩ := hN
    rcases hq with ⟨hin, hv0, hh⟩ | ⟨-, x0, hv0, -⟩
    · cases hv0
      have hH := e1.symm.trans (hh.trans h0)
      subst hH
      refine W.eq (g2 := F0 m 9 ls []) rfl ?_
      refine lv_aload_n hx hb d_X_part_9 rfl (lv_at hl 0 rfl) ?_
      refine lv_iload_n hx hb d_X_part_10 rfl (lv_at hl 1 rfl) ?_
      have hFc := va_free (wc := wX g ad (nF wo) (nF N) kn fw pp) hD hS hA [0, 1, 2, 3, 4] rfl
      refine x_calV (C := R_X) (b := ad 0) (As := [.int v]) (rest := []) B.1 (c_X_found l hfl g ad wo N kn fw pp v _ hG hkn) (xw_X_found (by decide)) tw_135 tw_137 ts_3 (recX hK hP) (preXt hP hK hD hTS hS hFc) hl.1 (by decide) hS hFc rfl d_X_part_11 (fun rv t H1 locs1 hN => ?_) (fun rx t H1 locs1 hN => ?_)
      · obtain ⟨e1, hal, ⟨st, h0, kn, fw, pp, hkn, hP, hD1, hcase⟩, hz1, hk1, hS, -⟩ := hN
        rw [e1] at hP
        have hD := hD1.weaken (fun k q _ h => hFc q.1 h)
        rcases hcase with ⟨-, x, hv0, -⟩ | ⟨-, x, hv0, -⟩ | ⟨r, hv0, hpost⟩
        · cases hv0
        · cases hv0
        · cases hv0
          refine W.eq (g2 := F0 m 14 ls [.int r]) rfl ?_
          obtain ⟨k, rfl, hk0, hk⟩ := in3_nI (by decide) (by decide) hin
          obtain ⟨n, hn, rfl, h40, -, ch, hbst, hpp⟩ := hpost
          refine lv_pop hx hb d_X_part_14 rfl ?_
          refine lv_aload_n hx hb d_X_part_15 rfl (lv_at hl 0 rfl) ?_
          refine gX_parts B.1 hK hP rfl d_X_part_16 ?_
          refine lv_iload_n hx hb d_X_part_19 rfl (lv_at hl 2 rfl) ?_
          refine n_iald hx hb hK hP 4 rfl (by omega) (by decide) d_X_part_20 ?_
          rw [hpp k (by omega)]
          exact x_iret B hS (by decide) (by decide) (fun t ht hW => ⟨kn, fw, pp, hkn, by rw [ht]; exact hP, hD, Or.inr (Or.inr ⟨_, rfl, n, k, ch, hn, rfl, by omega, rfl, h40, hbst, rfl⟩)⟩) d_X_part_21
      · obtain ⟨e1, hal, ⟨st, h0, kn, fw, pp, hkn, hP, hD1, hcase⟩, hz1, hk1, hS, -⟩ := hN
        rw [e1] at hP
        have hD := hD1.weaken (fun k q _ h => hFc q.1 h)
        rcases hcase with ⟨hc1, x, hv0, hth⟩ | ⟨hc2, x, hv0, hth⟩ | ⟨r, hv0, -⟩
        · cases hv0
          exact x_leave B hS (by decide) (by decide) (fun u hu hW => ⟨kn, fw, pp, hkn, by rw [hu]; exact hP, hD, Or.inl ⟨Or.inr ⟨hin, hc1⟩, _, rfl, hth.moved (by rw [hu, e1]) (hal.symm.trans hW.alike)⟩⟩)
        · cases hv0
          exact x_leave B hS (by decide) (by decide) (fun u hu hW => ⟨kn, fw, pp, hkn, by rw [hu]; exact hP, hD, Or.inr (Or.inl ⟨⟨hin, hc2⟩, _, rfl, hth.moved (by rw [hu, e1]) (hal.symm.trans hW.alike)⟩)⟩)
        · cases hv0
    · cases hv0
  · obtain ⟨e1, hal, ⟨st, h0, hq⟩, hz1, hk1, hS, -⟩ := hN
    rcases hq with ⟨-, hv0, -⟩ | ⟨hin, x0, hv0, hth, hz2, hk2⟩
    · cases hv0
    · cases hv0
      rw [h0, e1] at hk2
      have hP := keptP hP hk2
      refine x_leave B hS (by decide) (by decide) (fun u hu hW => ⟨kn, fw, pp, hkn, by rw [hu]; exact hP, hD, Or.inl ⟨Or.inl hin, _, rfl, hth.moved (by rw [hu, e1]) (hal.symm.trans hW.alike)⟩⟩)
end
section
/-! NoteMix: cassette, value, reach, next -/
def pC (wo N : Nat → Nat) (cI b r : Int32) (_ : Nat → Int32) : Prop := ∃ k, k < 4 ∧ cI = nI k ∧ r = if b = 0 then nI (N k) else nI (wo k)
theorem c_X_cassette (l : Launch) (hfl : l.flags = flags0) (g : Gc) (ad : Nat → Nat) (wo N : Nat → Nat) (kn : Int32) (fw pp : Nat → Int32) (cI b : Int32) (sz : Nat) (hkn : nt_kn wo N kn fw) : Ct l y_X_cassette cd_X_cassette rmF (0, 0) (va_Pc [.ref (ad 0), .int cI, .int b] (qXt g ad (nF wo) (nF N) kn fw pp sz)) (qI g ad wo N (va_A (wX g ad (nF wo) (nF N) kn fw pp) sz) (bad cI 3) False (pC wo N cI b)) (va_A (wX g ad (nF wo) (nF N) kn fw pp) sz) := by
  refine Ct.ofW (by decide) ?_
  intro p e s m args below meth c B hpre
  obtain ⟨rfl, hsz, hP, hK, hD0, hTS⟩ := hpre
  subst hsz
  have hD := hD0.self (sz := s.heap.size)
  generalize hAe : va_A (wX g ad (nF wo) (nF N) kn fw pp) s.heap.size = A at hD hTS ⊢
  have hA : ∀ q : Nat, s.heap.size ≤ q → A q := fun q h => by rw [← hAe]; exact Or.inr h
  have hS : va_S A s.heap s.heap [] := va_S.rf
  have hP : va_P g.1 cl (wX g ad (nF wo) (nF N) kn fw pp) s.heap := hP
  obtain ⟨⟨hx, hb, hml, hown, hts⟩, hret, hlk, hnm, hex⟩ := id B
  have hl := lv_entry ([.ref (ad 0), .int cI, .int b]) (n := 3) (Nat.le_of_ble_eq_true rfl)
  rw [lg_entry_eq]
  generalize (lg_sl ([.ref (ad 0), .int cI, .int b]) ++ List.replicate (3 - (lg_sl ([.ref (ad 0), .int cI, .int b])).length) Slot.unset).toArray = ls at hl ⊢
  have hl : lv_has ls 3 [(0, .ref (ad 0)), (1, .int cI), (2, .int b)] := hl
  refine lv_iload_n hx hb d_X_cassette_0 rfl (lv_at hl 1 rfl) ?_
  refine lv_iconst (v := nI 0) hx hb d_X_cassette_1 (by decide) ?_
  refine lv_iconst (v := nI 3) hx hb d_X_cassette_2 (by decide) ?_
  refine x_pS (As := [.int cI, .int (nI 0), .int (nI 3)]) (rest := []) B.1 (c_X_in l cI (nI 0) (nI 3)) (xw_X_in (by decide)) tw_59 tw_60 (⟨fun _ _ _ _ q => q, fun _ _ _ => ⟨rfl, trivial⟩⟩) hl.1 (by decide) hS rfl d_X_cassette_3 ?_
  refine x_calS (As := [.int (in3 cI (nI 0) (nI 3))]) (rest := []) B.1 (c_X_right l hfl (in3 cI (nI 0) (nI 3)) _) (xw_X_right (by decide)) tw_62 tw_63 (preR hTS hS hA) hl.1 (by decide) hS (fun q h => hA q (Nat.le_trans hS.1 h)) rfl d_X_cassette_6 (fun rv t H1 locs1 hN => ?_) (fun rx t H1 locs1 hN => ?_)
  · obtain ⟨e1, hal, ⟨st, h0, hq⟩, hz1, hk1, hS, -⟩ := hN
    rcases hq with ⟨hin, hv0, hh⟩ | ⟨-, x0, hv0, -⟩
    · cases hv0
      have hH := e1.symm.trans (hh.trans h0)
      subst hH
      refine W.eq (g2 := F0 m 9 ls []) rfl ?_
      obtain ⟨k, rfl, hk0, hk⟩ := in3_nI (by decide) (by decide) hin
      refine lv_iload_n hx hb d_X_cassette_9 rfl (lv_at hl 2 rfl) ?_
      refine lv_if_eq hx hb d_X_cassette_10 rfl (fun h => ?_) (fun h => ?_)
      · refine lv_aload_n hx hb d_X_cassette_22 rfl (lv_at hl 0 rfl) ?_
        refine gX_notes B.1 hK hP rfl d_X_cassette_23 ?_
        refine lv_iload_n hx hb d_X_cassette_26 rfl (lv_at hl 1 rfl) ?_
        refine n_iald hx hb hK hP 2 rfl (by omega) (by decide) d_X_cassette_27 ?_
        exact x_iret B hS (by decide) (by decide) (fun t ht hW => ⟨kn, fw, pp, hkn, by rw [ht]; exact hP, hD, Or.inr (Or.inr ⟨_, rfl, k, by omega, rfl, by rw [if_pos h]⟩)⟩) d_X_cassette_28
      · refine lv_aload_n hx hb d_X_cassette_13 rfl (lv_at hl 0 rfl) ?_
        refine gX_worth B.1 hK hP rfl d_X_cassette_14 ?_
        refine lv_iload_n hx hb d_X_cassette_17 rfl (lv_at hl 1 rfl) ?_
        refine n_iald hx hb hK hP 1 rfl (by omega) (by decide) d_X_cassette_18 ?_
        refine lv_goto hx hb d_X_cassette_19 rfl ?_
        exact x_iret B hS (by decide) (by decide) (fun t ht hW => ⟨kn, fw, pp, hkn, by rw [ht]; exact hP, hD, Or.inr (Or.inr ⟨_, rfl, k, by omega, rfl, by rw [if_neg h]⟩)⟩) d_X_cassette_28
    · cases hv0
  · obtain ⟨e1, hal, ⟨st, h0, hq⟩, hz1, hk1, hS, -⟩ := hN
    rcases hq with ⟨-, hv0, -⟩ | ⟨hin, x0, hv0, hth, hz2, hk2⟩
    · cases hv0
    · cases hv0
      rw [h0, e1] at hk2
      have hP := keptP hP hk2
      refine x_leave B hS (by decide) (by decide) (fun u hu hW => ⟨kn, fw, pp, hkn, by rw [hu]; exact hP, hD, Or.inl ⟨hin, _, rfl, hth.moved (by rw [hu, e1]) (hal.symm.trans hW.alike)⟩⟩)
section VLX
variable {p : Program} {l : Launch} {e : Env} {R : Room} {s : State} {m : MethodId} {args : Array Value} {below : List Frame} {meth : Method} {c : Code} {H : Heap} {locs : List Loc} {cells slots : Nat} {Q : State → Prop}
variable {g : Gc} {ad : Nat → Nat} {A : Nat → Prop} {ls : Array Slot}
variable {wo N : Nat → Nat} {kn : Int32} {fw pp : Nat → Int32}
theorem vl_X (B : xk_B p s m args meth c y_X_value b_X_value 3 (some .int) []) (hK : gK g s) (hP : va_P g.1 cl (wX g ad (nF wo) (nF N) kn fw pp) H)
    (kk : ∀ ls, lv_has ls 3 [(0, .ref (ad 0)), (1, .int (nt_vl wo N 4))] → W p l e R s m args below meth c H locs cells slots Q (F0 m 31 ls [])) : ∀ (n cN : Nat) (x : Int32) (ls : Array Slot), 4 - cN < n → cN ≤ 4 → x = nt_vl wo N cN → lv_has ls 3 [(0, .ref (ad 0)), (1, .int x), (2, .int (nI cN))] → W p l e R s m args below meth c H locs cells slots Q (F0 m 4 ls []) := by
  obtain ⟨hx, hb, hml, hown, hts⟩ := B.1
  intro n
  induction n with
  | zero => intro cN x ls h; omega
  | succ n ih =>
    intro cN x ls hn hc hxe hl
    refine lv_iload_n hx hb d_X_value_4 rfl (lv_at hl 2 rfl) ?_
    refine lv_iconst (v := nI 4) hx hb d_X_value_5 (by decide) ?_
    refine n_ige hx hb d_X_value_6 rfl (by omega) (by omega) (fun h => ?_) (fun h => ?_)
    · have e : cN = 4 := by omega
      subst e
      subst hxe
      have hl := lv_sub (l' := [(0, .ref (ad 0)), (1, .int (nt_vl wo N 4))]) hl [0, 1] rfl
      exact kk ls hl
    · refine lv_iload_n hx hb d_X_value_9 rfl (lv_at hl 1 rfl) ?_
      refine lv_aload_n hx hb d_X_value_10 rfl (lv_at hl 0 rfl) ?_
      refine gX_notes B.1 hK hP rfl d_X_value_11 ?_
      refine lv_iload_n hx hb d_X_value_14 rfl (lv_at hl 2 rfl) ?_
      refine n_iald hx hb hK hP 2 rfl (by omega) (by decide) d_X_value_15 ?_
      refine lv_aload_n hx hb d_X_value_16 rfl (lv_at hl 0 rfl) ?_
      refine gX_worth B.1 hK hP rfl d_X_value_17 ?_
      refine lv_iload_n hx hb d_X_value_20 rfl (lv_at hl 2 rfl) ?_
      refine n_iald hx hb hK hP 1 rfl (by omega) (by decide) d_X_value_21 ?_
      refine n_mul hx hb d_X_value_22 ?_
      refine lv_iadd hx hb d_X_value_23 ?_
      refine lv_istore_n (lv' := [(1, .int (x + (nI ((N cN) * (wo cN))))), (0, .ref (ad 0)), (2, .int (nI cN))]) hx hb d_X_value_24 rfl hl (by decide) rfl (fun ls hl => ?_)
      refine lv_iinc (k := 2) (v := nI (cN + 1)) (lv' := [(2, .int (nI (cN + 1))), (1, .int (x + (nI ((N cN) * (wo cN))))), (0, .ref (ad 0))]) hx hb d_X_value_25 hl rfl (nI_add _ 1) (by decide) rfl (fun ls hl => ?_)
      refine lv_goto hx hb d_X_value_28 rfl ?_
      have hl := lv_sub (l' := [(0, .ref (ad 0)), (1, .int (x + (nI ((N cN) * (wo cN))))), (2, .int (nI (cN + 1)))]) hl [2, 1, 0] rfl
      exact ih (cN + 1) _ ls (by omega) (by omega) (by show _ = nt_vl wo N cN + nI (N cN) * nI (wo cN); rw [pk_mul, hxe]) hl
end VLX
theorem c_X_value (l : Launch) (g : Gc) (ad : Nat → Nat) (wo N : Nat → Nat) (kn : Int32) (fw pp : Nat → Int32) (sz : Nat) : Ct l y_X_value cd_X_value rm0 (0, 0) (va_Pc [.ref (ad 0)] (qX g ad (nF wo) (nF N) kn fw pp sz)) (xk_pi (nt_vl wo N 4)) (fun _ => False) := by
  refine Ct.ofW (by decide) ?_
  intro p e s m args below meth c B hpre
  obtain ⟨rfl, hsz, hP, hK, hD0⟩ := hpre
  obtain ⟨⟨hx, hb, hml, hown, hts⟩, hret, hlk, hnm, hex⟩ := id B
  have hl := lv_entry ([.ref (ad 0)]) (n := 3) (Nat.le_of_ble_eq_true rfl)
  rw [lg_entry_eq]
  generalize (lg_sl ([.ref (ad 0)]) ++ List.replicate (3 - (lg_sl ([.ref (ad 0)])).length) Slot.unset).toArray = ls at hl ⊢
  have hl : lv_has ls 3 [(0, .ref (ad 0))] := hl
  have hS : va_S (fun _ => False) s.heap s.heap [] := va_S.rf
  refine lv_iconst (v := nI 0) hx hb d_X_value_0 (by decide) ?_
  refine lv_istore_n (lv' := [(1, .int (nI 0)), (0, .ref (ad 0))]) hx hb d_X_value_1 rfl hl (by decide) rfl (fun ls hl => ?_)
  refine lv_iconst (v := nI 0) hx hb d_X_value_2 (by decide) ?_
  refine lv_istore_n (lv' := [(2, .int (nI 0)), (1, .int (nI 0)), (0, .ref (ad 0))]) hx hb d_X_value_3 rfl hl (by decide) rfl (fun ls hl => ?_)
  have hl := lv_sub (l' := [(0, .ref (ad 0)), (1, .int (nI 0)), (2, .int (nI 0))]) hl [2, 1, 0] rfl
  refine vl_X B hK hP (fun ls hl => ?_) 5 0 _ ls (by omega) (by omega) rfl hl
  refine lv_iload_n hx hb d_X_value_31 rfl (lv_at hl 1 rfl) ?_
  exact x_iret B hS (by decide) (by decide) (fun t ht hW => ⟨rfl, ht⟩) d_X_value_32
section RCX
variable {p : Program} {l : Launch} {e : Env} {R : Room} {s : State} {m : MethodId} {args : Array Value} {below : List Frame} {meth : Method} {c : Code} {H : Heap} {locs : List Loc} {cells slots : Nat} {Q : State → Prop}
variable {g : Gc} {ad : Nat → Nat} {A : Nat → Prop} {ls : Array Slot}
variable {wo N : Nat → Nat} {kn : Int32} {fw pp : Nat → Int32}
theorem rc_X (B : xk_B p s m args meth c y_X_reach b_X_reach 3 (some .int) []) (hK : gK g s) (hrow : ∀ r v, r < 4 → v ≤ 2000 → fw (r * 2001 + v) = nI (nt_rw wo N (r + 1) v)) (hP : va_P g.1 cl (wX g ad (nF wo) (nF N) kn fw pp) H)
    (kk : ∀ ls, lv_has ls 3 [(0, .ref (ad 0)), (1, .int (nI (nt_sm (nt_hs wo N) 2001)))] → W p l e R s m args below meth c H locs cells slots Q (F0 m 39 ls [])) : ∀ (n v x : Nat) (ls : Array Slot), 2001 - v < n → v ≤ 2001 → x = nt_sm (nt_hs wo N) v → lv_has ls 3 [(0, .ref (ad 0)), (1, .int (nI x)), (2, .int (nI v))] → W p l e R s m args below meth c H locs cells slots Q (F0 m 8 ls []) := by
  obtain ⟨hx, hb, hml, hown, hts⟩ := B.1
  intro n
  induction n with
  | zero => intro v x ls h; omega
  | succ n ih =>
    intro v x ls hn hv hxe hl
    have hxl : x ≤ 2001 := by
      have := nt_sm_le (f := nt_hs wo N) (k := 1) v (fun i _ => nt_hs_le wo N i)
      omega
    have hr4 := nt_rw_41 wo N 4 v
    refine lv_iload_n hx hb d_X_reach_8 rfl (lv_at hl 2 rfl) ?_
    refine lv_sipush (v := nI 2000) hx hb d_X_reach_9 (by decide) ?_
    refine n_igt hx hb d_X_reach_12 rfl (by omega) (by omega) (fun h => ?_) (fun h => ?_)
    · have e : v = 2001 := by omega
      subst e
      subst hxe
      have hl := lv_sub (l' := [(0, .ref (ad 0)), (1, .int (nI (nt_sm (nt_hs wo N) 2001)))]) hl [0, 1] rfl
      exact kk ls hl
    · refine lv_aload_n hx hb d_X_reach_15 rfl (lv_at hl 0 rfl) ?_
      refine gX_fewest B.1 hK hP rfl d_X_reach_16 ?_
      refine lv_sipush (v := nI 6003) hx hb d_X_reach_19 (by decide) ?_
      refine lv_iload_n hx hb d_X_reach_22 rfl (lv_at hl 2 rfl) ?_
      refine n_add hx hb d_X_reach_23 ?_
      refine n_bald hx hb hK hP 3 rfl (by omega) (by decide) d_X_reach_24 ?_
      rw [show fw (6003 + v) = nI (nt_rw wo N 4 v) from hrow 3 v (by omega) (by omega)]
      refine lv_bipush (v := nI 41) hx hb d_X_reach_25 (by decide) ?_
      refine n_ieq hx hb d_X_reach_27 rfl (by omega) (by omega) (fun h2 => ?_) (fun h2 => ?_)
      · refine lv_iinc (k := 2) (v := nI (v + 1)) (lv' := [(2, .int (nI (v + 1))), (0, .ref (ad 0)), (1, .int (nI x))]) hx hb d_X_reach_33 hl rfl (nI_add _ 1) (by decide) rfl (fun ls hl => ?_)
        refine lv_goto hx hb d_X_reach_36 rfl ?_
        have hl := lv_sub (l' := [(0, .ref (ad 0)), (1, .int (nI x)), (2, .int (nI (v + 1)))]) hl [1, 2, 0] rfl
        exact ih (v + 1) _ ls (by omega) (by omega) (by show _ = nt_sm (nt_hs wo N) v + nt_hs wo N v; have hz := (show nt_hs wo N v = 0 by unfold nt_hs; rw [if_pos h2]); omega) hl
      · refine lv_iinc (k := 1) (v := nI (x + 1)) (lv' := [(1, .int (nI (x + 1))), (0, .ref (ad 0)), (2, .int (nI v))]) hx hb d_X_reach_30 hl rfl (nI_add _ 1) (by decide) rfl (fun ls hl => ?_)
        refine lv_iinc (k := 2) (v := nI (v + 1)) (lv' := [(2, .int (nI (v + 1))), (1, .int (nI (x + 1))), (0, .ref (ad 0))]) hx hb d_X_reach_33 hl rfl (nI_add _ 1) (by decide) rfl (fun ls hl => ?_)
        refine lv_goto hx hb d_X_reach_36 rfl ?_
        have hl := lv_sub (l' := [(0, .ref (ad 0)), (1, .int (nI (x + 1))), (2, .int (nI (v + 1)))]) hl [2, 1, 0] rfl
        exact ih (v + 1) _ ls (by omega) (by omega) (by show _ = nt_sm (nt_hs wo N) v + nt_hs wo N v; have hz := (show nt_hs wo N v = 1 by unfold nt_hs; rw [if_neg h2]); omega) hl
end RCX
def q_reach (g : Gc) (ad : Nat → Nat) (wo N : Nat → Nat) (pp : Nat → Int32) (A : Nat → Prop) : Array Value → State → Outcome → State → Prop := fun _ _ o t => o = .returned (some (.int (nI (nt_sm (nt_hs wo N) 2001)))) ∧ ∃ fw, nt_kn wo N 1 fw ∧ va_P g.1 cl (wX g ad (nF wo) (nF N) 1 fw pp) t.heap ∧ va_D A (wX g ad (nF wo) (nF N) 1 fw pp)
theorem c_X_reach (l : Launch) (g : Gc) (ad : Nat → Nat) (wo N : Nat → Nat) (kn : Int32) (fw pp : Nat → Int32) (sz : Nat) (hG : nt_gd wo N) (hkn : nt_kn wo N kn fw) : Ct l y_X_reach cd_X_reach rmX (0, 0) (va_Pc [.ref (ad 0)] (qX g ad (nF wo) (nF N) kn fw pp sz)) (q_reach g ad wo N pp (va_A (wX g ad (nF wo) (nF N) kn fw pp) sz)) (va_A (wX g ad (nF wo) (nF N) kn fw pp) sz) := by
  refine Ct.ofW (by decide) ?_
  intro p e s m args below meth c B hpre
  obtain ⟨rfl, hsz, hP, hK, hD0⟩ := hpre
  subst hsz
  have hD := hD0.self (sz := s.heap.size)
  generalize hAe : va_A (wX g ad (nF wo) (nF N) kn fw pp) s.heap.size = A at hD ⊢
  have hA : ∀ q : Nat, s.heap.size ≤ q → A q := fun q h => by rw [← hAe]; exact Or.inr h
  have hS : va_S A s.heap s.heap [] := va_S.rf
  obtain ⟨⟨hx, hb, hml, hown, hts⟩, hret, hlk, hnm, hex⟩ := id B
  have hl := lv_entry ([.ref (ad 0)]) (n := 3) (Nat.le_of_ble_eq_true rfl)
  rw [lg_entry_eq]
  generalize (lg_sl ([.ref (ad 0)]) ++ List.replicate (3 - (lg_sl ([.ref (ad 0)])).length) Slot.unset).toArray = ls at hl ⊢
  have hl : lv_has ls 3 [(0, .ref (ad 0))] := hl
  refine lv_aload_n hx hb d_X_reach_0 rfl (lv_at hl 0 rfl) ?_
  have hFc := va_free (wc := wX g ad (nF wo) (nF N) kn fw pp) hD hS hA [0, 1, 2, 3, 4] rfl
  refine x_calV (C := R_X) (b := ad 0) (As := []) (rest := []) B.1 (c_X_work l g ad wo N kn fw pp _ hG hkn) (xw_X_work (by decide)) tw_39 tw_41 ts_0 (recX hK hP) (preX hP hK hD) hl.1 (by decide) hS hFc rfl d_X_reach_1 (fun rv t H1 locs1 hN => ?_) (fun rx t H1 locs1 hN => ?_)
  · obtain ⟨e1, hal, ⟨st, h0, hv0, fw, hkn, hP, hD1⟩, hz1, hk1, hS, -⟩ := hN
    cases hv0
    rw [e1] at hP
    have hD := hD1.weaken (fun k q _ h => hFc q.1 h)
    refine W.eq (g2 := F0 m 4 ls []) rfl ?_
    have hrow : ∀ r v, r < 4 → v ≤ 2000 → fw (r * 2001 + v) = nI (nt_rw wo N (r + 1) v) := by
      rcases hkn with h | ⟨-, h⟩
      · exact absurd h (by decide)
      · exact h
    refine lv_iconst (v := nI 0) hx hb d_X_reach_4 (by decide) ?_
    refine lv_istore_n (lv' := [(1, .int (nI 0)), (0, .ref (ad 0))]) hx hb d_X_reach_5 rfl hl (by decide) rfl (fun ls hl => ?_)
    refine lv_iconst (v := nI 0) hx hb d_X_reach_6 (by decide) ?_
    refine lv_istore_n (lv' := [(2, .int (nI 0)), (1, .int (nI 0)), (0, .ref (ad 0))]) hx hb d_X_reach_7 rfl hl (by decide) rfl (fun ls hl => ?_)
    have hl := lv_sub (l' := [(0, .ref (ad 0)), (1, .int (nI 0)), (2, .int (nI 0))]) hl [2, 1, 0] rfl
    refine rc_X B hK hrow hP (fun ls hl => ?_) 2002 0 0 ls (by omega) (by omega) rfl hl
    refine lv_iload_n hx hb d_X_reach_39 rfl (lv_at hl 1 rfl) ?_
    exact x_iret B hS (by decide) (by decide) (fun t ht hW => ⟨rfl, fw, hkn, by rw [ht]; exact hP, hD⟩) d_X_reach_40
  · obtain ⟨-, -, ⟨st, h0, hv0, -⟩, -⟩ := hN
    cases hv0
/-- the first amount from n on that has a mix; -1: none -/
def nxp (wo N : Nat → Nat) (n : Nat) (r : Int32) : Prop := (∃ k, n ≤ k ∧ k ≤ 2000 ∧ nt_hs wo N k = 1 ∧ (∀ j, n ≤ j → j < k → nt_hs wo N j = 0) ∧ r = nI k) ∨ ((∀ j, n ≤ j → j ≤ 2000 → nt_hs wo N j = 0) ∧ r = -1)
def pN (wo N : Nat → Nat) (v r : Int32) (_ : Nat → Int32) : Prop := ∃ n, n ≤ 2000 ∧ v = nI n ∧ nxp wo N n r
section NXX
variable {p : Program} {l : Launch} {e : Env} {R : Room} {s : State} {m : MethodId} {args : Array Value} {below : List Frame} {meth : Method} {c : Code} {H : Heap} {locs : List Loc} {cells slots : Nat} {Q : State → Prop}
variable {g : Gc} {ad : Nat → Nat} {A : Nat → Prop} {ls : Array Slot}
variable {wo N : Nat → Nat} {kn : Int32} {fw pp : Nat → Int32}
theorem nx_X {a : Nat} (B : xk_B p s m args meth c y_X_next b_X_next 3 (some .int) []) (hK : gK g s) (hrow : ∀ r v, r < 4 → v ≤ 2000 → fw (r * 2001 + v) = nI (nt_rw wo N (r + 1) v)) (hP : va_P g.1 cl (wX g ad (nF wo) (nF N) kn fw pp) H)
    (kk : ∀ (k : Nat) (ls : Array Slot), a ≤ k → k ≤ 2001 → (∀ j, a ≤ j → j < k → nt_hs wo N j = 0) → (k ≤ 2000 → nt_hs wo N k = 1) → lv_has ls 3 [(0, .ref (ad 0)), (1, .int (nI a)), (2, .int (nI k))] → W p l e R s m args below meth c H locs cells slots Q (F0 m 45 ls [])) : ∀ (n k : Nat) (ls : Array Slot), 2001 - k < n → a ≤ k → k ≤ 2001 → (∀ j, a ≤ j → j < k → nt_hs wo N j = 0) → lv_has ls 3 [(0, .ref (ad 0)), (1, .int (nI a)), (2, .int (nI k))] → W p l e R s m args below meth c H locs cells slots Q (F0 m 17 ls []) := by
  obtain ⟨hx, hb, hml, hown, hts⟩ := B.1
  intro n
  induction n with
  | zero => intro k ls h; omega
  | succ n ih =>
    intro k ls hn hak hk hno hl
    have hr4 := nt_rw_41 wo N 4 k
    refine lv_iload_n hx hb d_X_next_17 rfl (lv_at hl 2 rfl) ?_
    refine lv_sipush (v := nI 2000) hx hb d_X_next_18 (by decide) ?_
    refine n_igt hx hb d_X_next_21 rfl (by omega) (by omega) (fun h => ?_) (fun h => ?_)
    · have hl := lv_sub (l' := [(0, .ref (ad 0)), (1, .int (nI a)), (2, .int (nI k))]) hl [0, 1, 2] rfl
      exact kk k ls hak hk hno (fun q => by omega) hl
    · refine lv_aload_n hx hb d_X_next_24 rfl (lv_at hl 0 rfl) ?_
      refine gX_fewest B.1 hK hP rfl d_X_next_25 ?_
      refine lv_sipush (v := nI 6003) hx hb d_X_next_28 (by decide) ?_
      refine lv_iload_n hx hb d_X_next_31 rfl (lv_at hl 2 rfl) ?_
      refine n_add hx hb d_X_next_32 ?_
      refine n_bald hx hb hK hP 3 rfl (by omega) (by decide) d_X_next_33 ?_
      rw [show fw (6003 + k) = nI (nt_rw wo N 4 k) from hrow 3 k (by omega) (by omega)]
      refine lv_bipush (v := nI 41) hx hb d_X_next_34 (by decide) ?_
      refine n_ine hx hb d_X_next_36 rfl (by omega) (by omega) (fun h2 => ?_) (fun h2 => ?_)
      · have hl := lv_sub (l' := [(0, .ref (ad 0)), (1, .int (nI a)), (2, .int (nI k))]) hl [0, 1, 2] rfl
        exact kk k ls hak hk hno (fun _ => by unfold nt_hs; rw [if_neg h2]) hl
      · refine lv_iinc (k := 2) (v := nI (k + 1)) (lv' := [(2, .int (nI (k + 1))), (0, .ref (ad 0)), (1, .int (nI a))]) hx hb d_X_next_39 hl rfl (nI_add _ 1) (by decide) rfl (fun ls hl => ?_)
        refine lv_goto hx hb d_X_next_42 rfl ?_
        have hl := lv_sub (l' := [(0, .ref (ad 0)), (1, .int (nI a)), (2, .int (nI (k + 1)))]) hl [1, 2, 0] rfl
        refine ih (k + 1) ls (by omega) (by omega) (by omega) (fun j h3 h4 => ?_) hl
        by_cases e : j = k
        · subst e; unfold nt_hs; rw [if_pos h2]
        · exact hno j h3 (by omega)
end NXX
theorem c_X_next (l : Launch) (hfl : l.flags = flags0) (g : Gc) (ad : Nat → Nat) (wo N : Nat → Nat) (kn : Int32) (fw pp : Nat → Int32) (v : Int32) (sz : Nat) (hG : nt_gd wo N) (hkn : nt_kn wo N kn fw) : Ct l y_X_next cd_X_next rmF (0, 0) (va_Pc [.ref (ad 0), .int v] (qXt g ad (nF wo) (nF N) kn fw pp sz)) (qI g ad wo N (va_A (wX g ad (nF wo) (nF N) kn fw pp) sz) (bad v 2000) False (pN wo N v)) (va_A (wX g ad (nF wo) (nF N) kn fw pp) sz) := by
  refine Ct.ofW (by decide) ?_
  intro p e s m args below meth c B hpre
  obtain ⟨rfl, hsz, hP, hK, hD0, hTS⟩ := hpre
  subst hsz
  have hD := hD0.self (sz := s.heap.size)
  generalize hAe : va_A (wX g ad (nF wo) (nF N) kn fw pp) s.heap.size = A at hD hTS ⊢
  have hA : ∀ q : Nat, s.heap.size ≤ q → A q := fun q h => by rw [← hAe]; exact Or.inr h
  have hS : va_S A s.heap s.heap [] := va_S.rf
  have hP : va_P g.1 cl (wX g ad (nF wo) (nF N) kn fw pp) s.heap := hP
  obtain ⟨⟨hx, hb, hml, hown, hts⟩, hret, hlk, hnm, hex⟩ := id B
  have hl := lv_entry ([.ref (ad 0), .int v]) (n := 3) (Nat.le_of_ble_eq_true rfl)
  rw [lg_entry_eq]
  generalize (lg_sl ([.ref (ad 0), .int v]) ++ List.replicate (3 - (lg_sl ([.ref (ad 0), .int v])).length) Slot.unset).toArray = ls at hl ⊢
  have hl : lv_has ls 3 [(0, .ref (ad 0)), (1, .int v)] := hl
  refine lv_iload_n hx hb d_X_next_0 rfl (lv_at hl 1 rfl) ?_
  refine lv_iconst (v := nI 0) hx hb d_X_next_1 (by decide) ?_
  refine lv_sipush (v := nI 2000) hx hb d_X_next_2 (by decide) ?_
  refine x_pS (As := [.int v, .int (nI 0), .int (nI 2000)]) (rest := []) B.1 (c_X_in l v (nI 0) (nI 2000)) (xw_X_in (by decide)) tw_59 tw_60 (⟨fun _ _ _ _ q => q, fun _ _ _ => ⟨rfl, trivial⟩⟩) hl.1 (by decide) hS rfl d_X_next_5 ?_
  refine x_calS (As := [.int (in3 v (nI 0) (nI 2000))]) (rest := []) B.1 (c_X_right l hfl (in3 v (nI 0) (nI 2000)) _) (xw_X_right (by decide)) tw_62 tw_63 (preR hTS hS hA) hl.1 (by decide) hS (fun q h => hA q (Nat.le_trans hS.1 h)) rfl d_X_next_8 (fun rv t H1 locs1 hN => ?_) (fun rx t H1 locs1 hN => ?_)
  · obtain ⟨e1, hal, ⟨st, h0, hq⟩, hz1, hk1, hS, -⟩ := hN
    rcases hq with ⟨hin, hv0, hh⟩ | ⟨-, x0, hv0, -⟩
    · cases hv0
      have hH := e1.symm.trans (hh.trans h0)
      subst hH
      refine W.eq (g2 := F0 m 11 ls []) rfl ?_
      obtain ⟨n, rfl, hn0, hn⟩ := in3_nI (by decide) (by decide) hin
      refine lv_aload_n hx hb d_X_next_11 rfl (lv_at hl 0 rfl) ?_
      have hFc := va_free (wc := wX g ad (nF wo) (nF N) kn fw pp) hD hS hA [0, 1, 2, 3, 4] rfl
      refine x_calV (C := R_X) (b := ad 0) (As := []) (rest := []) B.1 (c_X_work l g ad wo N kn fw pp _ hG hkn) (xw_X_work (by decide)) tw_39 tw_41 ts_0 (recX hK hP) (preX hP hK hD) hl.1 (by decide) hS hFc rfl d_X_next_12 (fun rv t H1 locs1 hN => ?_) (fun rx t H1 locs1 hN => ?_)
      · obtain ⟨e1, hal, ⟨st, h0, hv0, fw, hkn, hP, hD1⟩, hz1, hk1, hS, -⟩ := hN
        cases hv0
        rw [e1] at hP
        have hD := hD1.weaken (fun k q _ h => hFc q.1 h)
        refine W.eq (g2 := F0 m 15 ls []) rfl ?_
        have hrow : ∀ r v, r < 4 → v ≤ 2000 → fw (r * 2001 + v) = nI (nt_rw wo N (r + 1) v) := by
          rcases hkn with h | ⟨-, h⟩
          · exact absurd h (by decide)
          · exact h
        refine lv_iload_n hx hb d_X_next_15 rfl (lv_at hl 1 rfl) ?_
        refine lv_istore_n (lv' := [(2, .int (nI n)), (0, .ref (ad 0)), (1, .int (nI n))]) hx hb d_X_next_16 rfl hl (by decide) rfl (fun ls hl => ?_)
        have hl := lv_sub (l' := [(0, .ref (ad 0)), (1, .int (nI n)), (2, .int (nI n))]) hl [1, 2, 0] rfl
        refine nx_X B hK hrow hP (fun k ls h1 h2 h3 h4 hl => ?_) 2002 n ls (by omega) (by omega) (by omega) (fun j h3 h4 => by omega) hl
        refine lv_iload_n hx hb d_X_next_45 rfl (lv_at hl 2 rfl) ?_
        refine lv_sipush (v := nI 2000) hx hb d_X_next_46 (by decide) ?_
        refine n_igt hx hb d_X_next_49 rfl (by omega) (by omega) (fun h => ?_) (fun h => ?_)
        · refine lv_iconst (v := -1) hx hb d_X_next_56 (by decide) ?_
          exact x_iret B hS (by decide) (by decide) (fun t ht hW => ⟨1, fw, pp, hkn, by rw [ht]; exact hP, hD, Or.inr (Or.inr ⟨_, rfl, n, hn, rfl, Or.inr ⟨fun j h5 h6 => h3 j h5 (by omega), rfl⟩⟩)⟩) d_X_next_57
        · refine lv_iload_n hx hb d_X_next_52 rfl (lv_at hl 2 rfl) ?_
          refine lv_goto hx hb d_X_next_53 rfl ?_
          exact x_iret B hS (by decide) (by decide) (fun t ht hW => ⟨1, fw, pp, hkn, by rw [ht]; exact hP, hD, Or.inr (Or.inr ⟨_, rfl, n, hn, rfl, Or.inl ⟨k, h1, h, h4 h, h3, rfl⟩⟩)⟩) d_X_next_57
      · obtain ⟨-, -, ⟨st, h0, hv0, -⟩, -⟩ := hN
        cases hv0
    · cases hv0
  · obtain ⟨e1, hal, ⟨st, h0, hq⟩, hz1, hk1, hS, -⟩ := hN
    rcases hq with ⟨-, hv0, -⟩ | ⟨hin, x0, hv0, hth, hz2, hk2⟩
    · cases hv0
    · cases hv0
      rw [h0, e1] at hk2
      have hP := keptP hP hk2
      refine x_leave B hS (by decide) (by decide) (fun u hu hW => ⟨kn, fw, pp, hkn, by rw [hu]; exact hP, hD, Or.inl ⟨hin, _, rfl, hth.moved (by rw [hu, e1]) (hal.symm.trans hW.alike)⟩⟩)
end
section
/-! NoteMix.ways -/
theorem nt_b_y {wo N : Nat → Nat} {v a b c rest : Nat} (h1 : a ≤ N 3) (h2 : b ≤ N 2) (h3 : c ≤ N 1) (hu : nt_u wo a b c ≤ v) (hr : v - nt_u wo a b c = rest) (h5 : rest % wo 0 = 0) (h6 : rest / wo 0 ≤ N 0) (h7 : a + b + c + rest / wo 0 ≤ 40) : nt_b wo N v a b c = 1 := by
  unfold nt_b
  rw [hr, if_pos ⟨h1, h2, h3, hu, h5, h6, h7⟩]
theorem nt_b_n {wo N : Nat → Nat} {v a b c rest : Nat} (hr : v - nt_u wo a b c = rest) (h : ¬ (rest % wo 0 = 0 ∧ rest / wo 0 ≤ N 0 ∧ a + b + c + rest / wo 0 ≤ 40)) : nt_b wo N v a b c = 0 := by
  unfold nt_b
  rw [hr, if_neg (fun q => h ⟨q.2.2.2.2.1, q.2.2.2.2.2.1, q.2.2.2.2.2.2⟩)]
theorem mn_eq {q n l : Nat} : q = min (min q n) l ↔ q ≤ n ∧ q ≤ l := by
  constructor
  · intro h; omega
  · intro h; omega
section WYA
variable {p : Program} {l : Launch} {e : Env} {R : Room} {s : State} {m : MethodId} {args : Array Value} {below : List Frame} {meth : Method} {c : Code} {H : Heap} {locs : List Loc} {cells slots : Nat} {Q : State → Prop}
variable {g : Gc} {ad : Nat → Nat} {A : Nat → Prop} {ls : Array Slot}
variable {wo N : Nat → Nat} {kn : Int32} {fw pp : Nat → Int32} {v a b : Nat}
theorem wy_c (B : xk_B p s m args meth c y_X_ways b_X_ways 9 (some .int) []) (hG : nt_gd wo N) (hK : gK g s) (hR : xw_R R cells slots rm0 5) (hv : v ≤ 2000) (hP : va_P g.1 cl (wX g ad (nF wo) (nF N) kn fw pp) H) (hD : va_D A (wX g ad (nF wo) (nF N) kn fw pp)) (hS : va_S A s.heap H locs) (ha : a ≤ N 3) (hbN : b ≤ N 2) (hab : a + b ≤ 40) (h3 : a * wo 3 ≤ v) (h2 : b * wo 2 ≤ v - a * wo 3)
    (kk : ∀ (mx : Nat) (ls : Array Slot), nt_JC wo N v a b 0 mx → lv_has ls 9 [(0, .ref (ad 0)), (1, .int (nI v)), (2, .int (nI mx)), (3, .int (nI a)), (4, .int (nI (v - a * wo 3))), (5, .int (nI b))] → W p l e R s m args below meth c H locs cells slots Q (F0 m 155 ls [])) :
    ∀ (c1 mx : Nat) (ls : Array Slot), c1 ≤ min (min ((v - a * wo 3 - b * wo 2) / wo 1) (N 1)) (40 - a - b) + 1 → nt_JC wo N v a b c1 mx → lv_has ls 9 [(0, .ref (ad 0)), (1, .int (nI v)), (2, .int (nI mx)), (3, .int (nI a)), (4, .int (nI (v - a * wo 3))), (5, .int (nI b)), (6, .int (nI (v - a * wo 3 - b * wo 2))), (7, .int (dn c1))] → W p l e R s m args below meth c H locs cells slots Q (F0 m 86 ls []) := by
  obtain ⟨hg01, hg02, hg03⟩ := hG 0 (by omega)
  obtain ⟨hg11, hg12, hg13⟩ := hG 1 (by omega)
  obtain ⟨hg21, hg22, hg23⟩ := hG 2 (by omega)
  obtain ⟨hg31, hg32, hg33⟩ := hG 3 (by omega)
  obtain ⟨hx, hb, hml, hown, hts⟩ := B.1
  intro c1
  induction c1 with
  | zero =>
    intro mx ls hc hJ hl
    refine lv_iload hx hb d_X_ways_86 (lv_at hl 7 rfl) ?_
    refine n_dn hx hb d_X_ways_88 rfl (by omega) (fun h => ?_) (fun k h9 => ?_)
    · have hl := lv_sub (l' := [(0, .ref (ad 0)), (1, .int (nI v)), (2, .int (nI mx)), (3, .int (nI a)), (4, .int (nI (v - a * wo 3))), (5, .int (nI b))]) hl [0, 1, 2, 3, 4, 5] rfl
      exact kk mx ls hJ hl
    · omega
  | succ k ih =>
    intro mx ls hc hJ hl
    have hmx := nt_JC_le hJ
    refine lv_iload hx hb d_X_ways_86 (lv_at hl 7 rfl) ?_
    refine n_dn hx hb d_X_ways_88 rfl (by omega) (fun h => ?_) (fun k9 h9 => ?_)
    · omega
    · have e : k = k9 := by omega
      subst e
      rw [dn_s] at hl
      have hkd : k ≤ (v - a * wo 3 - b * wo 2) / wo 1 := by generalize (v - a * wo 3 - b * wo 2) / wo 1 = q at hc; omega
      have hkN : k ≤ N 1 := by generalize (v - a * wo 3 - b * wo 2) / wo 1 = q at hc; omega
      have hkl : a + b + k ≤ 40 := by generalize (v - a * wo 3 - b * wo 2) / wo 1 = q at hc; omega
      have h1 : k * wo 1 ≤ v - a * wo 3 - b * wo 2 := (Nat.le_div_iff_mul_le hg11).mp hkd
      have hu : v - nt_u wo a b k = v - a * wo 3 - b * wo 2 - k * wo 1 := by unfold nt_u; omega
      have hule : nt_u wo a b k ≤ v := by unfold nt_u; omega
      have hcn : k ≤ min (min ((v - a * wo 3 - b * wo 2) / wo 1) (N 1)) (40 - a - b) + 1 := by generalize (v - a * wo 3 - b * wo 2) / wo 1 = q at hc ⊢; omega
      refine lv_iload hx hb d_X_ways_91 (lv_at hl 6 rfl) ?_
      refine lv_iload hx hb d_X_ways_93 (lv_at hl 7 rfl) ?_
      refine lv_aload_n hx hb d_X_ways_95 rfl (lv_at hl 0 rfl) ?_
      refine gX_worth B.1 hK hP rfl d_X_ways_96 ?_
      refine lv_iconst (v := nI 1) hx hb d_X_ways_99 (by decide) ?_
      refine n_iald hx hb hK hP 1 rfl (by omega) (by decide) d_X_ways_100 ?_
      refine n_mul hx hb d_X_ways_101 ?_
      refine n_sub hx hb d_X_ways_102 (by omega) ?_
      refine lv_istore (lv' := [(8, .int (nI ((v - a * wo 3 - b * wo 2) - (k * (wo 1))))), (0, .ref (ad 0)), (1, .int (nI v)), (2, .int (nI mx)), (3, .int (nI a)), (4, .int (nI (v - a * wo 3))), (5, .int (nI b)), (6, .int (nI (v - a * wo 3 - b * wo 2))), (7, .int (nI k))]) hx hb d_X_ways_103 hl (by decide) rfl (fun ls hl => ?_)
      refine lv_iload hx hb d_X_ways_105 (lv_at hl 0 rfl) ?_
      refine lv_aload_n hx hb d_X_ways_107 rfl (lv_at hl 1 rfl) ?_
      refine gX_worth B.1 hK hP rfl d_X_ways_108 ?_
      refine lv_iconst (v := nI 0) hx hb d_X_ways_111 (by decide) ?_
      refine n_iald hx hb hK hP 1 rfl (by omega) (by decide) d_X_ways_112 ?_
      have hm0 : (v - a * wo 3 - b * wo 2 - k * wo 1) % wo 0 < wo 0 := Nat.mod_lt _ hg01
      have hq0 : (v - a * wo 3 - b * wo 2 - k * wo 1) / wo 0 ≤ 2000 := Nat.le_trans (Nat.div_le_self _ _) (by omega)
      refine n_rem hx hb d_X_ways_113 (by omega) (by omega) (by omega) ?_
      refine n_ifne hx hb d_X_ways_114 rfl (by omega) (fun h5 => ?_) (fun h5 => ?_)
      · have hb0 : nt_b wo N v a b k = 0 := nt_b_n hu (fun q => by have := q.1; omega)
        refine lv_iinc (k := 8) (v := dn k) (lv' := [(7, .int (dn k)), (8, .int (nI ((v - a * wo 3 - b * wo 2) - (k * (wo 1))))), (0, .ref (ad 0)), (1, .int (nI v)), (2, .int (nI mx)), (3, .int (nI a)), (4, .int (nI (v - a * wo 3))), (5, .int (nI b)), (6, .int (nI (v - a * wo 3 - b * wo 2)))]) hx hb d_X_ways_149 hl rfl rfl (by decide) rfl (fun ls hl => ?_)
        refine lv_goto hx hb d_X_ways_152 rfl ?_
        have hl := lv_sub (l' := [(0, .ref (ad 0)), (1, .int (nI v)), (2, .int (nI mx)), (3, .int (nI a)), (4, .int (nI (v - a * wo 3))), (5, .int (nI b)), (6, .int (nI (v - a * wo 3 - b * wo 2))), (7, .int (dn k))]) hl [2, 3, 4, 5, 6, 7, 8, 0] rfl
        exact ih (mx + 0) ls hcn (nt_JC_s hb0 hJ) hl
      · refine lv_iload hx hb d_X_ways_117 (lv_at hl 0 rfl) ?_
        refine lv_aload_n hx hb d_X_ways_119 rfl (lv_at hl 1 rfl) ?_
        refine gX_worth B.1 hK hP rfl d_X_ways_120 ?_
        refine lv_iconst (v := nI 0) hx hb d_X_ways_123 (by decide) ?_
        refine n_iald hx hb hK hP 1 rfl (by omega) (by decide) d_X_ways_124 ?_
        refine n_div hx hb d_X_ways_125 (by omega) (by omega) (by omega) ?_
        refine lv_aload_n hx hb d_X_ways_126 rfl (lv_at hl 1 rfl) ?_
        refine lv_iconst (v := nI 0) hx hb d_X_ways_127 (by decide) ?_
        refine lv_bipush (v := nI 40) hx hb d_X_ways_128 (by decide) ?_
        refine lv_iload_n hx hb d_X_ways_130 rfl (lv_at hl 4 rfl) ?_
        refine n_sub hx hb d_X_ways_131 (by omega) ?_
        refine lv_iload hx hb d_X_ways_132 (lv_at hl 6 rfl) ?_
        refine n_sub hx hb d_X_ways_134 (by omega) ?_
        refine lv_iload hx hb d_X_ways_135 (lv_at hl 8 rfl) ?_
        refine n_sub hx hb d_X_ways_137 (by omega) ?_
        refine lv_iload hx hb d_X_ways_138 (lv_at hl 0 rfl) ?_
        refine x_pV (C := R_X) (b := ad 0) (As := [.int (nI 0), .int (nI (((40 - a) - b) - k)), .int (nI ((v - a * wo 3 - b * wo 2) - (k * (wo 1))))]) (rest := [.int (nI (((v - a * wo 3 - b * wo 2) - (k * (wo 1))) / (wo 0)))]) B.1 (c_X_atMost l g ad wo N kn fw pp 0 (40 - a - b - k) (v - a * wo 3 - b * wo 2 - k * wo 1) H.size hG (by omega) (by omega) (by omega)) (xw_X_atMost hR) tw_172 tw_174 ts_5 (recX hK hP) (preX hP hK hD) hl.1 (Nat.le_of_ble_eq_true rfl) hS rfl d_X_ways_140 ?_
        refine n_ine hx hb d_X_ways_143 rfl (by omega) (by omega) (fun h6 => ?_) (fun h6 => ?_)
        · have hb0 : nt_b wo N v a b k = 0 := nt_b_n hu (fun q => h6 (mn_eq.mpr ⟨q.2.1, by have := q.2.2; omega⟩))
          refine lv_iinc (k := 8) (v := dn k) (lv' := [(7, .int (dn k)), (8, .int (nI ((v - a * wo 3 - b * wo 2) - (k * (wo 1))))), (0, .ref (ad 0)), (1, .int (nI v)), (2, .int (nI mx)), (3, .int (nI a)), (4, .int (nI (v - a * wo 3))), (5, .int (nI b)), (6, .int (nI (v - a * wo 3 - b * wo 2)))]) hx hb d_X_ways_149 hl rfl rfl (by decide) rfl (fun ls hl => ?_)
          refine lv_goto hx hb d_X_ways_152 rfl ?_
          have hl := lv_sub (l' := [(0, .ref (ad 0)), (1, .int (nI v)), (2, .int (nI mx)), (3, .int (nI a)), (4, .int (nI (v - a * wo 3))), (5, .int (nI b)), (6, .int (nI (v - a * wo 3 - b * wo 2))), (7, .int (dn k))]) hl [2, 3, 4, 5, 6, 7, 8, 0] rfl
          exact ih (mx + 0) ls hcn (nt_JC_s hb0 hJ) hl
        · have hb0 : nt_b wo N v a b k = 1 := nt_b_y ha hbN hkN hule hu h5 (mn_eq.mp h6).1 (by have := (mn_eq.mp h6).2; omega)
          refine lv_iinc (k := 3) (v := nI (mx + 1)) (lv' := [(2, .int (nI (mx + 1))), (8, .int (nI ((v - a * wo 3 - b * wo 2) - (k * (wo 1))))), (0, .ref (ad 0)), (1, .int (nI v)), (3, .int (nI a)), (4, .int (nI (v - a * wo 3))), (5, .int (nI b)), (6, .int (nI (v - a * wo 3 - b * wo 2))), (7, .int (nI k))]) hx hb d_X_ways_146 hl rfl (nI_add _ 1) (by decide) rfl (fun ls hl => ?_)
          refine lv_iinc (k := 8) (v := dn k) (lv' := [(7, .int (dn k)), (2, .int (nI (mx + 1))), (8, .int (nI ((v - a * wo 3 - b * wo 2) - (k * (wo 1))))), (0, .ref (ad 0)), (1, .int (nI v)), (3, .int (nI a)), (4, .int (nI (v - a * wo 3))), (5, .int (nI b)), (6, .int (nI (v - a * wo 3 - b * wo 2)))]) hx hb d_X_ways_149 hl rfl rfl (by decide) rfl (fun ls hl => ?_)
          refine lv_goto hx hb d_X_ways_152 rfl ?_
          have hl := lv_sub (l' := [(0, .ref (ad 0)), (1, .int (nI v)), (2, .int (nI (mx + 1))), (3, .int (nI a)), (4, .int (nI (v - a * wo 3))), (5, .int (nI b)), (6, .int (nI (v - a * wo 3 - b * wo 2))), (7, .int (dn k))]) hl [3, 4, 1, 5, 6, 7, 8, 0] rfl
          exact ih (mx + 1) ls hcn (nt_JC_s hb0 hJ) hl
end WYA
section WYB
variable {p : Program} {l : Launch} {e : Env} {R : Room} {s : State} {m : MethodId} {args : Array Value} {below : List Frame} {meth : Method} {c : Code} {H : Heap} {locs : List Loc} {cells slots : Nat} {Q : State → Prop}
variable {g : Gc} {ad : Nat → Nat} {A : Nat → Prop} {ls : Array Slot}
variable {wo N : Nat → Nat} {kn : Int32} {fw pp : Nat → Int32} {v a : Nat}
theorem wy_b (B : xk_B p s m args meth c y_X_ways b_X_ways 9 (some .int) []) (hG : nt_gd wo N) (hK : gK g s) (hR : xw_R R cells slots rm0 5) (hv : v ≤ 2000) (hP : va_P g.1 cl (wX g ad (nF wo) (nF N) kn fw pp) H) (hD : va_D A (wX g ad (nF wo) (nF N) kn fw pp)) (hS : va_S A s.heap H locs) (ha : a ≤ N 3) (ha4 : a ≤ 40) (h3 : a * wo 3 ≤ v)
    (kk : ∀ (mx : Nat) (ls : Array Slot), nt_JB wo N v a 0 mx → lv_has ls 9 [(0, .ref (ad 0)), (1, .int (nI v)), (2, .int (nI mx)), (3, .int (nI a))] → W p l e R s m args below meth c H locs cells slots Q (F0 m 161 ls [])) :
    ∀ (b1 mx : Nat) (ls : Array Slot), b1 ≤ min (min ((v - a * wo 3) / wo 2) (N 2)) (40 - a) + 1 → nt_JB wo N v a b1 mx → lv_has ls 9 [(0, .ref (ad 0)), (1, .int (nI v)), (2, .int (nI mx)), (3, .int (nI a)), (4, .int (nI (v - a * wo 3))), (5, .int (dn b1))] → W p l e R s m args below meth c H locs cells slots Q (F0 m 51 ls []) := by
  obtain ⟨hg01, hg02, hg03⟩ := hG 0 (by omega)
  obtain ⟨hg11, hg12, hg13⟩ := hG 1 (by omega)
  obtain ⟨hg21, hg22, hg23⟩ := hG 2 (by omega)
  obtain ⟨hg31, hg32, hg33⟩ := hG 3 (by omega)
  obtain ⟨hx, hb, hml, hown, hts⟩ := B.1
  intro b1
  induction b1 with
  | zero =>
    intro mx ls hc hJ hl
    refine lv_iload hx hb d_X_ways_51 (lv_at hl 5 rfl) ?_
    refine n_dn hx hb d_X_ways_53 rfl (by omega) (fun h => ?_) (fun k h9 => ?_)
    · have hl := lv_sub (l' := [(0, .ref (ad 0)), (1, .int (nI v)), (2, .int (nI mx)), (3, .int (nI a))]) hl [0, 1, 2, 3] rfl
      exact kk mx ls hJ hl
    · omega
  | succ b ih =>
    intro mx ls hc hJ hl
    refine lv_iload hx hb d_X_ways_51 (lv_at hl 5 rfl) ?_
    refine n_dn hx hb d_X_ways_53 rfl (by omega) (fun h => ?_) (fun k9 h9 => ?_)
    · omega
    · have e : b = k9 := by omega
      subst e
      rw [dn_s] at hl
      have hkd : b ≤ (v - a * wo 3) / wo 2 := by generalize (v - a * wo 3) / wo 2 = q at hc; omega
      have hbN : b ≤ N 2 := by generalize (v - a * wo 3) / wo 2 = q at hc; omega
      have hab : a + b ≤ 40 := by generalize (v - a * wo 3) / wo 2 = q at hc; omega
      have h2 : b * wo 2 ≤ v - a * wo 3 := (Nat.le_div_iff_mul_le hg21).mp hkd
      have hcn : b ≤ min (min ((v - a * wo 3) / wo 2) (N 2)) (40 - a) + 1 := by generalize (v - a * wo 3) / wo 2 = q at hc ⊢; omega
      refine lv_iload hx hb d_X_ways_56 (lv_at hl 4 rfl) ?_
      refine lv_iload hx hb d_X_ways_58 (lv_at hl 5 rfl) ?_
      refine lv_aload_n hx hb d_X_ways_60 rfl (lv_at hl 0 rfl) ?_
      refine gX_worth B.1 hK hP rfl d_X_ways_61 ?_
      refine lv_iconst (v := nI 2) hx hb d_X_ways_64 (by decide) ?_
      refine n_iald hx hb hK hP 1 rfl (by omega) (by decide) d_X_ways_65 ?_
      refine n_mul hx hb d_X_ways_66 ?_
      refine n_sub hx hb d_X_ways_67 (by omega) ?_
      refine lv_istore (lv' := [(6, .int (nI ((v - a * wo 3) - (b * (wo 2))))), (0, .ref (ad 0)), (1, .int (nI v)), (2, .int (nI mx)), (3, .int (nI a)), (4, .int (nI (v - a * wo 3))), (5, .int (nI b))]) hx hb d_X_ways_68 hl (by decide) rfl (fun ls hl => ?_)
      refine lv_aload_n hx hb d_X_ways_70 rfl (lv_at hl 1 rfl) ?_
      refine lv_iconst (v := nI 1) hx hb d_X_ways_71 (by decide) ?_
      refine lv_bipush (v := nI 40) hx hb d_X_ways_72 (by decide) ?_
      refine lv_iload_n hx hb d_X_ways_74 rfl (lv_at hl 4 rfl) ?_
      refine n_sub hx hb d_X_ways_75 (by omega) ?_
      refine lv_iload hx hb d_X_ways_76 (lv_at hl 6 rfl) ?_
      refine n_sub hx hb d_X_ways_78 (by omega) ?_
      refine lv_iload hx hb d_X_ways_79 (lv_at hl 0 rfl) ?_
      refine x_pV (C := R_X) (b := ad 0) (As := [.int (nI 1), .int (nI ((40 - a) - b)), .int (nI ((v - a * wo 3) - (b * (wo 2))))]) (rest := []) B.1 (c_X_atMost l g ad wo N kn fw pp 1 (40 - a - b) (v - a * wo 3 - b * wo 2) H.size hG (by omega) (by omega) (by omega)) (xw_X_atMost hR) tw_172 tw_174 ts_5 (recX hK hP) (preX hP hK hD) hl.1 (Nat.le_of_ble_eq_true rfl) hS rfl d_X_ways_81 ?_
      refine lv_istore (lv' := [(7, .int (nI (min (min ((v - a * wo 3 - b * wo 2) / wo 1) (N 1)) (40 - a - b)))), (6, .int (nI ((v - a * wo 3) - (b * (wo 2))))), (0, .ref (ad 0)), (1, .int (nI v)), (2, .int (nI mx)), (3, .int (nI a)), (4, .int (nI (v - a * wo 3))), (5, .int (nI b))]) hx hb d_X_ways_84 hl (by decide) rfl (fun ls hl => ?_)
      have hl : lv_has ls 9 [(0, .ref (ad 0)), (1, .int (nI v)), (2, .int (nI mx)), (3, .int (nI a)), (4, .int (nI (v - a * wo 3))), (5, .int (nI b)), (6, .int (nI ((v - a * wo 3) - (b * (wo 2))))), (7, .int (dn (min (min ((v - a * wo 3 - b * wo 2) / wo 1) (N 1)) (40 - a - b) + 1)))] := by rw [dn_s]; exact lv_sub (l' := [(0, .ref (ad 0)), (1, .int (nI v)), (2, .int (nI mx)), (3, .int (nI a)), (4, .int (nI (v - a * wo 3))), (5, .int (nI b)), (6, .int (nI ((v - a * wo 3) - (b * (wo 2))))), (7, .int (nI (min (min ((v - a * wo 3 - b * wo 2) / wo 1) (N 1)) (40 - a - b))))]) hl [2, 3, 4, 5, 6, 7, 1, 0] rfl
      refine wy_c B hG hK hR hv hP hD hS ha hbN hab h3 h2 (fun mx ls hJ hl => ?_) _ mx ls (Nat.le_refl _) (nt_JB_C hg01 (by generalize (v - a * wo 3 - b * wo 2) / wo 1 = q; omega) (fun c d q => ?_) hJ) hl
      · skip
        refine lv_iinc (k := 5) (v := dn b) (lv' := [(5, .int (dn b)), (0, .ref (ad 0)), (1, .int (nI v)), (2, .int (nI mx)), (3, .int (nI a)), (4, .int (nI (v - a * wo 3)))]) hx hb d_X_ways_155 hl rfl rfl (by decide) rfl (fun ls hl => ?_)
        refine lv_goto hx hb d_X_ways_158 rfl ?_
        have hl := lv_sub (l' := [(0, .ref (ad 0)), (1, .int (nI v)), (2, .int (nI mx)), (3, .int (nI a)), (4, .int (nI (v - a * wo 3))), (5, .int (dn b))]) hl [1, 2, 3, 4, 5, 0] rfl
        exact ih mx ls hcn (nt_JC_B hJ) hl
      · obtain ⟨q1, q2, q3, q4, q5, q6⟩ := q
        have hcd : c ≤ (v - a * wo 3 - b * wo 2) / wo 1 := (Nat.le_div_iff_mul_le hg11).mpr (by omega)
        generalize (v - a * wo 3 - b * wo 2) / wo 1 = q at hcd ⊢
        omega
end WYB
section WYC
variable {p : Program} {l : Launch} {e : Env} {R : Room} {s : State} {m : MethodId} {args : Array Value} {below : List Frame} {meth : Method} {c : Code} {H : Heap} {locs : List Loc} {cells slots : Nat} {Q : State → Prop}
variable {g : Gc} {ad : Nat → Nat} {A : Nat → Prop} {ls : Array Slot}
variable {wo N : Nat → Nat} {kn : Int32} {fw pp : Nat → Int32} {v : Nat}
theorem wy_a (B : xk_B p s m args meth c y_X_ways b_X_ways 9 (some .int) []) (hG : nt_gd wo N) (hK : gK g s) (hR : xw_R R cells slots rm0 5) (hv : v ≤ 2000) (hP : va_P g.1 cl (wX g ad (nF wo) (nF N) kn fw pp) H) (hD : va_D A (wX g ad (nF wo) (nF N) kn fw pp)) (hS : va_S A s.heap H locs)
    (kk : ∀ (mx : Nat) (ls : Array Slot), nt_JA wo N v 0 mx → lv_has ls 9 [(0, .ref (ad 0)), (1, .int (nI v)), (2, .int (nI mx))] → W p l e R s m args below meth c H locs cells slots Q (F0 m 167 ls [])) :
    ∀ (a1 mx : Nat) (ls : Array Slot), a1 ≤ min (min (v / wo 3) (N 3)) 40 + 1 → nt_JA wo N v a1 mx → lv_has ls 9 [(0, .ref (ad 0)), (1, .int (nI v)), (2, .int (nI mx)), (3, .int (dn a1))] → W p l e R s m args below meth c H locs cells slots Q (F0 m 22 ls []) := by
  obtain ⟨hg01, hg02, hg03⟩ := hG 0 (by omega)
  obtain ⟨hg11, hg12, hg13⟩ := hG 1 (by omega)
  obtain ⟨hg21, hg22, hg23⟩ := hG 2 (by omega)
  obtain ⟨hg31, hg32, hg33⟩ := hG 3 (by omega)
  obtain ⟨hx, hb, hml, hown, hts⟩ := B.1
  intro a1
  induction a1 with
  | zero =>
    intro mx ls hc hJ hl
    refine lv_iload_n hx hb d_X_ways_22 rfl (lv_at hl 3 rfl) ?_
    refine n_dn hx hb d_X_ways_23 rfl (by omega) (fun h => ?_) (fun k h9 => ?_)
    · have hl := lv_sub (l' := [(0, .ref (ad 0)), (1, .int (nI v)), (2, .int (nI mx))]) hl [0, 1, 2] rfl
      exact kk mx ls hJ hl
    · omega
  | succ a ih =>
    intro mx ls hc hJ hl
    refine lv_iload_n hx hb d_X_ways_22 rfl (lv_at hl 3 rfl) ?_
    refine n_dn hx hb d_X_ways_23 rfl (by omega) (fun h => ?_) (fun k9 h9 => ?_)
    · omega
    · have e : a = k9 := by omega
      subst e
      rw [dn_s] at hl
      have hkd : a ≤ v / wo 3 := by generalize v / wo 3 = q at hc; omega
      have ha : a ≤ N 3 := by generalize v / wo 3 = q at hc; omega
      have ha4 : a ≤ 40 := by generalize v / wo 3 = q at hc; omega
      have h3 : a * wo 3 ≤ v := (Nat.le_div_iff_mul_le hg31).mp hkd
      have hcn : a ≤ min (min (v / wo 3) (N 3)) 40 + 1 := by generalize v / wo 3 = q at hc ⊢; omega
      refine lv_iload_n hx hb d_X_ways_26 rfl (lv_at hl 1 rfl) ?_
      refine lv_iload_n hx hb d_X_ways_27 rfl (lv_at hl 3 rfl) ?_
      refine lv_aload_n hx hb d_X_ways_28 rfl (lv_at hl 0 rfl) ?_
      refine gX_worth B.1 hK hP rfl d_X_ways_29 ?_
      refine lv_iconst (v := nI 3) hx hb d_X_ways_32 (by decide) ?_
      refine n_iald hx hb hK hP 1 rfl (by omega) (by decide) d_X_ways_33 ?_
      refine n_mul hx hb d_X_ways_34 ?_
      refine n_sub hx hb d_X_ways_35 (by omega) ?_
      refine lv_istore (lv' := [(4, .int (nI (v - (a * (wo 3))))), (0, .ref (ad 0)), (1, .int (nI v)), (2, .int (nI mx)), (3, .int (nI a))]) hx hb d_X_ways_36 hl (by decide) rfl (fun ls hl => ?_)
      refine lv_aload_n hx hb d_X_ways_38 rfl (lv_at hl 1 rfl) ?_
      refine lv_iconst (v := nI 2) hx hb d_X_ways_39 (by decide) ?_
      refine lv_bipush (v := nI 40) hx hb d_X_ways_40 (by decide) ?_
      refine lv_iload_n hx hb d_X_ways_42 rfl (lv_at hl 4 rfl) ?_
      refine n_sub hx hb d_X_ways_43 (by omega) ?_
      refine lv_iload hx hb d_X_ways_44 (lv_at hl 0 rfl) ?_
      refine x_pV (C := R_X) (b := ad 0) (As := [.int (nI 2), .int (nI (40 - a)), .int (nI (v - (a * (wo 3))))]) (rest := []) B.1 (c_X_atMost l g ad wo N kn fw pp 2 (40 - a) (v - a * wo 3) H.size hG (by omega) (by omega) (by omega)) (xw_X_atMost hR) tw_172 tw_174 ts_5 (recX hK hP) (preX hP hK hD) hl.1 (Nat.le_of_ble_eq_true rfl) hS rfl d_X_ways_46 ?_
      refine lv_istore (lv' := [(5, .int (nI (min (min ((v - a * wo 3) / wo 2) (N 2)) (40 - a)))), (4, .int (nI (v - (a * (wo 3))))), (0, .ref (ad 0)), (1, .int (nI v)), (2, .int (nI mx)), (3, .int (nI a))]) hx hb d_X_ways_49 hl (by decide) rfl (fun ls hl => ?_)
      have hl : lv_has ls 9 [(0, .ref (ad 0)), (1, .int (nI v)), (2, .int (nI mx)), (3, .int (nI a)), (4, .int (nI (v - (a * (wo 3))))), (5, .int (dn (min (min ((v - a * wo 3) / wo 2) (N 2)) (40 - a) + 1)))] := by rw [dn_s]; exact lv_sub (l' := [(0, .ref (ad 0)), (1, .int (nI v)), (2, .int (nI mx)), (3, .int (nI a)), (4, .int (nI (v - (a * (wo 3))))), (5, .int (nI (min (min ((v - a * wo 3) / wo 2) (N 2)) (40 - a))))]) hl [2, 3, 4, 5, 1, 0] rfl
      refine wy_b B hG hK hR hv hP hD hS ha ha4 h3 (fun mx ls hJ hl => ?_) _ mx ls (Nat.le_refl _) (nt_JA_B hg01 (by generalize (v - a * wo 3) / wo 2 = q; omega) (fun b c d q => ?_) hJ) hl
      · skip
        refine lv_iinc (k := 3) (v := dn a) (lv' := [(3, .int (dn a)), (0, .ref (ad 0)), (1, .int (nI v)), (2, .int (nI mx))]) hx hb d_X_ways_161 hl rfl rfl (by decide) rfl (fun ls hl => ?_)
        refine lv_goto hx hb d_X_ways_164 rfl ?_
        have hl := lv_sub (l' := [(0, .ref (ad 0)), (1, .int (nI v)), (2, .int (nI mx)), (3, .int (dn a))]) hl [1, 2, 3, 0] rfl
        exact ih mx ls hcn (nt_JB_A hJ) hl
      · obtain ⟨q1, q2, q3, q4, q5, q6⟩ := q
        have hcd : b ≤ (v - a * wo 3) / wo 2 := (Nat.le_div_iff_mul_le hg21).mpr (by omega)
        generalize (v - a * wo 3) / wo 2 = q at hcd ⊢
        omega
end WYC
def pY (wo N : Nat → Nat) (v r : Int32) (_ : Nat → Int32) : Prop := ∃ n, n ≤ 2000 ∧ v = nI n ∧ r = nI (nt_cnt wo N n)
theorem c_X_ways (l : Launch) (hfl : l.flags = flags0) (g : Gc) (ad : Nat → Nat) (wo N : Nat → Nat) (kn : Int32) (fw pp : Nat → Int32) (v : Int32) (sz : Nat) (hG : nt_gd wo N) (hkn : nt_kn wo N kn fw) : Ct l y_X_ways cd_X_ways rmF (0, 0) (va_Pc [.ref (ad 0), .int v] (qXt g ad (nF wo) (nF N) kn fw pp sz)) (qI g ad wo N (va_A (wX g ad (nF wo) (nF N) kn fw pp) sz) (bad v 2000) False (pY wo N v)) (va_A (wX g ad (nF wo) (nF N) kn fw pp) sz) := by
  refine Ct.ofW (by decide) ?_
  intro p e s m args below meth c B hpre
  obtain ⟨rfl, hsz, hP, hK, hD0, hTS⟩ := hpre
  subst hsz
  have hD := hD0.self (sz := s.heap.size)
  generalize hAe : va_A (wX g ad (nF wo) (nF N) kn fw pp) s.heap.size = A at hD hTS ⊢
  have hA : ∀ q : Nat, s.heap.size ≤ q → A q := fun q h => by rw [← hAe]; exact Or.inr h
  have hS : va_S A s.heap s.heap [] := va_S.rf
  have hP : va_P g.1 cl (wX g ad (nF wo) (nF N) kn fw pp) s.heap := hP
  obtain ⟨⟨hx, hb, hml, hown, hts⟩, hret, hlk, hnm, hex⟩ := id B
  have hl := lv_entry ([.ref (ad 0), .int v]) (n := 9) (Nat.le_of_ble_eq_true rfl)
  rw [lg_entry_eq]
  generalize (lg_sl ([.ref (ad 0), .int v]) ++ List.replicate (9 - (lg_sl ([.ref (ad 0), .int v])).length) Slot.unset).toArray = ls at hl ⊢
  have hl : lv_has ls 9 [(0, .ref (ad 0)), (1, .int v)] := hl
  refine lv_iload_n hx hb d_X_ways_0 rfl (lv_at hl 1 rfl) ?_
  refine lv_iconst (v := nI 0) hx hb d_X_ways_1 (by decide) ?_
  refine lv_sipush (v := nI 2000) hx hb d_X_ways_2 (by decide) ?_
  refine x_pS (As := [.int v, .int (nI 0), .int (nI 2000)]) (rest := []) B.1 (c_X_in l v (nI 0) (nI 2000)) (xw_X_in (by decide)) tw_59 tw_60 (⟨fun _ _ _ _ q => q, fun _ _ _ => ⟨rfl, trivial⟩⟩) hl.1 (Nat.le_of_ble_eq_true rfl) hS rfl d_X_ways_5 ?_
  refine x_calS (As := [.int (in3 v (nI 0) (nI 2000))]) (rest := []) B.1 (c_X_right l hfl (in3 v (nI 0) (nI 2000)) _) (xw_X_right (by decide)) tw_62 tw_63 (preR hTS hS hA) hl.1 (Nat.le_of_ble_eq_true rfl) hS (fun q h => hA q (Nat.le_trans hS.1 h)) rfl d_X_ways_8 (fun rv t H1 locs1 hN => ?_) (fun rx t H1 locs1 hN => ?_)
  · obtain ⟨e1, hal, ⟨st, h0, hq⟩, hz1, hk1, hS, -⟩ := hN
    rcases hq with ⟨hin, hv0, hh⟩ | ⟨-, x0, hv0, -⟩
    · cases hv0
      have hH := e1.symm.trans (hh.trans h0)
      subst hH
      refine W.eq (g2 := F0 m 11 ls []) rfl ?_
      obtain ⟨n, rfl, hn0, hn⟩ := in3_nI (by decide) (by decide) hin
      obtain ⟨hg01, hg02, hg03⟩ := hG 0 (by omega)
      obtain ⟨hg31, hg32, hg33⟩ := hG 3 (by omega)
      refine lv_iconst (v := nI 0) hx hb d_X_ways_11 (by decide) ?_
      refine lv_istore_n (lv' := [(2, .int (nI 0)), (0, .ref (ad 0)), (1, .int (nI n))]) hx hb d_X_ways_12 rfl hl (by decide) rfl (fun ls hl => ?_)
      refine lv_aload_n hx hb d_X_ways_13 rfl (lv_at hl 1 rfl) ?_
      refine lv_iconst (v := nI 3) hx hb d_X_ways_14 (by decide) ?_
      refine lv_bipush (v := nI 40) hx hb d_X_ways_15 (by decide) ?_
      refine lv_iload_n hx hb d_X_ways_17 rfl (lv_at hl 2 rfl) ?_
      refine x_pV (C := R_X) (b := ad 0) (As := [.int (nI 3), .int (nI 40), .int (nI n)]) (rest := []) B.1 (c_X_atMost l g ad wo N kn fw pp 3 40 n _ hG (by omega) (by omega) hn) (xw_X_atMost (by decide)) tw_172 tw_174 ts_5 (recX hK hP) (preX hP hK hD) hl.1 (Nat.le_of_ble_eq_true rfl) hS rfl d_X_ways_18 ?_
      refine lv_istore_n (lv' := [(3, .int (nI (min (min (n / wo 3) (N 3)) 40))), (2, .int (nI 0)), (0, .ref (ad 0)), (1, .int (nI n))]) hx hb d_X_ways_21 rfl hl (by decide) rfl (fun ls hl => ?_)
      have hl : lv_has ls 9 [(0, .ref (ad 0)), (1, .int (nI n)), (2, .int (nI 0)), (3, .int (dn (min (min (n / wo 3) (N 3)) 40 + 1)))] := by rw [dn_s]; exact lv_sub (l' := [(0, .ref (ad 0)), (1, .int (nI n)), (2, .int (nI 0)), (3, .int (nI (min (min (n / wo 3) (N 3)) 40)))]) hl [2, 3, 1, 0] rfl
      refine wy_a B hG hK (by decide) hn hP hD hS (fun mx ls hJ hl => ?_) _ 0 ls (Nat.le_refl _) (nt_JA_st hg01 (by generalize n / wo 3 = q; omega) (fun a b c d q => ?_)) hl
      · have hmx := nt_JA_0 hJ
        subst hmx
        refine lv_iload_n hx hb d_X_ways_167 rfl (lv_at hl 2 rfl) ?_
        exact x_iret B hS (by decide) (by decide) (fun t ht hW => ⟨kn, fw, pp, hkn, by rw [ht]; exact hP, hD, Or.inr (Or.inr ⟨_, rfl, n, hn, rfl, rfl⟩)⟩) d_X_ways_168
      · obtain ⟨q1, q2, q3, q4, q5, q6⟩ := q
        have hcd : a ≤ n / wo 3 := (Nat.le_div_iff_mul_le hg31).mpr (by omega)
        generalize n / wo 3 = q at hcd ⊢
        omega
    · cases hv0
  · obtain ⟨e1, hal, ⟨st, h0, hq⟩, hz1, hk1, hS, -⟩ := hN
    rcases hq with ⟨-, hv0, -⟩ | ⟨hin, x0, hv0, hth, hz2, hk2⟩
    · cases hv0
    · cases hv0
      rw [h0, e1] at hk2
      have hP := keptP hP hk2
      refine x_leave B hS (by decide) (by decide) (fun u hu hW => ⟨kn, fw, pp, hkn, by rw [hu]; exact hP, hD, Or.inl ⟨hin, _, rfl, hth.moved (by rw [hu, e1]) (hal.symm.trans hW.alike)⟩⟩)
end
section
/-! NoteMix: pay, load -/
section PYX
variable {p : Program} {l : Launch} {e : Env} {R : Room} {s : State} {m : MethodId} {args : Array Value} {below : List Frame} {meth : Method} {c : Code} {H : Heap} {locs : List Loc} {cells slots : Nat} {Q : State → Prop}
variable {g : Gc} {ad : Nat → Nat} {A : Nat → Prop} {ls : Array Slot}
variable {wo : Nat → Nat} {kn : Int32} {fw pp : Nat → Int32} {ch : Nat → Nat} {v jam : Nat}
theorem py_X {RES : (Nat → Nat) × Nat} (B : xk_B p s m args meth c y_X_pay b_X_pay 7 (some .int) []) (hW5 : ∀ i, i < 4 → wo i ≤ 500) (hK : gK g s) (hpp : ∀ i, i < 4 → pp i = nI (ch i))
    (kk : ∀ (Nc : Nat → Nat) (out : Nat) (H : Heap) (locs : List Loc) (ls : Array Slot), (Nc, out) = RES → va_P g.1 cl (wX g ad (nF wo) (nF Nc) kn fw pp) H → va_D A (wX g ad (nF wo) (nF Nc) kn fw pp) → va_S A s.heap H locs → lv_has ls 7 [(0, .ref (ad 0)), (3, .int (nI out))] → W p l e R s m args below meth c H locs cells slots Q (F0 m 93 ls [])) :
    ∀ (r : Nat) (Nc : Nat → Nat) (left out : Nat) (H : Heap) (locs : List Loc) (ls : Array Slot), r ≤ 4 → (∀ i, i < r → ch i ≤ Nc i) → (∀ i, i < 4 → Nc i ≤ 500) → left ≤ 40 → out + left * 500 ≤ 20000 → nt_py wo ch r Nc left out = RES → va_P g.1 cl (wX g ad (nF wo) (nF Nc) kn fw pp) H → va_D A (wX g ad (nF wo) (nF Nc) kn fw pp) → va_S A s.heap H locs → lv_has ls 7 [(0, .ref (ad 0)), (1, .int (nI v)), (2, .int (nI jam)), (3, .int (nI out)), (4, .int (nI left)), (5, .int (dn r))] → W p l e R s m args below meth c H locs cells slots Q (F0 m 24 ls []) := by
  obtain ⟨hx, hb, hml, hown, hts⟩ := B.1
  intro r
  induction r with
  | zero =>
    intro Nc left out H locs ls hr hch hN5 hle hout hres hP hD hS hl
    refine lv_iload hx hb d_X_pay_24 (lv_at hl 5 rfl) ?_
    refine n_dn hx hb d_X_pay_26 rfl (by omega) (fun h => ?_) (fun k h9 => ?_)
    · have hl := lv_sub (l' := [(0, .ref (ad 0)), (3, .int (nI out))]) hl [0, 3] rfl
      exact kk Nc out H locs ls hres hP hD hS hl
    · omega
  | succ r ih =>
    intro Nc left out H locs ls hr hch hN5 hle hout hres hP hD hS hl
    have hc1 := hch r (by omega)
    have hc2 := hN5 r (by omega)
    have hc3 := hW5 r (by omega)
    refine lv_iload hx hb d_X_pay_24 (lv_at hl 5 rfl) ?_
    refine n_dn hx hb d_X_pay_26 rfl (by omega) (fun h => ?_) (fun k9 h9 => ?_)
    · omega
    · have e : r = k9 := by omega
      subst e
      rw [dn_s] at hl
      refine lv_aload_n hx hb d_X_pay_29 rfl (lv_at hl 0 rfl) ?_
      refine gX_parts B.1 hK hP rfl d_X_pay_30 ?_
      refine lv_iload hx hb d_X_pay_33 (lv_at hl 5 rfl) ?_
      refine n_iald hx hb hK hP 4 rfl (by omega) (by decide) d_X_pay_35 ?_
      rw [hpp r (by omega)]
      refine lv_iload hx hb d_X_pay_36 (lv_at hl 4 rfl) ?_
      refine n_ige hx hb d_X_pay_38 rfl (by omega) (by omega) (fun h5 => ?_) (fun h5 => ?_)
      · have hmin : min (ch r) left = left := by omega
        have hnw : (left) * wo r ≤ (left) * 500 := Nat.mul_le_mul_left _ hc3
        refine lv_iload hx hb d_X_pay_51 (lv_at hl 4 rfl) ?_
        refine lv_istore (lv' := [(6, .int (nI left)), (0, .ref (ad 0)), (1, .int (nI v)), (2, .int (nI jam)), (3, .int (nI out)), (4, .int (nI left)), (5, .int (nI r))]) hx hb d_X_pay_53 hl (by decide) rfl (fun ls hl => ?_)
        refine lv_aload_n hx hb d_X_pay_55 rfl (lv_at hl 1 rfl) ?_
        refine gX_notes B.1 hK hP rfl d_X_pay_56 ?_
        refine lv_iload hx hb d_X_pay_59 (lv_at hl 6 rfl) ?_
        refine lv_dup2_11 hx hb d_X_pay_61 rfl rfl ?_
        refine n_iald hx hb hK hP 2 rfl (by omega) (by decide) d_X_pay_62 ?_
        refine lv_iload hx hb d_X_pay_63 (lv_at hl 0 rfl) ?_
        refine n_sub hx hb d_X_pay_65 (by omega) ?_
        refine n_iast hx hb hK hP hD hS 2 rfl (by omega) (by decide) d_X_pay_66 (fun H locs hP hD hS => ?_)
        rw [nF_up] at hP hD
        have hP : va_P g.1 cl (wX g ad (nF wo) (nF (nt_up Nc r (Nc r - (left)))) kn fw pp) H := hP
        have hD : va_D A (wX g ad (nF wo) (nF (nt_up Nc r (Nc r - (left)))) kn fw pp) := hD
        refine lv_iload hx hb d_X_pay_67 (lv_at hl 5 rfl) ?_
        refine lv_iload hx hb d_X_pay_69 (lv_at hl 0 rfl) ?_
        refine n_sub hx hb d_X_pay_71 (by omega) ?_
        refine lv_istore (lv' := [(4, .int (nI (left - left))), (6, .int (nI left)), (0, .ref (ad 0)), (1, .int (nI v)), (2, .int (nI jam)), (3, .int (nI out)), (5, .int (nI r))]) hx hb d_X_pay_72 hl (by decide) rfl (fun ls hl => ?_)
        refine lv_iload_n hx hb d_X_pay_74 rfl (lv_at hl 5 rfl) ?_
        refine lv_iload hx hb d_X_pay_75 (lv_at hl 1 rfl) ?_
        refine lv_aload_n hx hb d_X_pay_77 rfl (lv_at hl 2 rfl) ?_
        refine gX_worth B.1 hK hP rfl d_X_pay_78 ?_
        refine lv_iload hx hb d_X_pay_81 (lv_at hl 6 rfl) ?_
        refine n_iald hx hb hK hP 1 rfl (by omega) (by decide) d_X_pay_83 ?_
        refine n_mul hx hb d_X_pay_84 ?_
        refine n_add hx hb d_X_pay_85 ?_
        refine lv_istore_n (lv' := [(3, .int (nI (out + (left * (wo r))))), (4, .int (nI (left - left))), (6, .int (nI left)), (0, .ref (ad 0)), (1, .int (nI v)), (2, .int (nI jam)), (5, .int (nI r))]) hx hb d_X_pay_86 rfl hl (by decide) rfl (fun ls hl => ?_)
        refine lv_iinc (k := 6) (v := dn r) (lv' := [(5, .int (dn r)), (3, .int (nI (out + (left * (wo r))))), (4, .int (nI (left - left))), (6, .int (nI left)), (0, .ref (ad 0)), (1, .int (nI v)), (2, .int (nI jam))]) hx hb d_X_pay_87 hl rfl rfl (by decide) rfl (fun ls hl => ?_)
        refine lv_goto hx hb d_X_pay_90 rfl ?_
        have hl := lv_sub (l' := [(0, .ref (ad 0)), (1, .int (nI v)), (2, .int (nI jam)), (3, .int (nI (out + (left * (wo r))))), (4, .int (nI (left - left))), (5, .int (dn r))]) hl [4, 5, 6, 1, 2, 0] rfl
        have hres2 : nt_py wo ch r (nt_up Nc r (Nc r - min (ch r) left)) (left - min (ch r) left) (out + min (ch r) left * wo r) = RES := hres
        rw [hmin] at hres2
        refine ih _ _ _ H locs ls (by omega) (fun i hi => ?_) (fun i hi => ?_) (by omega) (by omega) hres2 hP hD hS hl
        · unfold nt_up; rw [if_neg (by omega)]; exact hch i (by omega)
        · unfold nt_up; split
          · omega
          · exact hN5 i hi
      · refine lv_aload_n hx hb d_X_pay_41 rfl (lv_at hl 0 rfl) ?_
        refine gX_parts B.1 hK hP rfl d_X_pay_42 ?_
        refine lv_iload hx hb d_X_pay_45 (lv_at hl 5 rfl) ?_
        refine n_iald hx hb hK hP 4 rfl (by omega) (by decide) d_X_pay_47 ?_
        rw [hpp r (by omega)]
        have hmin : min (ch r) left = ch r := by omega
        have hnw : (ch r) * wo r ≤ (ch r) * 500 := Nat.mul_le_mul_left _ hc3
        refine lv_goto hx hb d_X_pay_48 rfl ?_
        refine lv_istore (lv' := [(6, .int (nI (ch r))), (0, .ref (ad 0)), (1, .int (nI v)), (2, .int (nI jam)), (3, .int (nI out)), (4, .int (nI left)), (5, .int (nI r))]) hx hb d_X_pay_53 hl (by decide) rfl (fun ls hl => ?_)
        refine lv_aload_n hx hb d_X_pay_55 rfl (lv_at hl 1 rfl) ?_
        refine gX_notes B.1 hK hP rfl d_X_pay_56 ?_
        refine lv_iload hx hb d_X_pay_59 (lv_at hl 6 rfl) ?_
        refine lv_dup2_11 hx hb d_X_pay_61 rfl rfl ?_
        refine n_iald hx hb hK hP 2 rfl (by omega) (by decide) d_X_pay_62 ?_
        refine lv_iload hx hb d_X_pay_63 (lv_at hl 0 rfl) ?_
        refine n_sub hx hb d_X_pay_65 (by omega) ?_
        refine n_iast hx hb hK hP hD hS 2 rfl (by omega) (by decide) d_X_pay_66 (fun H locs hP hD hS => ?_)
        rw [nF_up] at hP hD
        have hP : va_P g.1 cl (wX g ad (nF wo) (nF (nt_up Nc r (Nc r - (ch r)))) kn fw pp) H := hP
        have hD : va_D A (wX g ad (nF wo) (nF (nt_up Nc r (Nc r - (ch r)))) kn fw pp) := hD
        refine lv_iload hx hb d_X_pay_67 (lv_at hl 5 rfl) ?_
        refine lv_iload hx hb d_X_pay_69 (lv_at hl 0 rfl) ?_
        refine n_sub hx hb d_X_pay_71 (by omega) ?_
        refine lv_istore (lv' := [(4, .int (nI (left - (ch r)))), (6, .int (nI (ch r))), (0, .ref (ad 0)), (1, .int (nI v)), (2, .int (nI jam)), (3, .int (nI out)), (5, .int (nI r))]) hx hb d_X_pay_72 hl (by decide) rfl (fun ls hl => ?_)
        refine lv_iload_n hx hb d_X_pay_74 rfl (lv_at hl 5 rfl) ?_
        refine lv_iload hx hb d_X_pay_75 (lv_at hl 1 rfl) ?_
        refine lv_aload_n hx hb d_X_pay_77 rfl (lv_at hl 2 rfl) ?_
        refine gX_worth B.1 hK hP rfl d_X_pay_78 ?_
        refine lv_iload hx hb d_X_pay_81 (lv_at hl 6 rfl) ?_
        refine n_iald hx hb hK hP 1 rfl (by omega) (by decide) d_X_pay_83 ?_
        refine n_mul hx hb d_X_pay_84 ?_
        refine n_add hx hb d_X_pay_85 ?_
        refine lv_istore_n (lv' := [(3, .int (nI (out + ((ch r) * (wo r))))), (4, .int (nI (left - (ch r)))), (6, .int (nI (ch r))), (0, .ref (ad 0)), (1, .int (nI v)), (2, .int (nI jam)), (5, .int (nI r))]) hx hb d_X_pay_86 rfl hl (by decide) rfl (fun ls hl => ?_)
        refine lv_iinc (k := 6) (v := dn r) (lv' := [(5, .int (dn r)), (3, .int (nI (out + ((ch r) * (wo r))))), (4, .int (nI (left - (ch r)))), (6, .int (nI (ch r))), (0, .ref (ad 0)), (1, .int (nI v)), (2, .int (nI jam))]) hx hb d_X_pay_87 hl rfl rfl (by decide) rfl (fun ls hl => ?_)
        refine lv_goto hx hb d_X_pay_90 rfl ?_
        have hl := lv_sub (l' := [(0, .ref (ad 0)), (1, .int (nI v)), (2, .int (nI jam)), (3, .int (nI (out + ((ch r) * (wo r))))), (4, .int (nI (left - (ch r)))), (5, .int (dn r))]) hl [4, 5, 6, 1, 2, 0] rfl
        have hres2 : nt_py wo ch r (nt_up Nc r (Nc r - min (ch r) left)) (left - min (ch r) left) (out + min (ch r) left * wo r) = RES := hres
        rw [hmin] at hres2
        refine ih _ _ _ H locs ls (by omega) (fun i hi => ?_) (fun i hi => ?_) (by omega) (by omega) hres2 hP hD hS hl
        · unfold nt_up; rw [if_neg (by omega)]; exact hch i (by omega)
        · unfold nt_up; split
          · omega
          · exact hN5 i hi
end PYX
/-- what pay comes to -/
def qP (g : Gc) (ad : Nat → Nat) (wo N : Nat → Nat) (A : Nat → Prop) (v jI : Int32) : Array Value → State → Outcome → State → Prop := fun _ _ o t => ∃ M kn fw pp, nt_kn wo M kn fw ∧ nt_gd wo M ∧ va_P g.1 cl (wX g ad (nF wo) (nF M) kn fw pp) t.heap ∧ va_D A (wX g ad (nF wo) (nF M) kn fw pp) ∧
  (((bad jI 40 ∨ (¬ bad jI 40 ∧ bad v 2000)) ∧ M = N ∧ ∃ x, o = .threw x ∧ TH IAE x t) ∨ ((¬ bad jI 40 ∧ cF wo N v) ∧ M = N ∧ ∃ x, o = .threw x ∧ TH NSE x t) ∨
    ∃ n j ch, n ≤ 2000 ∧ v = nI n ∧ j ≤ 40 ∧ jI = nI j ∧ nt_rw wo N 4 n ≤ 40 ∧ nt_bst wo N n (nt_rw wo N 4 n) ch ∧ M = (nt_py wo ch 4 N j 0).1 ∧ o = .returned (some (.int (nI (nt_py wo ch 4 N j 0).2))))
theorem c_X_pay (l : Launch) (hfl : l.flags = flags0) (g : Gc) (ad : Nat → Nat) (wo N : Nat → Nat) (kn : Int32) (fw pp : Nat → Int32) (v jI : Int32) (sz : Nat) (hG : nt_gd wo N) (hkn : nt_kn wo N kn fw) : Ct l y_X_pay cd_X_pay rmB (0, 0) (va_Pc [.ref (ad 0), .int v, .int jI] (qXt g ad (nF wo) (nF N) kn fw pp sz)) (qP g ad wo N (va_A (wX g ad (nF wo) (nF N) kn fw pp) sz) v jI) (va_A (wX g ad (nF wo) (nF N) kn fw pp) sz) := by
  refine Ct.ofW (by decide) ?_
  intro p e s m args below meth c B hpre
  obtain ⟨rfl, hsz, hP, hK, hD0, hTS⟩ := hpre
  subst hsz
  have hD := hD0.self (sz := s.heap.size)
  generalize hAe : va_A (wX g ad (nF wo) (nF N) kn fw pp) s.heap.size = A at hD hTS ⊢
  have hA : ∀ q : Nat, s.heap.size ≤ q → A q := fun q h => by rw [← hAe]; exact Or.inr h
  have hS : va_S A s.heap s.heap [] := va_S.rf
  have hP : va_P g.1 cl (wX g ad (nF wo) (nF N) kn fw pp) s.heap := hP
  obtain ⟨⟨hx, hb, hml, hown, hts⟩, hret, hlk, hnm, hex⟩ := id B
  have hl := lv_entry ([.ref (ad 0), .int v, .int jI]) (n := 7) (Nat.le_of_ble_eq_true rfl)
  rw [lg_entry_eq]
  generalize (lg_sl ([.ref (ad 0), .int v, .int jI]) ++ List.replicate (7 - (lg_sl ([.ref (ad 0), .int v, .int jI])).length) Slot.unset).toArray = ls at hl ⊢
  have hl : lv_has ls 7 [(0, .ref (ad 0)), (1, .int v), (2, .int jI)] := hl
  refine lv_iload_n hx hb d_X_pay_0 rfl (lv_at hl 2 rfl) ?_
  refine lv_iconst (v := nI 0) hx hb d_X_pay_1 (by decide) ?_
  refine lv_bipush (v := nI 40) hx hb d_X_pay_2 (by decide) ?_
  refine x_pS (As := [.int jI, .int (nI 0), .int (nI 40)]) (rest := []) B.1 (c_X_in l jI (nI 0) (nI 40)) (xw_X_in (by decide)) tw_59 tw_60 (⟨fun _ _ _ _ q => q, fun _ _ _ => ⟨rfl, trivial⟩⟩) hl.1 (Nat.le_of_ble_eq_true rfl) hS rfl d_X_pay_4 ?_
  refine x_calS (As := [.int (in3 jI (nI 0) (nI 40))]) (rest := []) B.1 (c_X_right l hfl (in3 jI (nI 0) (nI 40)) _) (xw_X_right (by decide)) tw_62 tw_63 (preR hTS hS hA) hl.1 (Nat.le_of_ble_eq_true rfl) hS (fun q h => hA q (Nat.le_trans hS.1 h)) rfl d_X_pay_7 (fun rv t H1 locs1 hN => ?_) (fun rx t H1 locs1 hN => ?_)
  · obtain ⟨e1, hal, ⟨st, h0, hq⟩, hz1, hk1, hS, -⟩ := hN
    rcases hq with ⟨hin, hv0, hh⟩ | ⟨-, x0, hv0, -⟩
    · cases hv0
      have hH := e1.symm.trans (hh.trans h0)
      subst hH
      refine W.eq (g2 := F0 m 10 ls []) rfl ?_
      refine lv_aload_n hx hb d_X_pay_10 rfl (lv_at hl 0 rfl) ?_
      refine lv_iload_n hx hb d_X_pay_11 rfl (lv_at hl 1 rfl) ?_
      have hFc := va_free (wc := wX g ad (nF wo) (nF N) kn fw pp) hD hS hA [0, 1, 2, 3, 4] rfl
      refine x_calV (C := R_X) (b := ad 0) (As := [.int v]) (rest := []) B.1 (c_X_found l hfl g ad wo N kn fw pp v _ hG hkn) (xw_X_found (by decide)) tw_135 tw_137 ts_3 (recX hK hP) (preXt hP hK hD hTS hS hFc) hl.1 (Nat.le_of_ble_eq_true rfl) hS hFc rfl d_X_pay_12 (fun rv t H1 locs1 hN => ?_) (fun rx t H1 locs1 hN => ?_)
      · obtain ⟨e1, hal, ⟨st, h0, kn, fw, pp, hkn, hP, hD1, hcase⟩, hz1, hk1, hS, -⟩ := hN
        rw [e1] at hP
        have hD := hD1.weaken (fun k q _ h => hFc q.1 h)
        rcases hcase with ⟨-, x, hv0, -⟩ | ⟨-, x, hv0, -⟩ | ⟨r, hv0, hpost⟩
        · cases hv0
        · cases hv0
        · cases hv0
          refine W.eq (g2 := F0 m 15 ls [.int r]) rfl ?_
          obtain ⟨j, rfl, hj0, hj⟩ := in3_nI (by decide) (by decide) hin
          obtain ⟨n, hn, rfl, h40, -, ch, hbst, hpp⟩ := hpost
          obtain ⟨⟨k1, k2, k3, k4, k5, -⟩, -⟩ := hbst.2.2 h40
          have hch : ∀ i, i < 4 → ch i ≤ N i := fun i hi => by
            rcases (show i = 0 ∨ i = 1 ∨ i = 2 ∨ i = 3 by omega) with rfl | rfl | rfl | rfl <;> assumption
          refine lv_pop hx hb d_X_pay_15 rfl ?_
          refine lv_iconst (v := nI 0) hx hb d_X_pay_16 (by decide) ?_
          refine lv_istore_n (lv' := [(3, .int (nI 0)), (0, .ref (ad 0)), (1, .int (nI n)), (2, .int (nI j))]) hx hb d_X_pay_17 rfl hl (by decide) rfl (fun ls hl => ?_)
          refine lv_iload_n hx hb d_X_pay_18 rfl (lv_at hl 3 rfl) ?_
          refine lv_istore (lv' := [(4, .int (nI j)), (3, .int (nI 0)), (0, .ref (ad 0)), (1, .int (nI n)), (2, .int (nI j))]) hx hb d_X_pay_19 hl (by decide) rfl (fun ls hl => ?_)
          refine lv_iconst (v := nI 3) hx hb d_X_pay_21 (by decide) ?_
          refine lv_istore (lv' := [(5, .int (nI 3)), (4, .int (nI j)), (3, .int (nI 0)), (0, .ref (ad 0)), (1, .int (nI n)), (2, .int (nI j))]) hx hb d_X_pay_22 hl (by decide) rfl (fun ls hl => ?_)
          have hl : lv_has ls 7 [(0, .ref (ad 0)), (1, .int (nI n)), (2, .int (nI j)), (3, .int (nI 0)), (4, .int (nI j)), (5, .int (dn (3 + 1)))] := by rw [dn_s]; exact lv_sub (l' := [(0, .ref (ad 0)), (1, .int (nI n)), (2, .int (nI j)), (3, .int (nI 0)), (4, .int (nI j)), (5, .int (nI 3))]) hl [3, 4, 5, 2, 1, 0] rfl
          refine py_X (RES := nt_py wo ch 4 N j 0) B (fun i hi => (hG i hi).2.1) hK hpp (fun Nc out H locs ls hres hP hD hS hl => ?_) 4 N j 0 _ _ ls (by omega) hch (fun i hi => (hG i hi).2.2) hj (by omega) rfl hP hD hS hl
          refine lv_aload_n hx hb d_X_pay_93 rfl (lv_at hl 0 rfl) ?_
          refine lv_iconst (v := nI 0) hx hb d_X_pay_94 (by decide) ?_
          refine pX_known B.1 hK (z := nI 0) (by decide) (by decide) hP hD hS d_X_pay_95 (fun H locs hP hD hS => ?_)
          have hP : va_P g.1 cl (wX g ad (nF wo) (nF Nc) (nI 0) fw pp) H := hP
          have hD : va_D A (wX g ad (nF wo) (nF Nc) (nI 0) fw pp) := hD
          refine lv_iload_n hx hb d_X_pay_98 rfl (lv_at hl 1 rfl) ?_
          have e1 : Nc = (nt_py wo ch 4 N j 0).1 := by rw [← hres]
          have e2 : out = (nt_py wo ch 4 N j 0).2 := by rw [← hres]
          refine x_iret B hS (by decide) (by decide) (fun t ht hW => ⟨Nc, nI 0, fw, pp, Or.inl rfl, fun i hi => ⟨(hG i hi).1, (hG i hi).2.1, ?_⟩, by rw [ht]; exact hP, hD, Or.inr (Or.inr ⟨n, j, ch, hn, rfl, hj, rfl, h40, hbst, e1, by rw [← e2]⟩)⟩) d_X_pay_99
          rw [e1]; exact Nat.le_trans (nt_py_le 4 N j 0 i) (hG i hi).2.2
      · obtain ⟨e1, hal, ⟨st, h0, kn, fw, pp, hkn, hP, hD1, hcase⟩, hz1, hk1, hS, -⟩ := hN
        rw [e1] at hP
        have hD := hD1.weaken (fun k q _ h => hFc q.1 h)
        rcases hcase with ⟨hc1, x, hv0, hth⟩ | ⟨hc2, x, hv0, hth⟩ | ⟨r, hv0, -⟩
        · cases hv0
          exact x_leave B hS (by decide) (by decide) (fun u hu hW => ⟨N, kn, fw, pp, hkn, hG, by rw [hu]; exact hP, hD, Or.inl ⟨Or.inr ⟨hin, hc1⟩, rfl, _, rfl, hth.moved (by rw [hu, e1]) (hal.symm.trans hW.alike)⟩⟩)
        · cases hv0
          exact x_leave B hS (by decide) (by decide) (fun u hu hW => ⟨N, kn, fw, pp, hkn, hG, by rw [hu]; exact hP, hD, Or.inr (Or.inl ⟨⟨hin, hc2⟩, rfl, _, rfl, hth.moved (by rw [hu, e1]) (hal.symm.trans hW.alike)⟩)⟩)
        · cases hv0
    · cases hv0
  · obtain ⟨e1, hal, ⟨st, h0, hq⟩, hz1, hk1, hS, -⟩ := hN
    rcases hq with ⟨-, hv0, -⟩ | ⟨hin, x0, hv0, hth, hz2, hk2⟩
    · cases hv0
    · cases hv0
      rw [h0, e1] at hk2
      have hP := keptP hP hk2
      refine x_leave B hS (by decide) (by decide) (fun u hu hW => ⟨N, kn, fw, pp, hkn, hG, by rw [hu]; exact hP, hD, Or.inl ⟨Or.inl hin, rfl, _, rfl, hth.moved (by rw [hu, e1]) (hal.symm.trans hW.alike)⟩⟩)
/-- what load asks -/
def okL (cI wI mI : Int32) : Prop := in3 cI (nI 0) (nI 3) ≠ 0 ∧ in3 wI (nI 1) (nI 500) ≠ 0 ∧ in3 mI (nI 0) (nI 500) ≠ 0
/-- what load does to the cassettes -/
def ldR (wo N V M : Nat → Nat) (cI wI mI : Int32) : Prop := ∃ k a b, k < 4 ∧ cI = nI k ∧ 1 ≤ a ∧ a ≤ 500 ∧ wI = nI a ∧ b ≤ 500 ∧ mI = nI b ∧ V = nt_up wo k a ∧ M = nt_up N k b
theorem ldR.gd {wo N V M : Nat → Nat} {cI wI mI : Int32} (h : ldR wo N V M cI wI mI) (hG : nt_gd wo N) : nt_gd V M := by
  obtain ⟨k, a, b, h1, -, h2, h3, -, h4, -, rfl, rfl⟩ := h
  intro i hi
  obtain ⟨g1, g2, g3⟩ := hG i hi
  unfold nt_up
  split
  · exact ⟨h2, h3, h4⟩
  · exact ⟨g1, g2, g3⟩
def qL (g : Gc) (ad : Nat → Nat) (wo N : Nat → Nat) (A : Nat → Prop) (cI wI mI : Int32) : Array Value → State → Outcome → State → Prop := fun _ _ o t => ∃ V M kn fw pp, nt_kn V M kn fw ∧ va_P g.1 cl (wX g ad (nF V) (nF M) kn fw pp) t.heap ∧ va_D A (wX g ad (nF V) (nF M) kn fw pp) ∧
  ((¬ okL cI wI mI ∧ V = wo ∧ M = N ∧ ∃ x, o = .threw x ∧ TH IAE x t) ∨ (okL cI wI mI ∧ ldR wo N V M cI wI mI ∧ o = .returned none))
theorem c_X_load (l : Launch) (hfl : l.flags = flags0) (g : Gc) (ad : Nat → Nat) (wo N : Nat → Nat) (kn : Int32) (fw pp : Nat → Int32) (cI wI mI : Int32) (sz : Nat) (hkn : nt_kn wo N kn fw) : Ct l y_X_load cd_X_load rmF (0, 0) (va_Pc [.ref (ad 0), .int cI, .int wI, .int mI] (qXt g ad (nF wo) (nF N) kn fw pp sz)) (qL g ad wo N (va_A (wX g ad (nF wo) (nF N) kn fw pp) sz) cI wI mI) (va_A (wX g ad (nF wo) (nF N) kn fw pp) sz) := by
  refine Ct.ofW (by decide) ?_
  intro p e s m args below meth c B hpre
  obtain ⟨rfl, hsz, hP, hK, hD0, hTS⟩ := hpre
  subst hsz
  have hD := hD0.self (sz := s.heap.size)
  generalize hAe : va_A (wX g ad (nF wo) (nF N) kn fw pp) s.heap.size = A at hD hTS ⊢
  have hA : ∀ q : Nat, s.heap.size ≤ q → A q := fun q h => by rw [← hAe]; exact Or.inr h
  have hS : va_S A s.heap s.heap [] := va_S.rf
  have hP : va_P g.1 cl (wX g ad (nF wo) (nF N) kn fw pp) s.heap := hP
  obtain ⟨⟨hx, hb, hml, hown, hts⟩, hret, hlk, hnm, hex⟩ := id B
  have hl := lv_entry ([.ref (ad 0), .int cI, .int wI, .int mI]) (n := 4) (Nat.le_of_ble_eq_true rfl)
  rw [lg_entry_eq]
  generalize (lg_sl ([.ref (ad 0), .int cI, .int wI, .int mI]) ++ List.replicate (4 - (lg_sl ([.ref (ad 0), .int cI, .int wI, .int mI])).length) Slot.unset).toArray = ls at hl ⊢
  have hl : lv_has ls 4 [(0, .ref (ad 0)), (1, .int cI), (2, .int wI), (3, .int mI)] := hl
  refine lv_iload_n hx hb d_X_load_0 rfl (lv_at hl 1 rfl) ?_
  refine lv_iconst (v := nI 0) hx hb d_X_load_1 (by decide) ?_
  refine lv_iconst (v := nI 3) hx hb d_X_load_2 (by decide) ?_
  refine x_pS (As := [.int cI, .int (nI 0), .int (nI 3)]) (rest := []) B.1 (c_X_in l cI (nI 0) (nI 3)) (xw_X_in (by decide)) tw_59 tw_60 (⟨fun _ _ _ _ q => q, fun _ _ _ => ⟨rfl, trivial⟩⟩) hl.1 (Nat.le_of_ble_eq_true rfl) hS rfl d_X_load_3 ?_
  refine lv_if_eq hx hb d_X_load_6 rfl (fun h1 => ?_) (fun h1 => ?_)
  · refine lv_iconst (v := nI 0) hx hb d_X_load_35 (by decide) ?_
    refine x_calS (As := [.int (nI 0)]) (rest := []) B.1 (c_X_right l hfl (nI 0) _) (xw_X_right (by decide)) tw_62 tw_63 (preR hTS hS hA) hl.1 (Nat.le_of_ble_eq_true rfl) hS (fun q h => hA q (Nat.le_trans hS.1 h)) rfl d_X_load_36 (fun rv t H1 locs1 hN => ?_) (fun rx t H1 locs1 hN => ?_)
    · obtain ⟨e1, hal, ⟨st, h0, hq⟩, hz1, hk1, hS, -⟩ := hN
      rcases hq with ⟨hin, hv0, hh⟩ | ⟨-, x0, hv0, -⟩
      · cases hv0
        have hH := e1.symm.trans (hh.trans h0)
        subst hH
        refine W.eq (g2 := F0 m 39 ls []) rfl ?_
        exact absurd rfl hin
      · cases hv0
    · obtain ⟨e1, hal, ⟨st, h0, hq⟩, hz1, hk1, hS, -⟩ := hN
      rcases hq with ⟨-, hv0, -⟩ | ⟨hin, x0, hv0, hth, hz2, hk2⟩
      · cases hv0
      · cases hv0
        rw [h0, e1] at hk2
        have hP := keptP hP hk2
        refine x_leave B hS (by decide) (by decide) (fun u hu hW => ⟨wo, N, kn, fw, pp, hkn, by rw [hu]; exact hP, hD, Or.inl ⟨fun q => q.1 h1, rfl, rfl, _, rfl, hth.moved (by rw [hu, e1]) (hal.symm.trans hW.alike)⟩⟩)
  · refine lv_iload_n hx hb d_X_load_9 rfl (lv_at hl 2 rfl) ?_
    refine lv_iconst (v := nI 1) hx hb d_X_load_10 (by decide) ?_
    refine lv_sipush (v := nI 500) hx hb d_X_load_11 (by decide) ?_
    refine x_pS (As := [.int wI, .int (nI 1), .int (nI 500)]) (rest := []) B.1 (c_X_in l wI (nI 1) (nI 500)) (xw_X_in (by decide)) tw_59 tw_60 (⟨fun _ _ _ _ q => q, fun _ _ _ => ⟨rfl, trivial⟩⟩) hl.1 (Nat.le_of_ble_eq_true rfl) hS rfl d_X_load_14 ?_
    refine lv_if_eq hx hb d_X_load_17 rfl (fun h2 => ?_) (fun h2 => ?_)
    · refine lv_iconst (v := nI 0) hx hb d_X_load_35 (by decide) ?_
      refine x_calS (As := [.int (nI 0)]) (rest := []) B.1 (c_X_right l hfl (nI 0) _) (xw_X_right (by decide)) tw_62 tw_63 (preR hTS hS hA) hl.1 (Nat.le_of_ble_eq_true rfl) hS (fun q h => hA q (Nat.le_trans hS.1 h)) rfl d_X_load_36 (fun rv t H1 locs1 hN => ?_) (fun rx t H1 locs1 hN => ?_)
      · obtain ⟨e1, hal, ⟨st, h0, hq⟩, hz1, hk1, hS, -⟩ := hN
        rcases hq with ⟨hin, hv0, hh⟩ | ⟨-, x0, hv0, -⟩
        · cases hv0
          have hH := e1.symm.trans (hh.trans h0)
          subst hH
          refine W.eq (g2 := F0 m 39 ls []) rfl ?_
          exact absurd rfl hin
        · cases hv0
      · obtain ⟨e1, hal, ⟨st, h0, hq⟩, hz1, hk1, hS, -⟩ := hN
        rcases hq with ⟨-, hv0, -⟩ | ⟨hin, x0, hv0, hth, hz2, hk2⟩
        · cases hv0
        · cases hv0
          rw [h0, e1] at hk2
          have hP := keptP hP hk2
          refine x_leave B hS (by decide) (by decide) (fun u hu hW => ⟨wo, N, kn, fw, pp, hkn, by rw [hu]; exact hP, hD, Or.inl ⟨fun q => q.2.1 h2, rfl, rfl, _, rfl, hth.moved (by rw [hu, e1]) (hal.symm.trans hW.alike)⟩⟩)
    · refine lv_iload_n hx hb d_X_load_20 rfl (lv_at hl 3 rfl) ?_
      refine lv_iconst (v := nI 0) hx hb d_X_load_21 (by decide) ?_
      refine lv_sipush (v := nI 500) hx hb d_X_load_22 (by decide) ?_
      refine x_pS (As := [.int mI, .int (nI 0), .int (nI 500)]) (rest := []) B.1 (c_X_in l mI (nI 0) (nI 500)) (xw_X_in (by decide)) tw_59 tw_60 (⟨fun _ _ _ _ q => q, fun _ _ _ => ⟨rfl, trivial⟩⟩) hl.1 (Nat.le_of_ble_eq_true rfl) hS rfl d_X_load_25 ?_
      refine lv_if_eq hx hb d_X_load_28 rfl (fun h3 => ?_) (fun h3 => ?_)
      · refine lv_iconst (v := nI 0) hx hb d_X_load_35 (by decide) ?_
        refine x_calS (As := [.int (nI 0)]) (rest := []) B.1 (c_X_right l hfl (nI 0) _) (xw_X_right (by decide)) tw_62 tw_63 (preR hTS hS hA) hl.1 (Nat.le_of_ble_eq_true rfl) hS (fun q h => hA q (Nat.le_trans hS.1 h)) rfl d_X_load_36 (fun rv t H1 locs1 hN => ?_) (fun rx t H1 locs1 hN => ?_)
        · obtain ⟨e1, hal, ⟨st, h0, hq⟩, hz1, hk1, hS, -⟩ := hN
          rcases hq with ⟨hin, hv0, hh⟩ | ⟨-, x0, hv0, -⟩
          · cases hv0
            have hH := e1.symm.trans (hh.trans h0)
            subst hH
            refine W.eq (g2 := F0 m 39 ls []) rfl ?_
            exact absurd rfl hin
          · cases hv0
        · obtain ⟨e1, hal, ⟨st, h0, hq⟩, hz1, hk1, hS, -⟩ := hN
          rcases hq with ⟨-, hv0, -⟩ | ⟨hin, x0, hv0, hth, hz2, hk2⟩
          · cases hv0
          · cases hv0
            rw [h0, e1] at hk2
            have hP := keptP hP hk2
            refine x_leave B hS (by decide) (by decide) (fun u hu hW => ⟨wo, N, kn, fw, pp, hkn, by rw [hu]; exact hP, hD, Or.inl ⟨fun q => q.2.2 h3, rfl, rfl, _, rfl, hth.moved (by rw [hu, e1]) (hal.symm.trans hW.alike)⟩⟩)
      · refine lv_iconst (v := nI 1) hx hb d_X_load_31 (by decide) ?_
        refine lv_goto hx hb d_X_load_32 rfl ?_
        refine x_calS (As := [.int (nI 1)]) (rest := []) B.1 (c_X_right l hfl (nI 1) _) (xw_X_right (by decide)) tw_62 tw_63 (preR hTS hS hA) hl.1 (Nat.le_of_ble_eq_true rfl) hS (fun q h => hA q (Nat.le_trans hS.1 h)) rfl d_X_load_36 (fun rv t H1 locs1 hN => ?_) (fun rx t H1 locs1 hN => ?_)
        · obtain ⟨e1, hal, ⟨st, h0, hq⟩, hz1, hk1, hS, -⟩ := hN
          rcases hq with ⟨hin, hv0, hh⟩ | ⟨-, x0, hv0, -⟩
          · cases hv0
            have hH := e1.symm.trans (hh.trans h0)
            subst hH
            refine W.eq (g2 := F0 m 39 ls []) rfl ?_
            have hok : okL cI wI mI := ⟨h1, h2, h3⟩
            obtain ⟨k, rfl, hk0, hk⟩ := in3_nI (by decide) (by decide) h1
            obtain ⟨a, rfl, ha0, ha⟩ := in3_nI (by decide) (by decide) h2
            obtain ⟨b, rfl, hb0, hbb⟩ := in3_nI (by decide) (by decide) h3
            refine lv_aload_n hx hb d_X_load_39 rfl (lv_at hl 0 rfl) ?_
            refine gX_worth B.1 hK hP rfl d_X_load_40 ?_
            refine lv_iload_n hx hb d_X_load_43 rfl (lv_at hl 1 rfl) ?_
            refine lv_iload_n hx hb d_X_load_44 rfl (lv_at hl 2 rfl) ?_
            refine n_iast hx hb hK hP hD hS 1 rfl (by omega) (by decide) d_X_load_45 (fun H locs hP hD hS => ?_)
            rw [nF_up] at hP hD
            have hP : va_P g.1 cl (wX g ad (nF (nt_up wo k a)) (nF N) kn fw pp) H := hP
            have hD : va_D A (wX g ad (nF (nt_up wo k a)) (nF N) kn fw pp) := hD
            refine lv_aload_n hx hb d_X_load_46 rfl (lv_at hl 0 rfl) ?_
            refine gX_notes B.1 hK hP rfl d_X_load_47 ?_
            refine lv_iload_n hx hb d_X_load_50 rfl (lv_at hl 1 rfl) ?_
            refine lv_iload_n hx hb d_X_load_51 rfl (lv_at hl 3 rfl) ?_
            refine n_iast hx hb hK hP hD hS 2 rfl (by omega) (by decide) d_X_load_52 (fun H locs hP hD hS => ?_)
            rw [nF_up] at hP hD
            have hP : va_P g.1 cl (wX g ad (nF (nt_up wo k a)) (nF (nt_up N k b)) kn fw pp) H := hP
            have hD : va_D A (wX g ad (nF (nt_up wo k a)) (nF (nt_up N k b)) kn fw pp) := hD
            refine lv_aload_n hx hb d_X_load_53 rfl (lv_at hl 0 rfl) ?_
            refine lv_iconst (v := nI 0) hx hb d_X_load_54 (by decide) ?_
            refine pX_known B.1 hK (z := nI 0) (by decide) (by decide) hP hD hS d_X_load_55 (fun H locs hP hD hS => ?_)
            have hP : va_P g.1 cl (wX g ad (nF (nt_up wo k a)) (nF (nt_up N k b)) (nI 0) fw pp) H := hP
            have hD : va_D A (wX g ad (nF (nt_up wo k a)) (nF (nt_up N k b)) (nI 0) fw pp) := hD
            exact x_vret B hS (by decide) (by decide) (fun t ht hW => ⟨_, _, nI 0, fw, pp, Or.inl rfl, by rw [ht]; exact hP, hD, Or.inr ⟨hok, ⟨k, a, b, by omega, rfl, ha0, ha, rfl, hbb, rfl, rfl, rfl⟩, rfl⟩⟩) d_X_load_58
          · cases hv0
        · obtain ⟨-, -, ⟨st, h0, hq⟩, -⟩ := hN
          rcases hq with ⟨-, hv0, -⟩ | ⟨hin, -⟩
          · cases hv0
          · exact absurd hin (by decide)
end
section
/-! constructors -/
section NWA
variable {p : Program} {l : Launch} {e : Env} {R : Room} {s : State} {m : MethodId} {args : Array Value} {below : List Frame} {meth : Method} {c : Code} {H : Heap} {locs : List Loc} {cells slots : Nat} {Q : State → Prop}
variable {cc : ByteArray} {pc : Nat} {ls : Array Slot} {rest : List Value} {g : Gc} {ws : va_W} {A : Nat → Prop}
theorem n_newI (hexec : p.tables.exec = Jvm.exec) (hb : c.code = cc) (hts : ∀ w ∈ tb, w.before args s = true) (hK : gK g s) (hP : va_P g.1 cl ws H) (hD : va_D A ws) (hS : va_S A s.heap H locs) (hA : ∀ q : Nat, s.heap.size ≤ q → A q) {k : Nat} (hk : k ≤ 100000) (hc : cells + 1 ≤ R.cells) (hs : slots + k ≤ R.slots) (hdg : decode cc pc = .ok (.newarray .int, 2))
    (kk : ∀ (q : Nat) (H1 : Heap), va_P g.1 cl (ws ++ [(q, .inl (g.2 0, k, .inl (nF fun _ => 0)))]) H1 → va_D A (ws ++ [(q, .inl (g.2 0, k, .inl (nF fun _ => 0)))]) → va_S A s.heap H1 locs → W p l e R s m args below meth c H1 locs (cells + 1) (slots + k) Q (F0 m (pc + 2) ls (.ref q :: rest))) : W p l e R s m args below meth c H locs cells slots Q (F0 m pc ls (.int (nI k) :: rest)) := by
  refine va_newa (atype := .int) (ty := .int) hexec hb (hts _ tw_33) rfl hK hP hD hS hA (a0 := (k, .inl (nF fun _ => 0))) (fun cA => rfl) (nI_pos (by omega)) (nI_clamp (by omega)) (by show k * 4 ≤ _; omega) hc hs hdg (fun q cA H1 hK2 hP2 hD2 hS2 => ?_)
  have e : cA = g.2 0 := by
    have h1 := (hK2.2 4 _ rfl).2
    have h2 := (hK.2 0 _ rfl).2
    exact Option.some.inj (h1.symm.trans h2)
  subst e
  exact kk q H1 hP2 hD2 hS2
theorem n_newB (hexec : p.tables.exec = Jvm.exec) (hb : c.code = cc) (hts : ∀ w ∈ tb, w.before args s = true) (hK : gK g s) (hP : va_P g.1 cl ws H) (hD : va_D A ws) (hS : va_S A s.heap H locs) (hA : ∀ q : Nat, s.heap.size ≤ q → A q) {k : Nat} (hk : k ≤ 100000) (hc : cells + 1 ≤ R.cells) (hs : slots + k ≤ R.slots) (hdg : decode cc pc = .ok (.newarray .byte, 2))
    (kk : ∀ (q : Nat) (H1 : Heap), va_P g.1 cl (ws ++ [(q, .inl (g.2 1, k, .inl (nF fun _ => 0)))]) H1 → va_D A (ws ++ [(q, .inl (g.2 1, k, .inl (nF fun _ => 0)))]) → va_S A s.heap H1 locs → W p l e R s m args below meth c H1 locs (cells + 1) (slots + k) Q (F0 m (pc + 2) ls (.ref q :: rest))) : W p l e R s m args below meth c H locs cells slots Q (F0 m pc ls (.int (nI k) :: rest)) := by
  refine va_newa (atype := .byte) (ty := .byte) hexec hb (hts _ tw_34) rfl hK hP hD hS hA (a0 := (k, .inl (nF fun _ => 0))) (fun cA => rfl) (nI_pos (by omega)) (nI_clamp (by omega)) (by show k * 1 ≤ _; omega) hc hs hdg (fun q cA H1 hK2 hP2 hD2 hS2 => ?_)
  have e : cA = g.2 1 := by
    have h1 := (hK2.2 4 _ rfl).2
    have h2 := (hK.2 1 _ rfl).2
    exact Option.some.inj (h1.symm.trans h2)
  subst e
  exact kk q H1 hP2 hD2 hS2
theorem n_newZ (hexec : p.tables.exec = Jvm.exec) (hb : c.code = cc) (hts : ∀ w ∈ tb, w.before args s = true) (hK : gK g s) (hP : va_P g.1 cl ws H) (hD : va_D A ws) (hS : va_S A s.heap H locs) (hA : ∀ q : Nat, s.heap.size ≤ q → A q) {k : Nat} (hk : k ≤ 100000) (hc : cells + 1 ≤ R.cells) (hs : slots + k ≤ R.slots) (hdg : decode cc pc = .ok (.newarray .boolean, 2))
    (kk : ∀ (q : Nat) (H1 : Heap), va_P g.1 cl (ws ++ [(q, .inl (g.2 2, k, .inl (nF fun _ => 0)))]) H1 → va_D A (ws ++ [(q, .inl (g.2 2, k, .inl (nF fun _ => 0)))]) → va_S A s.heap H1 locs → W p l e R s m args below meth c H1 locs (cells + 1) (slots + k) Q (F0 m (pc + 2) ls (.ref q :: rest))) : W p l e R s m args below meth c H locs cells slots Q (F0 m pc ls (.int (nI k) :: rest)) := by
  refine va_newa (atype := .boolean) (ty := .boolean) hexec hb (hts _ tw_225) rfl hK hP hD hS hA (a0 := (k, .inl (nF fun _ => 0))) (fun cA => rfl) (nI_pos (by omega)) (nI_clamp (by omega)) (by show k * 1 ≤ _; omega) hc hs hdg (fun q cA H1 hK2 hP2 hD2 hS2 => ?_)
  have e : cA = g.2 2 := by
    have h1 := (hK2.2 4 _ rfl).2
    have h2 := (hK.2 2 _ rfl).2
    exact Option.some.inj (h1.symm.trans h2)
  subst e
  exact kk q H1 hP2 hD2 hS2
theorem n_newJ (hexec : p.tables.exec = Jvm.exec) (hb : c.code = cc) (hts : ∀ w ∈ tb, w.before args s = true) (hK : gK g s) (hP : va_P g.1 cl ws H) (hD : va_D A ws) (hS : va_S A s.heap H locs) (hA : ∀ q : Nat, s.heap.size ≤ q → A q) {k : Nat} (hk : k ≤ 100000) (hc : cells + 1 ≤ R.cells) (hs : slots + k ≤ R.slots) (hdg : decode cc pc = .ok (.newarray .long, 2))
    (kk : ∀ (q : Nat) (H1 : Heap), va_P g.1 cl (ws ++ [(q, .inl (g.2 3, k, .inr (.inl fun _ => 0)))]) H1 → va_D A (ws ++ [(q, .inl (g.2 3, k, .inr (.inl fun _ => 0)))]) → va_S A s.heap H1 locs → W p l e R s m args below meth c H1 locs (cells + 1) (slots + k) Q (F0 m (pc + 2) ls (.ref q :: rest))) : W p l e R s m args below meth c H locs cells slots Q (F0 m pc ls (.int (nI k) :: rest)) := by
  refine va_newa (atype := .long) (ty := .long) hexec hb (hts _ tw_284) rfl hK hP hD hS hA (a0 := (k, .inr (.inl fun _ => 0))) (fun cA => rfl) (nI_pos (by omega)) (nI_clamp (by omega)) (by show k * 8 ≤ _; omega) hc hs hdg (fun q cA H1 hK2 hP2 hD2 hS2 => ?_)
  have e : cA = g.2 3 := by
    have h1 := (hK2.2 4 _ rfl).2
    have h2 := (hK.2 3 _ rfl).2
    exact Option.some.inj (h1.symm.trans h2)
  subst e
  exact kk q H1 hP2 hD2 hS2
end NWA
def ad5 (a b c d e : Nat) : Nat → Nat
  | 0 => a
  | 1 => b
  | 2 => c
  | 3 => d
  | _ => e
abbrev z0 : Nat → Nat := fun _ => 0
def W0 : Nat → Nat := nt_up (nt_up (nt_up (nt_up z0 0 5) 1 10) 2 20) 3 50
def N0 : Nat → Nat := nt_up (nt_up (nt_up (nt_up z0 0 30) 1 30) 2 30) 3 30
theorem gd0 : nt_gd W0 N0 := by
  intro i hi
  rcases (show i = 0 ∨ i = 1 ∨ i = 2 ∨ i = 3 by omega) with rfl | rfl | rfl | rfl <;> decide
abbrev rmIX : Room := { frames := 1, cells := 4, slots := 8016, locals := 12 }
abbrev rmIM : Room := { frames := 1, cells := 4, slots := 2013, locals := 12 }
abbrev oX (h : Nat) : va_W := [(h, .inr (0, [.null, .null, .null, .int 0, .null]))]
abbrev oM (h : Nat) : va_W := [(h, .inr (1, [.null, .null, .null, .null, .int 0, .int 0, .int 0]))]
def qIX (g : Gc) (h : Nat) (A : Nat → Prop) : Array Value → State → Outcome → State → Prop := fun _ _ o t => o = .returned none ∧ ∃ ad, ad 0 = h ∧ va_P g.1 cl (wX g ad (nF W0) (nF N0) 0 (nF z0) (nF z0)) t.heap ∧ va_D A (wX g ad (nF W0) (nF N0) 0 (nF z0) (nF z0))
def qIM (g : Gc) (h : Nat) (A : Nat → Prop) : Array Value → State → Outcome → State → Prop := fun _ _ o t => o = .returned none ∧ ∃ ad, ad 0 = h ∧ va_P g.1 cl (wM g ad (nF W0) (nF N0) (nF z0) (nF z0) 0 0 0) t.heap ∧ va_D A (wM g ad (nF W0) (nF N0) (nF z0) (nF z0) 0 0 0)
theorem c_X_init (l : Launch) (g : Gc) (h sz : Nat) : Ct l y_X_init cd_X_init rmIX (rmIX.cells, rmIX.slots) (va_Pc [.ref h] (fun U => U.heap.size = sz ∧ va_P g.1 cl (oX h) U.heap ∧ gK g U ∧ va_D (fun _ => True) (oX h))) (qIX g h (va_A (oX h) sz)) (va_A (oX h) sz) := by
  refine Ct.ofW (by decide) ?_
  intro p e s m args below meth c B hpre
  obtain ⟨rfl, hsz, hP, hK, hD0⟩ := hpre
  subst hsz
  have hD := hD0.self (sz := s.heap.size)
  generalize hAe : va_A (oX h) s.heap.size = A at hD ⊢
  have hA : ∀ q : Nat, s.heap.size ≤ q → A q := fun q h => by rw [← hAe]; exact Or.inr h
  have hS : va_S A s.heap s.heap [] := va_S.rf
  obtain ⟨⟨hx, hb, hml, hown, hts⟩, hret, hlk, hnm, hex⟩ := id B
  have hl := lv_entry ([.ref h]) (n := 2) (Nat.le_of_ble_eq_true rfl)
  rw [lg_entry_eq]
  generalize (lg_sl ([.ref h]) ++ List.replicate (2 - (lg_sl ([.ref h])).length) Slot.unset).toArray = ls at hl ⊢
  have hl : lv_has ls 2 [(0, .ref h)] := hl
  refine lv_aload_n hx hb d_X_init_0 rfl (lv_at hl 0 rfl) ?_
  refine W.objInit hx hb hown (hts _ tw_14) (hts _ tw_15) (hts _ tw_16) rfl (by rw [hml]; exact hl.1) rfl d_X_init_1 (Nat.le_of_ble_eq_true rfl) (Nat.le_of_ble_eq_true rfl) ?_
  refine W.eq (g2 := F0 m 4 ls []) rfl ?_
  refine lv_aload_n hx hb d_X_init_4 rfl (lv_at hl 0 rfl) ?_
  refine lv_iconst (v := nI 4) hx hb d_X_init_5 (by decide) ?_
  refine n_newI hx hb hts hK hP hD hS hA (by omega) (by decide) (by decide) d_X_init_6 (fun q1 H hP hD hS => ?_)
  have hP : va_P g.1 cl [(h, .inr (0, [.null, .null, .null, .int 0, .null])), (q1, .inl (g.2 0, 4, .inl (nF z0)))] H := hP
  have hD : va_D A [(h, .inr (0, [.null, .null, .null, .int 0, .null])), (q1, .inl (g.2 0, 4, .inl (nF z0)))] := hD
  refine va_putF (D := g.1) (ci := 0) (v := .ref q1) (ty := .array .int) (C := R_X) (T := F_X) (N := 5) hx hb hts u_X t_X t_X_ok n_X hown hK hP hD hS 0 rfl rfl 0 (by decide) (hts _ tw_17) (fun _ h => h) rfl hnm rfl (t_X_ok 0 (by decide)) rfl rfl (Nat.le_of_ble_eq_true rfl) d_X_init_8 (fun H locs hP hD hS => ?_)
  have hP : va_P g.1 cl [(h, .inr (0, [.ref q1, .null, .null, .int 0, .null])), (q1, .inl (g.2 0, 4, .inl (nF z0)))] H := hP
  have hD : va_D A [(h, .inr (0, [.ref q1, .null, .null, .int 0, .null])), (q1, .inl (g.2 0, 4, .inl (nF z0)))] := hD
  refine lv_aload_n hx hb d_X_init_11 rfl (lv_at hl 0 rfl) ?_
  refine lv_iconst (v := nI 4) hx hb d_X_init_12 (by decide) ?_
  refine n_newI hx hb hts hK hP hD hS hA (by omega) (by decide) (by decide) d_X_init_13 (fun q2 H hP hD hS => ?_)
  have hP : va_P g.1 cl [(h, .inr (0, [.ref q1, .null, .null, .int 0, .null])), (q1, .inl (g.2 0, 4, .inl (nF z0))), (q2, .inl (g.2 0, 4, .inl (nF z0)))] H := hP
  have hD : va_D A [(h, .inr (0, [.ref q1, .null, .null, .int 0, .null])), (q1, .inl (g.2 0, 4, .inl (nF z0))), (q2, .inl (g.2 0, 4, .inl (nF z0)))] := hD
  refine va_putF (D := g.1) (ci := 0) (v := .ref q2) (ty := .array .int) (C := R_X) (T := F_X) (N := 5) hx hb hts u_X t_X t_X_ok n_X hown hK hP hD hS 0 rfl rfl 1 (by decide) (hts _ tw_18) (fun _ h => h) rfl hnm rfl (t_X_ok 1 (by decide)) rfl rfl (Nat.le_of_ble_eq_true rfl) d_X_init_15 (fun H locs hP hD hS => ?_)
  have hP : va_P g.1 cl [(h, .inr (0, [.ref q1, .ref q2, .null, .int 0, .null])), (q1, .inl (g.2 0, 4, .inl (nF z0))), (q2, .inl (g.2 0, 4, .inl (nF z0)))] H := hP
  have hD : va_D A [(h, .inr (0, [.ref q1, .ref q2, .null, .int 0, .null])), (q1, .inl (g.2 0, 4, .inl (nF z0))), (q2, .inl (g.2 0, 4, .inl (nF z0)))] := hD
  refine lv_aload_n hx hb d_X_init_18 rfl (lv_at hl 0 rfl) ?_
  refine lv_sipush (v := nI 8004) hx hb d_X_init_19 (by decide) ?_
  refine n_newB hx hb hts hK hP hD hS hA (by omega) (by decide) (by decide) d_X_init_22 (fun q3 H hP hD hS => ?_)
  have hP : va_P g.1 cl [(h, .inr (0, [.ref q1, .ref q2, .null, .int 0, .null])), (q1, .inl (g.2 0, 4, .inl (nF z0))), (q2, .inl (g.2 0, 4, .inl (nF z0))), (q3, .inl (g.2 1, 8004, .inl (nF z0)))] H := hP
  have hD : va_D A [(h, .inr (0, [.ref q1, .ref q2, .null, .int 0, .null])), (q1, .inl (g.2 0, 4, .inl (nF z0))), (q2, .inl (g.2 0, 4, .inl (nF z0))), (q3, .inl (g.2 1, 8004, .inl (nF z0)))] := hD
  refine va_putF (D := g.1) (ci := 0) (v := .ref q3) (ty := .array .byte) (C := R_X) (T := F_X) (N := 5) hx hb hts u_X t_X t_X_ok n_X hown hK hP hD hS 0 rfl rfl 2 (by decide) (hts _ tw_19) (fun _ h => h) rfl hnm rfl (t_X_ok 2 (by decide)) rfl rfl (Nat.le_of_ble_eq_true rfl) d_X_init_24 (fun H locs hP hD hS => ?_)
  have hP : va_P g.1 cl [(h, .inr (0, [.ref q1, .ref q2, .ref q3, .int 0, .null])), (q1, .inl (g.2 0, 4, .inl (nF z0))), (q2, .inl (g.2 0, 4, .inl (nF z0))), (q3, .inl (g.2 1, 8004, .inl (nF z0)))] H := hP
  have hD : va_D A [(h, .inr (0, [.ref q1, .ref q2, .ref q3, .int 0, .null])), (q1, .inl (g.2 0, 4, .inl (nF z0))), (q2, .inl (g.2 0, 4, .inl (nF z0))), (q3, .inl (g.2 1, 8004, .inl (nF z0)))] := hD
  refine lv_aload_n hx hb d_X_init_27 rfl (lv_at hl 0 rfl) ?_
  refine lv_iconst (v := nI 4) hx hb d_X_init_28 (by decide) ?_
  refine n_newI hx hb hts hK hP hD hS hA (by omega) (by decide) (by decide) d_X_init_29 (fun q4 H hP hD hS => ?_)
  have hP : va_P g.1 cl [(h, .inr (0, [.ref q1, .ref q2, .ref q3, .int 0, .null])), (q1, .inl (g.2 0, 4, .inl (nF z0))), (q2, .inl (g.2 0, 4, .inl (nF z0))), (q3, .inl (g.2 1, 8004, .inl (nF z0))), (q4, .inl (g.2 0, 4, .inl (nF z0)))] H := hP
  have hD : va_D A [(h, .inr (0, [.ref q1, .ref q2, .ref q3, .int 0, .null])), (q1, .inl (g.2 0, 4, .inl (nF z0))), (q2, .inl (g.2 0, 4, .inl (nF z0))), (q3, .inl (g.2 1, 8004, .inl (nF z0))), (q4, .inl (g.2 0, 4, .inl (nF z0)))] := hD
  refine va_putF (D := g.1) (ci := 0) (v := .ref q4) (ty := .array .int) (C := R_X) (T := F_X) (N := 5) hx hb hts u_X t_X t_X_ok n_X hown hK hP hD hS 0 rfl rfl 4 (by decide) (hts _ tw_21) (fun _ h => h) rfl hnm rfl (t_X_ok 4 (by decide)) rfl rfl (Nat.le_of_ble_eq_true rfl) d_X_init_31 (fun H locs hP hD hS => ?_)
  have hP : va_P g.1 cl [(h, .inr (0, [.ref q1, .ref q2, .ref q3, .int 0, .ref q4])), (q1, .inl (g.2 0, 4, .inl (nF z0))), (q2, .inl (g.2 0, 4, .inl (nF z0))), (q3, .inl (g.2 1, 8004, .inl (nF z0))), (q4, .inl (g.2 0, 4, .inl (nF z0)))] H := hP
  have hD : va_D A [(h, .inr (0, [.ref q1, .ref q2, .ref q3, .int 0, .ref q4])), (q1, .inl (g.2 0, 4, .inl (nF z0))), (q2, .inl (g.2 0, 4, .inl (nF z0))), (q3, .inl (g.2 1, 8004, .inl (nF z0))), (q4, .inl (g.2 0, 4, .inl (nF z0)))] := hD
  obtain ⟨ad, hade⟩ : ∃ ad, ad = ad5 h q1 q2 q3 q4 := ⟨_, rfl⟩
  have hP : va_P g.1 cl (wX g ad (nF z0) (nF z0) 0 (nF z0) (nF z0)) H := by rw [hade]; exact hP
  have hD : va_D A (wX g ad (nF z0) (nF z0) 0 (nF z0) (nF z0)) := by rw [hade]; exact hD
  have hl : lv_has ls 2 [(0, .ref (ad 0))] := by rw [hade]; exact hl
  refine lv_iconst (v := nI 0) hx hb d_X_init_34 (by decide) ?_
  refine lv_istore_n (lv' := [(1, .int (nI 0)), (0, .ref (ad 0))]) hx hb d_X_init_35 rfl hl (by decide) rfl (fun ls hl => ?_)
  refine lv_iload_n hx hb d_X_init_36 rfl (lv_at hl 0 rfl) ?_
  refine lv_iconst (v := nI 4) hx hb d_X_init_37 (by decide) ?_
  refine n_ige hx hb d_X_init_38 rfl (by omega) (by omega) (fun h0 => ?_) (fun h0 => ?_)
  · omega
  · refine lv_aload_n hx hb d_X_init_41 rfl (lv_at hl 1 rfl) ?_
    refine gX_notes B.1 hK hP rfl d_X_init_42 ?_
    refine lv_iload_n hx hb d_X_init_45 rfl (lv_at hl 0 rfl) ?_
    refine lv_bipush (v := nI 30) hx hb d_X_init_46 (by decide) ?_
    refine n_iast hx hb hK hP hD hS 2 rfl (by omega) (by decide) d_X_init_48 (fun H locs hP hD hS => ?_)
    rw [nF_up] at hP hD
    have hP : va_P g.1 cl (wX g ad (nF z0) (nF (nt_up (z0) (0) 30)) 0 (nF z0) (nF z0)) H := hP
    have hD : va_D A (wX g ad (nF z0) (nF (nt_up (z0) (0) 30)) 0 (nF z0) (nF z0)) := hD
    refine lv_iinc (k := 0) (v := nI (0 + 1)) (lv' := [(1, .int (nI (0 + 1))), (0, .ref (ad 0))]) hx hb d_X_init_49 hl rfl (nI_add _ 1) (by decide) rfl (fun ls hl => ?_)
    refine lv_goto hx hb d_X_init_52 rfl ?_
    refine lv_iload_n hx hb d_X_init_36 rfl (lv_at hl 0 rfl) ?_
    refine lv_iconst (v := nI 4) hx hb d_X_init_37 (by decide) ?_
    refine n_ige hx hb d_X_init_38 rfl (by omega) (by omega) (fun h1 => ?_) (fun h1 => ?_)
    · omega
    · refine lv_aload_n hx hb d_X_init_41 rfl (lv_at hl 1 rfl) ?_
      refine gX_notes B.1 hK hP rfl d_X_init_42 ?_
      refine lv_iload_n hx hb d_X_init_45 rfl (lv_at hl 0 rfl) ?_
      refine lv_bipush (v := nI 30) hx hb d_X_init_46 (by decide) ?_
      refine n_iast hx hb hK hP hD hS 2 rfl (by omega) (by decide) d_X_init_48 (fun H locs hP hD hS => ?_)
      rw [nF_up] at hP hD
      have hP : va_P g.1 cl (wX g ad (nF z0) (nF (nt_up (nt_up (z0) (0) 30) (0 + 1) 30)) 0 (nF z0) (nF z0)) H := hP
      have hD : va_D A (wX g ad (nF z0) (nF (nt_up (nt_up (z0) (0) 30) (0 + 1) 30)) 0 (nF z0) (nF z0)) := hD
      refine lv_iinc (k := 0) (v := nI ((0 + 1) + 1)) (lv' := [(1, .int (nI ((0 + 1) + 1))), (0, .ref (ad 0))]) hx hb d_X_init_49 hl rfl (nI_add _ 1) (by decide) rfl (fun ls hl => ?_)
      refine lv_goto hx hb d_X_init_52 rfl ?_
      refine lv_iload_n hx hb d_X_init_36 rfl (lv_at hl 0 rfl) ?_
      refine lv_iconst (v := nI 4) hx hb d_X_init_37 (by decide) ?_
      refine n_ige hx hb d_X_init_38 rfl (by omega) (by omega) (fun h2 => ?_) (fun h2 => ?_)
      · omega
      · refine lv_aload_n hx hb d_X_init_41 rfl (lv_at hl 1 rfl) ?_
        refine gX_notes B.1 hK hP rfl d_X_init_42 ?_
        refine lv_iload_n hx hb d_X_init_45 rfl (lv_at hl 0 rfl) ?_
        refine lv_bipush (v := nI 30) hx hb d_X_init_46 (by decide) ?_
        refine n_iast hx hb hK hP hD hS 2 rfl (by omega) (by decide) d_X_init_48 (fun H locs hP hD hS => ?_)
        rw [nF_up] at hP hD
        have hP : va_P g.1 cl (wX g ad (nF z0) (nF (nt_up (nt_up (nt_up (z0) (0) 30) (0 + 1) 30) ((0 + 1) + 1) 30)) 0 (nF z0) (nF z0)) H := hP
        have hD : va_D A (wX g ad (nF z0) (nF (nt_up (nt_up (nt_up (z0) (0) 30) (0 + 1) 30) ((0 + 1) + 1) 30)) 0 (nF z0) (nF z0)) := hD
        refine lv_iinc (k := 0) (v := nI (((0 + 1) + 1) + 1)) (lv' := [(1, .int (nI (((0 + 1) + 1) + 1))), (0, .ref (ad 0))]) hx hb d_X_init_49 hl rfl (nI_add _ 1) (by decide) rfl (fun ls hl => ?_)
        refine lv_goto hx hb d_X_init_52 rfl ?_
        refine lv_iload_n hx hb d_X_init_36 rfl (lv_at hl 0 rfl) ?_
        refine lv_iconst (v := nI 4) hx hb d_X_init_37 (by decide) ?_
        refine n_ige hx hb d_X_init_38 rfl (by omega) (by omega) (fun h3 => ?_) (fun h3 => ?_)
        · omega
        · refine lv_aload_n hx hb d_X_init_41 rfl (lv_at hl 1 rfl) ?_
          refine gX_notes B.1 hK hP rfl d_X_init_42 ?_
          refine lv_iload_n hx hb d_X_init_45 rfl (lv_at hl 0 rfl) ?_
          refine lv_bipush (v := nI 30) hx hb d_X_init_46 (by decide) ?_
          refine n_iast hx hb hK hP hD hS 2 rfl (by omega) (by decide) d_X_init_48 (fun H locs hP hD hS => ?_)
          rw [nF_up] at hP hD
          have hP : va_P g.1 cl (wX g ad (nF z0) (nF (nt_up (nt_up (nt_up (nt_up (z0) (0) 30) (0 + 1) 30) ((0 + 1) + 1) 30) (((0 + 1) + 1) + 1) 30)) 0 (nF z0) (nF z0)) H := hP
          have hD : va_D A (wX g ad (nF z0) (nF (nt_up (nt_up (nt_up (nt_up (z0) (0) 30) (0 + 1) 30) ((0 + 1) + 1) 30) (((0 + 1) + 1) + 1) 30)) 0 (nF z0) (nF z0)) := hD
          refine lv_iinc (k := 0) (v := nI ((((0 + 1) + 1) + 1) + 1)) (lv' := [(1, .int (nI ((((0 + 1) + 1) + 1) + 1))), (0, .ref (ad 0))]) hx hb d_X_init_49 hl rfl (nI_add _ 1) (by decide) rfl (fun ls hl => ?_)
          refine lv_goto hx hb d_X_init_52 rfl ?_
          refine lv_iload_n hx hb d_X_init_36 rfl (lv_at hl 0 rfl) ?_
          refine lv_iconst (v := nI 4) hx hb d_X_init_37 (by decide) ?_
          refine n_ige hx hb d_X_init_38 rfl (by omega) (by omega) (fun h4 => ?_) (fun h4 => ?_)
          · refine lv_aload_n hx hb d_X_init_55 rfl (lv_at hl 1 rfl) ?_
            refine gX_worth B.1 hK hP rfl d_X_init_56 ?_
            refine lv_iconst (v := nI 0) hx hb d_X_init_59 (by decide) ?_
            refine lv_iconst (v := nI 5) hx hb d_X_init_60 (by decide) ?_
            refine n_iast hx hb hK hP hD hS 1 rfl (by omega) (by decide) d_X_init_61 (fun H locs hP hD hS => ?_)
            rw [nF_up] at hP hD
            have hP : va_P g.1 cl (wX g ad (nF (nt_up (z0) 0 5)) (nF (nt_up (nt_up (nt_up (nt_up (z0) (0) 30) (0 + 1) 30) ((0 + 1) + 1) 30) (((0 + 1) + 1) + 1) 30)) 0 (nF z0) (nF z0)) H := hP
            have hD : va_D A (wX g ad (nF (nt_up (z0) 0 5)) (nF (nt_up (nt_up (nt_up (nt_up (z0) (0) 30) (0 + 1) 30) ((0 + 1) + 1) 30) (((0 + 1) + 1) + 1) 30)) 0 (nF z0) (nF z0)) := hD
            refine lv_aload_n hx hb d_X_init_62 rfl (lv_at hl 1 rfl) ?_
            refine gX_worth B.1 hK hP rfl d_X_init_63 ?_
            refine lv_iconst (v := nI 1) hx hb d_X_init_66 (by decide) ?_
            refine lv_bipush (v := nI 10) hx hb d_X_init_67 (by decide) ?_
            refine n_iast hx hb hK hP hD hS 1 rfl (by omega) (by decide) d_X_init_69 (fun H locs hP hD hS => ?_)
            rw [nF_up] at hP hD
            have hP : va_P g.1 cl (wX g ad (nF (nt_up (nt_up (z0) 0 5) 1 10)) (nF (nt_up (nt_up (nt_up (nt_up (z0) (0) 30) (0 + 1) 30) ((0 + 1) + 1) 30) (((0 + 1) + 1) + 1) 30)) 0 (nF z0) (nF z0)) H := hP
            have hD : va_D A (wX g ad (nF (nt_up (nt_up (z0) 0 5) 1 10)) (nF (nt_up (nt_up (nt_up (nt_up (z0) (0) 30) (0 + 1) 30) ((0 + 1) + 1) 30) (((0 + 1) + 1) + 1) 30)) 0 (nF z0) (nF z0)) := hD
            refine lv_aload_n hx hb d_X_init_70 rfl (lv_at hl 1 rfl) ?_
            refine gX_worth B.1 hK hP rfl d_X_init_71 ?_
            refine lv_iconst (v := nI 2) hx hb d_X_init_74 (by decide) ?_
            refine lv_bipush (v := nI 20) hx hb d_X_init_75 (by decide) ?_
            refine n_iast hx hb hK hP hD hS 1 rfl (by omega) (by decide) d_X_init_77 (fun H locs hP hD hS => ?_)
            rw [nF_up] at hP hD
            have hP : va_P g.1 cl (wX g ad (nF (nt_up (nt_up (nt_up (z0) 0 5) 1 10) 2 20)) (nF (nt_up (nt_up (nt_up (nt_up (z0) (0) 30) (0 + 1) 30) ((0 + 1) + 1) 30) (((0 + 1) + 1) + 1) 30)) 0 (nF z0) (nF z0)) H := hP
            have hD : va_D A (wX g ad (nF (nt_up (nt_up (nt_up (z0) 0 5) 1 10) 2 20)) (nF (nt_up (nt_up (nt_up (nt_up (z0) (0) 30) (0 + 1) 30) ((0 + 1) + 1) 30) (((0 + 1) + 1) + 1) 30)) 0 (nF z0) (nF z0)) := hD
            refine lv_aload_n hx hb d_X_init_78 rfl (lv_at hl 1 rfl) ?_
            refine gX_worth B.1 hK hP rfl d_X_init_79 ?_
            refine lv_iconst (v := nI 3) hx hb d_X_init_82 (by decide) ?_
            refine lv_bipush (v := nI 50) hx hb d_X_init_83 (by decide) ?_
            refine n_iast hx hb hK hP hD hS 1 rfl (by omega) (by decide) d_X_init_85 (fun H locs hP hD hS => ?_)
            rw [nF_up] at hP hD
            have hP : va_P g.1 cl (wX g ad (nF (nt_up (nt_up (nt_up (nt_up (z0) 0 5) 1 10) 2 20) 3 50)) (nF (nt_up (nt_up (nt_up (nt_up (z0) (0) 30) (0 + 1) 30) ((0 + 1) + 1) 30) (((0 + 1) + 1) + 1) 30)) 0 (nF z0) (nF z0)) H := hP
            have hD : va_D A (wX g ad (nF (nt_up (nt_up (nt_up (nt_up (z0) 0 5) 1 10) 2 20) 3 50)) (nF (nt_up (nt_up (nt_up (nt_up (z0) (0) 30) (0 + 1) 30) ((0 + 1) + 1) 30) (((0 + 1) + 1) + 1) 30)) 0 (nF z0) (nF z0)) := hD
            exact x_vret B hS (by decide) (by decide) (fun t ht hW => ⟨rfl, ad, by rw [hade]; rfl, by rw [ht]; exact hP, hD⟩) d_X_init_86
          · omega
theorem c_M_init (l : Launch) (g : Gc) (h sz : Nat) : Ct l y_M_init cd_M_init rmIM (rmIM.cells, rmIM.slots) (va_Pc [.ref h] (fun U => U.heap.size = sz ∧ va_P g.1 cl (oM h) U.heap ∧ gK g U ∧ va_D (fun _ => True) (oM h))) (qIM g h (va_A (oM h) sz)) (va_A (oM h) sz) := by
  refine Ct.ofW (by decide) ?_
  intro p e s m args below meth c B hpre
  obtain ⟨rfl, hsz, hP, hK, hD0⟩ := hpre
  subst hsz
  have hD := hD0.self (sz := s.heap.size)
  generalize hAe : va_A (oM h) s.heap.size = A at hD ⊢
  have hA : ∀ q : Nat, s.heap.size ≤ q → A q := fun q h => by rw [← hAe]; exact Or.inr h
  have hS : va_S A s.heap s.heap [] := va_S.rf
  obtain ⟨⟨hx, hb, hml, hown, hts⟩, hret, hlk, hnm, hex⟩ := id B
  have hl := lv_entry ([.ref h]) (n := 1) (Nat.le_of_ble_eq_true rfl)
  rw [lg_entry_eq]
  generalize (lg_sl ([.ref h]) ++ List.replicate (1 - (lg_sl ([.ref h])).length) Slot.unset).toArray = ls at hl ⊢
  have hl : lv_has ls 1 [(0, .ref h)] := hl
  refine lv_aload_n hx hb d_M_init_0 rfl (lv_at hl 0 rfl) ?_
  refine W.objInit hx hb hown (hts _ tw_202) (hts _ tw_15) (hts _ tw_16) rfl (by rw [hml]; exact hl.1) rfl d_M_init_1 (Nat.le_of_ble_eq_true rfl) (Nat.le_of_ble_eq_true rfl) ?_
  refine W.eq (g2 := F0 m 4 ls []) rfl ?_
  refine lv_aload_n hx hb d_M_init_4 rfl (lv_at hl 0 rfl) ?_
  refine lv_iconst (v := nI 4) hx hb d_M_init_5 (by decide) ?_
  refine n_newI hx hb hts hK hP hD hS hA (by omega) (by decide) (by decide) d_M_init_6 (fun q1 H hP hD hS => ?_)
  have hP : va_P g.1 cl [(h, .inr (1, [.null, .null, .null, .null, .int 0, .int 0, .int 0])), (q1, .inl (g.2 0, 4, .inl (nF z0)))] H := hP
  have hD : va_D A [(h, .inr (1, [.null, .null, .null, .null, .int 0, .int 0, .int 0])), (q1, .inl (g.2 0, 4, .inl (nF z0)))] := hD
  refine lv_dup hx hb d_M_init_8 rfl ?_
  refine lv_iconst (v := nI 0) hx hb d_M_init_9 (by decide) ?_
  refine lv_iconst (v := nI 5) hx hb d_M_init_10 (by decide) ?_
  refine n_iast hx hb hK hP hD hS 1 rfl (by omega) (by decide) d_M_init_11 (fun H locs hP hD hS => ?_)
  rw [nF_up] at hP hD
  have hP : va_P g.1 cl [(h, .inr (1, [.null, .null, .null, .null, .int 0, .int 0, .int 0])), (q1, .inl (g.2 0, 4, .inl (nF (nt_up (z0) 0 5))))] H := hP
  have hD : va_D A [(h, .inr (1, [.null, .null, .null, .null, .int 0, .int 0, .int 0])), (q1, .inl (g.2 0, 4, .inl (nF (nt_up (z0) 0 5))))] := hD
  refine lv_dup hx hb d_M_init_12 rfl ?_
  refine lv_iconst (v := nI 1) hx hb d_M_init_13 (by decide) ?_
  refine lv_bipush (v := nI 10) hx hb d_M_init_14 (by decide) ?_
  refine n_iast hx hb hK hP hD hS 1 rfl (by omega) (by decide) d_M_init_16 (fun H locs hP hD hS => ?_)
  rw [nF_up] at hP hD
  have hP : va_P g.1 cl [(h, .inr (1, [.null, .null, .null, .null, .int 0, .int 0, .int 0])), (q1, .inl (g.2 0, 4, .inl (nF (nt_up (nt_up (z0) 0 5) 1 10))))] H := hP
  have hD : va_D A [(h, .inr (1, [.null, .null, .null, .null, .int 0, .int 0, .int 0])), (q1, .inl (g.2 0, 4, .inl (nF (nt_up (nt_up (z0) 0 5) 1 10))))] := hD
  refine lv_dup hx hb d_M_init_17 rfl ?_
  refine lv_iconst (v := nI 2) hx hb d_M_init_18 (by decide) ?_
  refine lv_bipush (v := nI 20) hx hb d_M_init_19 (by decide) ?_
  refine n_iast hx hb hK hP hD hS 1 rfl (by omega) (by decide) d_M_init_21 (fun H locs hP hD hS => ?_)
  rw [nF_up] at hP hD
  have hP : va_P g.1 cl [(h, .inr (1, [.null, .null, .null, .null, .int 0, .int 0, .int 0])), (q1, .inl (g.2 0, 4, .inl (nF (nt_up (nt_up (nt_up (z0) 0 5) 1 10) 2 20))))] H := hP
  have hD : va_D A [(h, .inr (1, [.null, .null, .null, .null, .int 0, .int 0, .int 0])), (q1, .inl (g.2 0, 4, .inl (nF (nt_up (nt_up (nt_up (z0) 0 5) 1 10) 2 20))))] := hD
  refine lv_dup hx hb d_M_init_22 rfl ?_
  refine lv_iconst (v := nI 3) hx hb d_M_init_23 (by decide) ?_
  refine lv_bipush (v := nI 50) hx hb d_M_init_24 (by decide) ?_
  refine n_iast hx hb hK hP hD hS 1 rfl (by omega) (by decide) d_M_init_26 (fun H locs hP hD hS => ?_)
  rw [nF_up] at hP hD
  have hP : va_P g.1 cl [(h, .inr (1, [.null, .null, .null, .null, .int 0, .int 0, .int 0])), (q1, .inl (g.2 0, 4, .inl (nF (nt_up (nt_up (nt_up (nt_up (z0) 0 5) 1 10) 2 20) 3 50))))] H := hP
  have hD : va_D A [(h, .inr (1, [.null, .null, .null, .null, .int 0, .int 0, .int 0])), (q1, .inl (g.2 0, 4, .inl (nF (nt_up (nt_up (nt_up (nt_up (z0) 0 5) 1 10) 2 20) 3 50))))] := hD
  refine va_putF (D := g.1) (ci := 1) (v := .ref q1) (ty := .array .int) (C := R_M) (T := F_M) (N := 7) hx hb hts u_M t_M t_M_ok n_M hown hK hP hD hS 0 rfl rfl 0 (by decide) (hts _ tw_203) (fun _ h => h) rfl hnm rfl (t_M_ok 0 (by decide)) rfl rfl (Nat.le_of_ble_eq_true rfl) d_M_init_27 (fun H locs hP hD hS => ?_)
  have hP : va_P g.1 cl [(h, .inr (1, [.ref q1, .null, .null, .null, .int 0, .int 0, .int 0])), (q1, .inl (g.2 0, 4, .inl (nF (nt_up (nt_up (nt_up (nt_up (z0) 0 5) 1 10) 2 20) 3 50))))] H := hP
  have hD : va_D A [(h, .inr (1, [.ref q1, .null, .null, .null, .int 0, .int 0, .int 0])), (q1, .inl (g.2 0, 4, .inl (nF (nt_up (nt_up (nt_up (nt_up (z0) 0 5) 1 10) 2 20) 3 50))))] := hD
  refine lv_aload_n hx hb d_M_init_30 rfl (lv_at hl 0 rfl) ?_
  refine lv_iconst (v := nI 4) hx hb d_M_init_31 (by decide) ?_
  refine n_newI hx hb hts hK hP hD hS hA (by omega) (by decide) (by decide) d_M_init_32 (fun q2 H hP hD hS => ?_)
  have hP : va_P g.1 cl [(h, .inr (1, [.ref q1, .null, .null, .null, .int 0, .int 0, .int 0])), (q1, .inl (g.2 0, 4, .inl (nF (nt_up (nt_up (nt_up (nt_up (z0) 0 5) 1 10) 2 20) 3 50)))), (q2, .inl (g.2 0, 4, .inl (nF z0)))] H := hP
  have hD : va_D A [(h, .inr (1, [.ref q1, .null, .null, .null, .int 0, .int 0, .int 0])), (q1, .inl (g.2 0, 4, .inl (nF (nt_up (nt_up (nt_up (nt_up (z0) 0 5) 1 10) 2 20) 3 50)))), (q2, .inl (g.2 0, 4, .inl (nF z0)))] := hD
  refine lv_dup hx hb d_M_init_34 rfl ?_
  refine lv_iconst (v := nI 0) hx hb d_M_init_35 (by decide) ?_
  refine lv_bipush (v := nI 30) hx hb d_M_init_36 (by decide) ?_
  refine n_iast hx hb hK hP hD hS 2 rfl (by omega) (by decide) d_M_init_38 (fun H locs hP hD hS => ?_)
  rw [nF_up] at hP hD
  have hP : va_P g.1 cl [(h, .inr (1, [.ref q1, .null, .null, .null, .int 0, .int 0, .int 0])), (q1, .inl (g.2 0, 4, .inl (nF (nt_up (nt_up (nt_up (nt_up (z0) 0 5) 1 10) 2 20) 3 50)))), (q2, .inl (g.2 0, 4, .inl (nF (nt_up (z0) 0 30))))] H := hP
  have hD : va_D A [(h, .inr (1, [.ref q1, .null, .null, .null, .int 0, .int 0, .int 0])), (q1, .inl (g.2 0, 4, .inl (nF (nt_up (nt_up (nt_up (nt_up (z0) 0 5) 1 10) 2 20) 3 50)))), (q2, .inl (g.2 0, 4, .inl (nF (nt_up (z0) 0 30))))] := hD
  refine lv_dup hx hb d_M_init_39 rfl ?_
  refine lv_iconst (v := nI 1) hx hb d_M_init_40 (by decide) ?_
  refine lv_bipush (v := nI 30) hx hb d_M_init_41 (by decide) ?_
  refine n_iast hx hb hK hP hD hS 2 rfl (by omega) (by decide) d_M_init_43 (fun H locs hP hD hS => ?_)
  rw [nF_up] at hP hD
  have hP : va_P g.1 cl [(h, .inr (1, [.ref q1, .null, .null, .null, .int 0, .int 0, .int 0])), (q1, .inl (g.2 0, 4, .inl (nF (nt_up (nt_up (nt_up (nt_up (z0) 0 5) 1 10) 2 20) 3 50)))), (q2, .inl (g.2 0, 4, .inl (nF (nt_up (nt_up (z0) 0 30) 1 30))))] H := hP
  have hD : va_D A [(h, .inr (1, [.ref q1, .null, .null, .null, .int 0, .int 0, .int 0])), (q1, .inl (g.2 0, 4, .inl (nF (nt_up (nt_up (nt_up (nt_up (z0) 0 5) 1 10) 2 20) 3 50)))), (q2, .inl (g.2 0, 4, .inl (nF (nt_up (nt_up (z0) 0 30) 1 30))))] := hD
  refine lv_dup hx hb d_M_init_44 rfl ?_
  refine lv_iconst (v := nI 2) hx hb d_M_init_45 (by decide) ?_
  refine lv_bipush (v := nI 30) hx hb d_M_init_46 (by decide) ?_
  refine n_iast hx hb hK hP hD hS 2 rfl (by omega) (by decide) d_M_init_48 (fun H locs hP hD hS => ?_)
  rw [nF_up] at hP hD
  have hP : va_P g.1 cl [(h, .inr (1, [.ref q1, .null, .null, .null, .int 0, .int 0, .int 0])), (q1, .inl (g.2 0, 4, .inl (nF (nt_up (nt_up (nt_up (nt_up (z0) 0 5) 1 10) 2 20) 3 50)))), (q2, .inl (g.2 0, 4, .inl (nF (nt_up (nt_up (nt_up (z0) 0 30) 1 30) 2 30))))] H := hP
  have hD : va_D A [(h, .inr (1, [.ref q1, .null, .null, .null, .int 0, .int 0, .int 0])), (q1, .inl (g.2 0, 4, .inl (nF (nt_up (nt_up (nt_up (nt_up (z0) 0 5) 1 10) 2 20) 3 50)))), (q2, .inl (g.2 0, 4, .inl (nF (nt_up (nt_up (nt_up (z0) 0 30) 1 30) 2 30))))] := hD
  refine lv_dup hx hb d_M_init_49 rfl ?_
  refine lv_iconst (v := nI 3) hx hb d_M_init_50 (by decide) ?_
  refine lv_bipush (v := nI 30) hx hb d_M_init_51 (by decide) ?_
  refine n_iast hx hb hK hP hD hS 2 rfl (by omega) (by decide) d_M_init_53 (fun H locs hP hD hS => ?_)
  rw [nF_up] at hP hD
  have hP : va_P g.1 cl [(h, .inr (1, [.ref q1, .null, .null, .null, .int 0, .int 0, .int 0])), (q1, .inl (g.2 0, 4, .inl (nF (nt_up (nt_up (nt_up (nt_up (z0) 0 5) 1 10) 2 20) 3 50)))), (q2, .inl (g.2 0, 4, .inl (nF (nt_up (nt_up (nt_up (nt_up (z0) 0 30) 1 30) 2 30) 3 30))))] H := hP
  have hD : va_D A [(h, .inr (1, [.ref q1, .null, .null, .null, .int 0, .int 0, .int 0])), (q1, .inl (g.2 0, 4, .inl (nF (nt_up (nt_up (nt_up (nt_up (z0) 0 5) 1 10) 2 20) 3 50)))), (q2, .inl (g.2 0, 4, .inl (nF (nt_up (nt_up (nt_up (nt_up (z0) 0 30) 1 30) 2 30) 3 30))))] := hD
  refine va_putF (D := g.1) (ci := 1) (v := .ref q2) (ty := .array .int) (C := R_M) (T := F_M) (N := 7) hx hb hts u_M t_M t_M_ok n_M hown hK hP hD hS 0 rfl rfl 1 (by decide) (hts _ tw_204) (fun _ h => h) rfl hnm rfl (t_M_ok 1 (by decide)) rfl rfl (Nat.le_of_ble_eq_true rfl) d_M_init_54 (fun H locs hP hD hS => ?_)
  have hP : va_P g.1 cl [(h, .inr (1, [.ref q1, .ref q2, .null, .null, .int 0, .int 0, .int 0])), (q1, .inl (g.2 0, 4, .inl (nF (nt_up (nt_up (nt_up (nt_up (z0) 0 5) 1 10) 2 20) 3 50)))), (q2, .inl (g.2 0, 4, .inl (nF (nt_up (nt_up (nt_up (nt_up (z0) 0 30) 1 30) 2 30) 3 30))))] H := hP
  have hD : va_D A [(h, .inr (1, [.ref q1, .ref q2, .null, .null, .int 0, .int 0, .int 0])), (q1, .inl (g.2 0, 4, .inl (nF (nt_up (nt_up (nt_up (nt_up (z0) 0 5) 1 10) 2 20) 3 50)))), (q2, .inl (g.2 0, 4, .inl (nF (nt_up (nt_up (nt_up (nt_up (z0) 0 30) 1 30) 2 30) 3 30))))] := hD
  refine lv_aload_n hx hb d_M_init_57 rfl (lv_at hl 0 rfl) ?_
  refine lv_iconst (v := nI 4) hx hb d_M_init_58 (by decide) ?_
  refine n_newI hx hb hts hK hP hD hS hA (by omega) (by decide) (by decide) d_M_init_59 (fun q3 H hP hD hS => ?_)
  have hP : va_P g.1 cl [(h, .inr (1, [.ref q1, .ref q2, .null, .null, .int 0, .int 0, .int 0])), (q1, .inl (g.2 0, 4, .inl (nF (nt_up (nt_up (nt_up (nt_up (z0) 0 5) 1 10) 2 20) 3 50)))), (q2, .inl (g.2 0, 4, .inl (nF (nt_up (nt_up (nt_up (nt_up (z0) 0 30) 1 30) 2 30) 3 30)))), (q3, .inl (g.2 0, 4, .inl (nF z0)))] H := hP
  have hD : va_D A [(h, .inr (1, [.ref q1, .ref q2, .null, .null, .int 0, .int 0, .int 0])), (q1, .inl (g.2 0, 4, .inl (nF (nt_up (nt_up (nt_up (nt_up (z0) 0 5) 1 10) 2 20) 3 50)))), (q2, .inl (g.2 0, 4, .inl (nF (nt_up (nt_up (nt_up (nt_up (z0) 0 30) 1 30) 2 30) 3 30)))), (q3, .inl (g.2 0, 4, .inl (nF z0)))] := hD
  refine va_putF (D := g.1) (ci := 1) (v := .ref q3) (ty := .array .int) (C := R_M) (T := F_M) (N := 7) hx hb hts u_M t_M t_M_ok n_M hown hK hP hD hS 0 rfl rfl 2 (by decide) (hts _ tw_205) (fun _ h => h) rfl hnm rfl (t_M_ok 2 (by decide)) rfl rfl (Nat.le_of_ble_eq_true rfl) d_M_init_61 (fun H locs hP hD hS => ?_)
  have hP : va_P g.1 cl [(h, .inr (1, [.ref q1, .ref q2, .ref q3, .null, .int 0, .int 0, .int 0])), (q1, .inl (g.2 0, 4, .inl (nF (nt_up (nt_up (nt_up (nt_up (z0) 0 5) 1 10) 2 20) 3 50)))), (q2, .inl (g.2 0, 4, .inl (nF (nt_up (nt_up (nt_up (nt_up (z0) 0 30) 1 30) 2 30) 3 30)))), (q3, .inl (g.2 0, 4, .inl (nF z0)))] H := hP
  have hD : va_D A [(h, .inr (1, [.ref q1, .ref q2, .ref q3, .null, .int 0, .int 0, .int 0])), (q1, .inl (g.2 0, 4, .inl (nF (nt_up (nt_up (nt_up (nt_up (z0) 0 5) 1 10) 2 20) 3 50)))), (q2, .inl (g.2 0, 4, .inl (nF (nt_up (nt_up (nt_up (nt_up (z0) 0 30) 1 30) 2 30) 3 30)))), (q3, .inl (g.2 0, 4, .inl (nF z0)))] := hD
  refine lv_aload_n hx hb d_M_init_64 rfl (lv_at hl 0 rfl) ?_
  refine lv_sipush (v := nI 2001) hx hb d_M_init_65 (by decide) ?_
  refine n_newZ hx hb hts hK hP hD hS hA (by omega) (by decide) (by decide) d_M_init_68 (fun q4 H hP hD hS => ?_)
  have hP : va_P g.1 cl [(h, .inr (1, [.ref q1, .ref q2, .ref q3, .null, .int 0, .int 0, .int 0])), (q1, .inl (g.2 0, 4, .inl (nF (nt_up (nt_up (nt_up (nt_up (z0) 0 5) 1 10) 2 20) 3 50)))), (q2, .inl (g.2 0, 4, .inl (nF (nt_up (nt_up (nt_up (nt_up (z0) 0 30) 1 30) 2 30) 3 30)))), (q3, .inl (g.2 0, 4, .inl (nF z0))), (q4, .inl (g.2 2, 2001, .inl (nF z0)))] H := hP
  have hD : va_D A [(h, .inr (1, [.ref q1, .ref q2, .ref q3, .null, .int 0, .int 0, .int 0])), (q1, .inl (g.2 0, 4, .inl (nF (nt_up (nt_up (nt_up (nt_up (z0) 0 5) 1 10) 2 20) 3 50)))), (q2, .inl (g.2 0, 4, .inl (nF (nt_up (nt_up (nt_up (nt_up (z0) 0 30) 1 30) 2 30) 3 30)))), (q3, .inl (g.2 0, 4, .inl (nF z0))), (q4, .inl (g.2 2, 2001, .inl (nF z0)))] := hD
  refine va_putF (D := g.1) (ci := 1) (v := .ref q4) (ty := .array .boolean) (C := R_M) (T := F_M) (N := 7) hx hb hts u_M t_M t_M_ok n_M hown hK hP hD hS 0 rfl rfl 3 (by decide) (hts _ tw_206) (fun _ h => h) rfl hnm rfl (t_M_ok 3 (by decide)) rfl rfl (Nat.le_of_ble_eq_true rfl) d_M_init_70 (fun H locs hP hD hS => ?_)
  have hP : va_P g.1 cl [(h, .inr (1, [.ref q1, .ref q2, .ref q3, .ref q4, .int 0, .int 0, .int 0])), (q1, .inl (g.2 0, 4, .inl (nF (nt_up (nt_up (nt_up (nt_up (z0) 0 5) 1 10) 2 20) 3 50)))), (q2, .inl (g.2 0, 4, .inl (nF (nt_up (nt_up (nt_up (nt_up (z0) 0 30) 1 30) 2 30) 3 30)))), (q3, .inl (g.2 0, 4, .inl (nF z0))), (q4, .inl (g.2 2, 2001, .inl (nF z0)))] H := hP
  have hD : va_D A [(h, .inr (1, [.ref q1, .ref q2, .ref q3, .ref q4, .int 0, .int 0, .int 0])), (q1, .inl (g.2 0, 4, .inl (nF (nt_up (nt_up (nt_up (nt_up (z0) 0 5) 1 10) 2 20) 3 50)))), (q2, .inl (g.2 0, 4, .inl (nF (nt_up (nt_up (nt_up (nt_up (z0) 0 30) 1 30) 2 30) 3 30)))), (q3, .inl (g.2 0, 4, .inl (nF z0))), (q4, .inl (g.2 2, 2001, .inl (nF z0)))] := hD
  exact x_vret B hS (by decide) (by decide) (fun t ht hW => ⟨rfl, ad5 h q1 q2 q3 q4, rfl, by rw [ht]; exact hP, hD⟩) d_M_init_73
end
section
/-! NoteMixModel: thrown, load, look -/
def qM (g : Gc) (ad : Nat → Nat) (wv nv ch cn : Nat → Int32) (f mx th : Int32) (sz : Nat) (U : State) : Prop := U.heap.size = sz ∧ va_P g.1 cl (wM g ad wv nv ch cn f mx th) U.heap ∧ gK g U ∧ va_D (fun _ => True) (wM g ad wv nv ch cn f mx th)
theorem preM {s : State} {H : Heap} {A : Nat → Prop} {g : Gc} {ad : Nat → Nat} {wv nv ch cn : Nat → Int32} {f mx th : Int32} {As : List Value} (hP : va_P g.1 cl (wM g ad wv nv ch cn f mx th) H) (hK : gK g s) (hD : va_D A (wM g ad wv nv ch cn f mx th)) : PreS s H (va_Pc As (qM g ad wv nv ch cn f mx th H.size)) As :=
  ⟨fun a U g1 mk q => by obtain ⟨q0, q1, qP, qK, qD⟩ := q; exact ⟨q0, q1, qP, va_K.moved (u := U) (U := U.calling g1 mk a) (Vm.Alike.refl U.vm) qK, qD⟩, fun U hU hW => ⟨rfl, by rw [hU], by rw [hU]; exact hP, va_K.moved hW.alike hK, hD.weaken (fun _ _ _ _ => trivial)⟩⟩
theorem recM {s : State} {H : Heap} {g : Gc} {ad : Nat → Nat} {wv nv ch cn : Nat → Int32} {f mx th : Int32} (hK : gK g s) (hP : va_P g.1 cl (wM g ad wv nv ch cn f mx th) H) : ∃ cell : Cell, H[ad 0]? = some cell ∧ cell.vm.isStatics = false ∧ s.vm.findClass R_M = some cell.cls := va_recv (q := (R_M, F_M, 7)) hK hP (ci := 1) rfl (q0 := 0) rfl
section MMN
variable {p : Program} {l : Launch} {e : Env} {R : Room} {s : State} {m : MethodId} {args : Array Value} {below : List Frame} {meth : Method} {c : Code} {H : Heap} {locs : List Loc} {cells slots : Nat} {Q : State → Prop}
variable {g : Gc} {ad : Nat → Nat} {A : Nat → Prop} {ls : Array Slot}
variable {cc : ByteArray} {pc nL : Nat} {rest : List Value}
theorem n_min (S : CallFix p m c cc nL s args tb R_M) (hl : ls.size = nL) (hR : xw_R R cells slots rm0 2) {x y : Nat} (hdg : decode cc pc = .ok (.invokestatic 37, 3)) (hx : x < 2147483648) (hy : y < 2147483648) (hr : (rest.map fun v => v.category).sum ≤ 8)
    (kk : W p l e R s m args below meth c H locs cells slots Q (F0 m (pc + 3) ls (.int (nI (min x y)) :: rest))) : W p l e R s m args below meth c H locs cells slots Q (F0 m pc ls (.int (nI y) :: .int (nI x) :: rest)) := by
  obtain ⟨h1, h2, h3, h4, h5⟩ := S
  obtain ⟨r1, r2, r3, r4⟩ := hR
  have r1' : 0 + 1 ≤ R.frames := r1
  have r2' : 8 + (2 + 11) + 0 ≤ R.locals := r2
  have r3' : cells + 0 ≤ R.cells := r3
  have r4' : slots + 0 ≤ R.slots := r4
  refine va_mmin h1 h2 (by rw [h3, hl]) h4 (h5 _ tw_249) (h5 _ tw_250) (h5 _ tw_8) (h5 _ tw_251) (by omega) (by omega) (by omega) (by omega) hdg ?_
  have e : (if nI y < nI x then nI y else nI x) = nI (min x y) := by
    by_cases h : y < x
    · rw [if_pos ((nI_ltI hy hx).mpr h), show min x y = y by omega]
    · rw [if_neg (fun q => h ((nI_ltI hy hx).mp q)), show min x y = x by omega]
  rw [e]
  exact kk
end MMN
theorem c_M_thrown (l : Launch) (g : Gc) (ad : Nat → Nat) (wv nv ch cn : Nat → Int32) (f mx th : Int32) (sz : Nat) : Ct l y_M_thrown cd_M_thrown rm0 (0, 0) (va_Pc [.ref (ad 0)] (qM g ad wv nv ch cn f mx th sz)) (xk_pi th) (fun _ => False) := by
  refine Ct.ofW (by decide) ?_
  intro p e s m args below meth c B hpre
  obtain ⟨rfl, hsz, hP, hK, hD0⟩ := hpre
  obtain ⟨⟨hx, hb, hml, hown, hts⟩, hret, hlk, hnm, hex⟩ := id B
  have hl := lv_entry ([.ref (ad 0)]) (n := 1) (Nat.le_of_ble_eq_true rfl)
  rw [lg_entry_eq]
  generalize (lg_sl ([.ref (ad 0)]) ++ List.replicate (1 - (lg_sl ([.ref (ad 0)])).length) Slot.unset).toArray = ls at hl ⊢
  have hl : lv_has ls 1 [(0, .ref (ad 0))] := hl
  have hS : va_S (fun _ => False) s.heap s.heap [] := va_S.rf
  refine lv_aload_n hx hb d_M_thrown_0 rfl (lv_at hl 0 rfl) ?_
  refine gM_thrown B.1 hK hP rfl d_M_thrown_1 ?_
  exact x_iret B hS (by decide) (by decide) (fun t ht hW => ⟨rfl, ht⟩) d_M_thrown_4
abbrev rmM1 : Room := { frames := 1, cells := 0, slots := 0, locals := 22 }
def qML (g : Gc) (ad : Nat → Nat) (wo N : Nat → Nat) (A : Nat → Prop) (cI wI mI : Int32) : Array Value → State → Outcome → State → Prop := fun _ _ o t => ∃ V M ch cn f mx th, va_P g.1 cl (wM g ad (nF V) (nF M) ch cn f mx th) t.heap ∧ va_D A (wM g ad (nF V) (nF M) ch cn f mx th) ∧ o = .returned none ∧
  ((¬ okL cI wI mI ∧ V = wo ∧ M = N ∧ th = 1) ∨ (okL cI wI mI ∧ ldR wo N V M cI wI mI ∧ th = 0))
theorem c_M_load (l : Launch) (g : Gc) (ad : Nat → Nat) (wo N : Nat → Nat) (ch cn : Nat → Int32) (f mx th : Int32) (cI wI mI : Int32) (sz : Nat) : Ct l y_M_load cd_M_load rmM1 (0, 0) (va_Pc [.ref (ad 0), .int cI, .int wI, .int mI] (qM g ad (nF wo) (nF N) ch cn f mx th sz)) (qML g ad wo N (va_A (wM g ad (nF wo) (nF N) ch cn f mx th) sz) cI wI mI) (va_A (wM g ad (nF wo) (nF N) ch cn f mx th) sz) := by
  refine Ct.ofW (by decide) ?_
  intro p e s m args below meth c B hpre
  obtain ⟨rfl, hsz, hP, hK, hD0⟩ := hpre
  subst hsz
  have hD := hD0.self (sz := s.heap.size)
  generalize hAe : va_A (wM g ad (nF wo) (nF N) ch cn f mx th) s.heap.size = A at hD ⊢
  have hA : ∀ q : Nat, s.heap.size ≤ q → A q := fun q h => by rw [← hAe]; exact Or.inr h
  have hS : va_S A s.heap s.heap [] := va_S.rf
  have hP : va_P g.1 cl (wM g ad (nF wo) (nF N) ch cn f mx th) s.heap := hP
  obtain ⟨⟨hx, hb, hml, hown, hts⟩, hret, hlk, hnm, hex⟩ := id B
  have hl := lv_entry ([.ref (ad 0), .int cI, .int wI, .int mI]) (n := 4) (Nat.le_of_ble_eq_true rfl)
  rw [lg_entry_eq]
  generalize (lg_sl ([.ref (ad 0), .int cI, .int wI, .int mI]) ++ List.replicate (4 - (lg_sl ([.ref (ad 0), .int cI, .int wI, .int mI])).length) Slot.unset).toArray = ls at hl ⊢
  have hl : lv_has ls 4 [(0, .ref (ad 0)), (1, .int cI), (2, .int wI), (3, .int mI)] := hl
  refine lv_aload_n hx hb d_M_load_0 rfl (lv_at hl 0 rfl) ?_
  refine lv_iload_n hx hb d_M_load_1 rfl (lv_at hl 1 rfl) ?_
  refine lv_iconst (v := nI 0) hx hb d_M_load_2 (by decide) ?_
  refine lv_iconst (v := nI 3) hx hb d_M_load_3 (by decide) ?_
  refine x_pS (As := [.int cI, .int (nI 0), .int (nI 3)]) (rest := [.ref (ad 0)]) B.1 (c_M_in l cI (nI 0) (nI 3)) (xw_M_in (by decide)) tw_234 tw_235 (⟨fun _ _ _ _ q => q, fun _ _ _ => ⟨rfl, trivial⟩⟩) hl.1 (Nat.le_of_ble_eq_true rfl) hS rfl d_M_load_4 ?_
  refine lv_if_eq hx hb d_M_load_7 rfl (fun h1 => ?_) (fun h1 => ?_)
  · refine lv_iconst (v := nI 1) hx hb d_M_load_36 (by decide) ?_
    refine pM_thrown B.1 hK hP hD hS d_M_load_37 (fun H locs hP hD hS => ?_)
    have hP : va_P g.1 cl (wM g ad (nF wo) (nF N) ch cn f mx (nI 1)) H := hP
    have hD : va_D A (wM g ad (nF wo) (nF N) ch cn f mx (nI 1)) := hD
    refine lv_aload_n hx hb d_M_load_40 rfl (lv_at hl 0 rfl) ?_
    refine gM_thrown B.1 hK hP rfl d_M_load_41 ?_
    refine n_ifle hx hb d_M_load_44 rfl (by omega) (fun h9 => ?_) (fun h9 => ?_)
    · omega
    · exact x_vret B hS (by decide) (by decide) (fun t ht hW => ⟨wo, N, ch, cn, f, mx, _, by rw [ht]; exact hP, hD, rfl, Or.inl ⟨fun q => q.1 h1, rfl, rfl, rfl⟩⟩) d_M_load_47
  · refine lv_iload_n hx hb d_M_load_10 rfl (lv_at hl 2 rfl) ?_
    refine lv_iconst (v := nI 1) hx hb d_M_load_11 (by decide) ?_
    refine lv_sipush (v := nI 500) hx hb d_M_load_12 (by decide) ?_
    refine x_pS (As := [.int wI, .int (nI 1), .int (nI 500)]) (rest := [.ref (ad 0)]) B.1 (c_M_in l wI (nI 1) (nI 500)) (xw_M_in (by decide)) tw_234 tw_235 (⟨fun _ _ _ _ q => q, fun _ _ _ => ⟨rfl, trivial⟩⟩) hl.1 (Nat.le_of_ble_eq_true rfl) hS rfl d_M_load_15 ?_
    refine lv_if_eq hx hb d_M_load_18 rfl (fun h2 => ?_) (fun h2 => ?_)
    · refine lv_iconst (v := nI 1) hx hb d_M_load_36 (by decide) ?_
      refine pM_thrown B.1 hK hP hD hS d_M_load_37 (fun H locs hP hD hS => ?_)
      have hP : va_P g.1 cl (wM g ad (nF wo) (nF N) ch cn f mx (nI 1)) H := hP
      have hD : va_D A (wM g ad (nF wo) (nF N) ch cn f mx (nI 1)) := hD
      refine lv_aload_n hx hb d_M_load_40 rfl (lv_at hl 0 rfl) ?_
      refine gM_thrown B.1 hK hP rfl d_M_load_41 ?_
      refine n_ifle hx hb d_M_load_44 rfl (by omega) (fun h9 => ?_) (fun h9 => ?_)
      · omega
      · exact x_vret B hS (by decide) (by decide) (fun t ht hW => ⟨wo, N, ch, cn, f, mx, _, by rw [ht]; exact hP, hD, rfl, Or.inl ⟨fun q => q.2.1 h2, rfl, rfl, rfl⟩⟩) d_M_load_47
    · refine lv_iload_n hx hb d_M_load_21 rfl (lv_at hl 3 rfl) ?_
      refine lv_iconst (v := nI 0) hx hb d_M_load_22 (by decide) ?_
      refine lv_sipush (v := nI 500) hx hb d_M_load_23 (by decide) ?_
      refine x_pS (As := [.int mI, .int (nI 0), .int (nI 500)]) (rest := [.ref (ad 0)]) B.1 (c_M_in l mI (nI 0) (nI 500)) (xw_M_in (by decide)) tw_234 tw_235 (⟨fun _ _ _ _ q => q, fun _ _ _ => ⟨rfl, trivial⟩⟩) hl.1 (Nat.le_of_ble_eq_true rfl) hS rfl d_M_load_26 ?_
      refine lv_if_eq hx hb d_M_load_29 rfl (fun h3 => ?_) (fun h3 => ?_)
      · refine lv_iconst (v := nI 1) hx hb d_M_load_36 (by decide) ?_
        refine pM_thrown B.1 hK hP hD hS d_M_load_37 (fun H locs hP hD hS => ?_)
        have hP : va_P g.1 cl (wM g ad (nF wo) (nF N) ch cn f mx (nI 1)) H := hP
        have hD : va_D A (wM g ad (nF wo) (nF N) ch cn f mx (nI 1)) := hD
        refine lv_aload_n hx hb d_M_load_40 rfl (lv_at hl 0 rfl) ?_
        refine gM_thrown B.1 hK hP rfl d_M_load_41 ?_
        refine n_ifle hx hb d_M_load_44 rfl (by omega) (fun h9 => ?_) (fun h9 => ?_)
        · omega
        · exact x_vret B hS (by decide) (by decide) (fun t ht hW => ⟨wo, N, ch, cn, f, mx, _, by rw [ht]; exact hP, hD, rfl, Or.inl ⟨fun q => q.2.2 h3, rfl, rfl, rfl⟩⟩) d_M_load_47
      · refine lv_iconst (v := nI 0) hx hb d_M_load_32 (by decide) ?_
        refine lv_goto hx hb d_M_load_33 rfl ?_
        refine pM_thrown B.1 hK hP hD hS d_M_load_37 (fun H locs hP hD hS => ?_)
        have hP : va_P g.1 cl (wM g ad (nF wo) (nF N) ch cn f mx (nI 0)) H := hP
        have hD : va_D A (wM g ad (nF wo) (nF N) ch cn f mx (nI 0)) := hD
        refine lv_aload_n hx hb d_M_load_40 rfl (lv_at hl 0 rfl) ?_
        refine gM_thrown B.1 hK hP rfl d_M_load_41 ?_
        refine n_ifle hx hb d_M_load_44 rfl (by omega) (fun h9 => ?_) (fun h9 => ?_)
        · have hok : okL cI wI mI := ⟨h1, h2, h3⟩
          obtain ⟨k, rfl, hk0, hk⟩ := in3_nI (by decide) (by decide) h1
          obtain ⟨a, rfl, ha0, ha⟩ := in3_nI (by decide) (by decide) h2
          obtain ⟨b, rfl, hb0, hbb⟩ := in3_nI (by decide) (by decide) h3
          refine lv_aload_n hx hb d_M_load_48 rfl (lv_at hl 0 rfl) ?_
          refine gM_worth B.1 hK hP rfl d_M_load_49 ?_
          refine lv_iload_n hx hb d_M_load_52 rfl (lv_at hl 1 rfl) ?_
          refine lv_iload_n hx hb d_M_load_53 rfl (lv_at hl 2 rfl) ?_
          refine n_iast hx hb hK hP hD hS 1 rfl (by omega) (by decide) d_M_load_54 (fun H locs hP hD hS => ?_)
          rw [nF_up] at hP hD
          have hP : va_P g.1 cl (wM g ad (nF (nt_up wo k a)) (nF N) ch cn f mx (nI 0)) H := hP
          have hD : va_D A (wM g ad (nF (nt_up wo k a)) (nF N) ch cn f mx (nI 0)) := hD
          refine lv_aload_n hx hb d_M_load_55 rfl (lv_at hl 0 rfl) ?_
          refine gM_notes B.1 hK hP rfl d_M_load_56 ?_
          refine lv_iload_n hx hb d_M_load_59 rfl (lv_at hl 1 rfl) ?_
          refine lv_iload_n hx hb d_M_load_60 rfl (lv_at hl 3 rfl) ?_
          refine n_iast hx hb hK hP hD hS 2 rfl (by omega) (by decide) d_M_load_61 (fun H locs hP hD hS => ?_)
          rw [nF_up] at hP hD
          have hP : va_P g.1 cl (wM g ad (nF (nt_up wo k a)) (nF (nt_up N k b)) ch cn f mx (nI 0)) H := hP
          have hD : va_D A (wM g ad (nF (nt_up wo k a)) (nF (nt_up N k b)) ch cn f mx (nI 0)) := hD
          exact x_vret B hS (by decide) (by decide) (fun t ht hW => ⟨_, _, ch, cn, f, mx, _, by rw [ht]; exact hP, hD, rfl, Or.inr ⟨hok, ⟨k, a, b, by omega, rfl, ha0, ha, rfl, hbb, rfl, rfl, rfl⟩, rfl⟩⟩) d_M_load_62
        · omega
end
section
/-! NoteMixModel.look -/
def nt_V (a b c1 : Nat) : Nat → Nat → Nat → Prop := fun x y z => a < x ∨ (x = a ∧ (b < y ∨ (y = b ∧ c1 ≤ z)))
def nt_VB (a b1 : Nat) : Nat → Nat → Nat → Prop := fun x y _ => a < x ∨ (x = a ∧ b1 ≤ y)
def nt_VA (a1 : Nat) : Nat → Nat → Nat → Prop := fun x _ _ => a1 ≤ x
theorem nt_V_skip {wo N : Nat → Nat} {v a b c f : Nat} {ch : Nat → Nat} (h0 : 1 ≤ wo 0) (h : nt_bi wo N v (nt_V a b (c + 1)) f ch) (hb : nt_b wo N v a b c = 0) : nt_bi wo N v (nt_V a b c) f ch := by
  refine nt_bi_mono h (fun x y z q => ?_) (fun x y z d hq q => ?_)
  · unfold nt_V at q ⊢; omega
  · unfold nt_V at q ⊢
    by_cases e : x = a ∧ y = b ∧ z = c
    · obtain ⟨rfl, rfl, rfl⟩ := e
      have := nt_b_of h0 hq
      omega
    · omega
theorem nt_V_keep {wo N : Nat → Nat} {v a b c d f : Nat} {ch : Nat → Nat} (h0 : 1 ≤ wo 0) (h : nt_bi wo N v (nt_V a b (c + 1)) f ch) (hq : nt_ok wo N v a b c d) (hf : f ≤ a + b + c + d) : nt_bi wo N v (nt_V a b c) f ch :=
  nt_bi_keep h0 h hq hf (fun x y z q => by unfold nt_V at q ⊢; omega) (fun x y z q => by unfold nt_V at q ⊢; omega) (fun x y z q => by unfold nt_V at q; unfold nt_lx; omega)
theorem nt_V_take {wo N : Nat → Nat} {v a b c d f : Nat} {ch ch' : Nat → Nat} (h0 : 1 ≤ wo 0) (h : nt_bi wo N v (nt_V a b (c + 1)) f ch) (hq : nt_ok wo N v a b c d) (hf : a + b + c + d < f) (e3 : ch' 3 = a) (e2 : ch' 2 = b) (e1 : ch' 1 = c) (e0 : ch' 0 = d) : nt_bi wo N v (nt_V a b c) (a + b + c + d) ch' :=
  nt_bi_take h0 h hq hf (by unfold nt_V; omega) (fun x y z q => by unfold nt_V at q ⊢; omega) e3 e2 e1 e0
theorem nt_V_BC {wo N : Nat → Nat} {v a b n f : Nat} {ch : Nat → Nat} (h : nt_bi wo N v (nt_VB a (b + 1)) f ch) (hn : ∀ c d, nt_ok wo N v a b c d → c < n) : nt_bi wo N v (nt_V a b n) f ch := by
  refine nt_bi_mono h (fun x y z q => ?_) (fun x y z d hq q => ?_)
  · unfold nt_VB at q; unfold nt_V; omega
  · unfold nt_V at q; unfold nt_VB
    by_cases e : x = a ∧ y = b
    · obtain ⟨rfl, rfl⟩ := e
      have := hn z d hq
      omega
    · omega
theorem nt_V_CB {wo N : Nat → Nat} {v a b f : Nat} {ch : Nat → Nat} (h : nt_bi wo N v (nt_V a b 0) f ch) : nt_bi wo N v (nt_VB a b) f ch :=
  nt_bi_mono h (fun x y z q => by unfold nt_V at q; unfold nt_VB; omega) (fun x y z d _ q => by unfold nt_VB at q; unfold nt_V; omega)
theorem nt_V_AB {wo N : Nat → Nat} {v a n f : Nat} {ch : Nat → Nat} (h : nt_bi wo N v (nt_VA (a + 1)) f ch) (hn : ∀ b c d, nt_ok wo N v a b c d → b < n) : nt_bi wo N v (nt_VB a n) f ch := by
  refine nt_bi_mono h (fun x y z q => ?_) (fun x y z d hq q => ?_)
  · unfold nt_VA at q; unfold nt_VB; omega
  · unfold nt_VB at q; unfold nt_VA
    by_cases e : x = a
    · subst e
      have := hn y z d hq
      omega
    · omega
theorem nt_V_BA {wo N : Nat → Nat} {v a f : Nat} {ch : Nat → Nat} (h : nt_bi wo N v (nt_VB a 0) f ch) : nt_bi wo N v (nt_VA a) f ch :=
  nt_bi_mono h (fun x y z q => by unfold nt_VB at q; unfold nt_VA; omega) (fun x y z d _ q => by unfold nt_VA at q; unfold nt_VB; omega)
theorem nt_V_end {wo N : Nat → Nat} {v f : Nat} {ch : Nat → Nat} (h : nt_bi wo N v (nt_VA 0) f ch) : nt_bst wo N v f ch :=
  nt_bi_mono h (fun _ _ _ _ => trivial) (fun x y z d _ _ => Nat.zero_le x)
theorem i32_ss (a b c : Int32) : a - b - c = a - (b + c) := by grind
theorem sub3_lt {v x y z : Nat} (h : v ≤ 2000) (hx : x ≤ 20000) (hy : y ≤ 20000) (hz : z ≤ 20000) : nI v - nI x - nI y - nI z < 0 ↔ v < x + y + z := by
  rw [i32_ss, i32_ss, nI_add, nI_add]
  constructor
  · intro q
    have h1 := Int32.lt_iff_toInt_lt.mp q
    have h2 := pk_sub_toInt (a := v) (b := x + y + z) (by omega) (by omega)
    rw [show x + (y + z) = x + y + z by omega, h2, Int32.toInt_zero] at h1
    omega
  · intro q
    exact pk_sneg (by omega) (by omega)
theorem sub3_eq {v x y z : Nat} (h : x + y + z ≤ v) : nI v - nI x - nI y - nI z = nI (v - (x + y + z)) := by
  rw [pk_sub (by omega), pk_sub (by omega), pk_sub (by omega)]
  congr 1
  omega
section LKA
variable {p : Program} {l : Launch} {e : Env} {R : Room} {s : State} {m : MethodId} {args : Array Value} {below : List Frame} {meth : Method} {c : Code} {H : Heap} {locs : List Loc} {cells slots : Nat} {Q : State → Prop}
variable {g : Gc} {ad : Nat → Nat} {A : Nat → Prop} {ls : Array Slot}
variable {wo N : Nat → Nat} {cn : Nat → Int32} {th : Int32} {v a b : Nat}
theorem lk_c (B : xk_B p s m args meth c y_M_look b_M_look 7 none []) (hG : nt_gd wo N) (hK : gK g s) (hRm : xw_R R cells slots rm0 2) (hv : v ≤ 2000) (ha : a ≤ N 3) (hbN : b ≤ N 2) (hab : a + b ≤ 40)
    (kk : ∀ (mx f : Nat) (cN : Nat → Nat) (ch : Nat → Int32) (H : Heap) (locs : List Loc) (ls : Array Slot), nt_JC wo N v a b 0 mx → nt_bi wo N v (nt_V a b 0) f cN → (f ≤ 40 → ∀ i, i < 4 → ch i = nI (cN i)) → va_P g.1 cl (wM g ad (nF wo) (nF N) ch cn (nI f) (nI mx) th) H → va_D A (wM g ad (nF wo) (nF N) ch cn (nI f) (nI mx) th) → va_S A s.heap H locs → lv_has ls 7 [(0, .ref (ad 0)), (1, .int (nI v)), (2, .int (nI a)), (3, .int (nI b))] → W p l e R s m args below meth c H locs cells slots Q (F0 m 235 ls [])) :
    ∀ (c1 : Nat) (mx f : Nat) (cN : Nat → Nat) (ch : Nat → Int32) (H : Heap) (locs : List Loc) (ls : Array Slot), c1 ≤ min (N 1) (40 - a - b) + 1 → nt_JC wo N v a b c1 mx → nt_bi wo N v (nt_V a b c1) f cN → (f ≤ 40 → ∀ i, i < 4 → ch i = nI (cN i)) → va_P g.1 cl (wM g ad (nF wo) (nF N) ch cn (nI f) (nI mx) th) H → va_D A (wM g ad (nF wo) (nF N) ch cn (nI f) (nI mx) th) → va_S A s.heap H locs → lv_has ls 7 [(0, .ref (ad 0)), (1, .int (nI v)), (2, .int (nI a)), (3, .int (nI b)), (4, .int (dn c1))] → W p l e R s m args below meth c H locs cells slots Q (F0 m 62 ls []) := by
  obtain ⟨hg01, hg02, hg03⟩ := hG 0 (by omega)
  obtain ⟨hg11, hg12, hg13⟩ := hG 1 (by omega)
  obtain ⟨hg21, hg22, hg23⟩ := hG 2 (by omega)
  obtain ⟨hg31, hg32, hg33⟩ := hG 3 (by omega)
  obtain ⟨hx, hb, hml, hown, hts⟩ := B.1
  intro c1
  induction c1 with
  | zero =>
    intro mx f cN ch H locs ls hc hJ hbi hch hP hD hS hl
    refine lv_iload hx hb d_M_look_62 (lv_at hl 4 rfl) ?_
    refine n_dn hx hb d_M_look_64 rfl (by omega) (fun h => ?_) (fun k h9 => ?_)
    · have hl := lv_sub (l' := [(0, .ref (ad 0)), (1, .int (nI v)), (2, .int (nI a)), (3, .int (nI b))]) hl [0, 1, 2, 3] rfl
      exact kk mx f cN ch H locs ls hJ hbi hch hP hD hS hl
    · omega
  | succ k ih =>
    intro mx f cN ch H locs ls hc hJ hbi hch hP hD hS hl
    have hmx := nt_JC_le hJ
    have hf41 := hbi.1
    refine lv_iload hx hb d_M_look_62 (lv_at hl 4 rfl) ?_
    refine n_dn hx hb d_M_look_64 rfl (by omega) (fun h => ?_) (fun k9 h9 => ?_)
    · omega
    · have e : k = k9 := by omega
      subst e
      rw [dn_s] at hl
      have hw3 : a * wo 3 ≤ 20000 := Nat.le_trans (Nat.mul_le_mul (show a ≤ 40 by omega) hg32) (by omega)
      have hw2 : b * wo 2 ≤ 20000 := Nat.le_trans (Nat.mul_le_mul (show b ≤ 40 by omega) hg22) (by omega)
      have hw1 : k * wo 1 ≤ 20000 := Nat.le_trans (Nat.mul_le_mul (show k ≤ 40 by omega) hg12) (by omega)
      refine lv_iload_n hx hb d_M_look_67 rfl (lv_at hl 1 rfl) ?_
      refine lv_iload_n hx hb d_M_look_68 rfl (lv_at hl 2 rfl) ?_
      refine lv_aload_n hx hb d_M_look_69 rfl (lv_at hl 0 rfl) ?_
      refine gM_worth B.1 hK hP rfl d_M_look_70 ?_
      refine lv_iconst (v := nI 3) hx hb d_M_look_73 (by decide) ?_
      refine n_iald hx hb hK hP 1 rfl (by omega) (by decide) d_M_look_74 ?_
      refine n_mul hx hb d_M_look_75 ?_
      refine lv_isub hx hb d_M_look_76 ?_
      refine lv_iload_n hx hb d_M_look_77 rfl (lv_at hl 3 rfl) ?_
      refine lv_aload_n hx hb d_M_look_78 rfl (lv_at hl 0 rfl) ?_
      refine gM_worth B.1 hK hP rfl d_M_look_79 ?_
      refine lv_iconst (v := nI 2) hx hb d_M_look_82 (by decide) ?_
      refine n_iald hx hb hK hP 1 rfl (by omega) (by decide) d_M_look_83 ?_
      refine n_mul hx hb d_M_look_84 ?_
      refine lv_isub hx hb d_M_look_85 ?_
      refine lv_iload hx hb d_M_look_86 (lv_at hl 4 rfl) ?_
      refine lv_aload_n hx hb d_M_look_88 rfl (lv_at hl 0 rfl) ?_
      refine gM_worth B.1 hK hP rfl d_M_look_89 ?_
      refine lv_iconst (v := nI 1) hx hb d_M_look_92 (by decide) ?_
      refine n_iald hx hb hK hP 1 rfl (by omega) (by decide) d_M_look_93 ?_
      refine n_mul hx hb d_M_look_94 ?_
      refine lv_isub hx hb d_M_look_95 ?_
      refine lv_istore (lv' := [(5, .int ((((nI v) - (nI (a * (wo 3)))) - (nI (b * (wo 2)))) - (nI (k * (wo 1))))), (0, .ref (ad 0)), (1, .int (nI v)), (2, .int (nI a)), (3, .int (nI b)), (4, .int (nI k))]) hx hb d_M_look_96 hl (by decide) rfl (fun ls hl => ?_)
      refine lv_iload hx hb d_M_look_98 (lv_at hl 0 rfl) ?_
      refine lv_if_lt hx hb d_M_look_100 rfl (fun h1 => ?_) (fun h1 => ?_)
      · have h1 := (sub3_lt hv hw3 hw2 hw1).mp h1
        have hb0 : nt_b wo N v a b k = 0 := by unfold nt_b; rw [if_neg (fun q => by have := q.2.2.2.1; unfold nt_u at this; omega)]
        refine lv_iinc (k := 5) (v := dn k) (lv' := [(4, .int (dn k)), (5, .int ((((nI v) - (nI (a * (wo 3)))) - (nI (b * (wo 2)))) - (nI (k * (wo 1))))), (0, .ref (ad 0)), (1, .int (nI v)), (2, .int (nI a)), (3, .int (nI b))]) hx hb d_M_look_229 hl rfl rfl (by decide) rfl (fun ls hl => ?_)
        refine lv_goto hx hb d_M_look_232 rfl ?_
        have hl := lv_sub (l' := [(0, .ref (ad 0)), (1, .int (nI v)), (2, .int (nI a)), (3, .int (nI b)), (4, .int (dn k))]) hl [2, 3, 4, 5, 0] rfl
        exact ih mx f cN ch H locs ls (by omega) (nt_JC_s hb0 hJ) (nt_V_skip hg01 hbi hb0) hch hP hD hS hl
      · have h1 : a * wo 3 + b * wo 2 + k * wo 1 ≤ v := Nat.not_lt.mp (fun q => h1 ((sub3_lt hv hw3 hw2 hw1).mpr q))
        rw [sub3_eq h1] at hl
        have hu : v - nt_u wo a b k = v - (a * wo 3 + b * wo 2 + k * wo 1) := rfl
        have hule : nt_u wo a b k ≤ v := h1
        have hm0 : (v - (a * wo 3 + b * wo 2 + k * wo 1)) % wo 0 < wo 0 := Nat.mod_lt _ hg01
        have hq0 : (v - (a * wo 3 + b * wo 2 + k * wo 1)) / wo 0 ≤ 2000 := Nat.le_trans (Nat.div_le_self _ _) (by omega)
        refine lv_iload hx hb d_M_look_103 (lv_at hl 0 rfl) ?_
        refine lv_aload_n hx hb d_M_look_105 rfl (lv_at hl 1 rfl) ?_
        refine gM_worth B.1 hK hP rfl d_M_look_106 ?_
        refine lv_iconst (v := nI 0) hx hb d_M_look_109 (by decide) ?_
        refine n_iald hx hb hK hP 1 rfl (by omega) (by decide) d_M_look_110 ?_
        refine n_rem hx hb d_M_look_111 (by omega) (by omega) (by omega) ?_
        refine n_ifeq hx hb d_M_look_112 rfl (by omega) (fun h2 => ?_) (fun h2 => ?_)
        · refine lv_iload hx hb d_M_look_118 (lv_at hl 0 rfl) ?_
          refine lv_aload_n hx hb d_M_look_120 rfl (lv_at hl 1 rfl) ?_
          refine gM_worth B.1 hK hP rfl d_M_look_121 ?_
          refine lv_iconst (v := nI 0) hx hb d_M_look_124 (by decide) ?_
          refine n_iald hx hb hK hP 1 rfl (by omega) (by decide) d_M_look_125 ?_
          refine n_div hx hb d_M_look_126 (by omega) (by omega) (by omega) ?_
          refine lv_istore (lv' := [(6, .int (nI ((v - (a * wo 3 + b * wo 2 + k * wo 1)) / (wo 0)))), (5, .int (nI (v - (a * wo 3 + b * wo 2 + k * wo 1)))), (0, .ref (ad 0)), (1, .int (nI v)), (2, .int (nI a)), (3, .int (nI b)), (4, .int (nI k))]) hx hb d_M_look_127 hl (by decide) rfl (fun ls hl => ?_)
          refine lv_iload hx hb d_M_look_129 (lv_at hl 0 rfl) ?_
          refine lv_aload_n hx hb d_M_look_131 rfl (lv_at hl 2 rfl) ?_
          refine gM_notes B.1 hK hP rfl d_M_look_132 ?_
          refine lv_iconst (v := nI 0) hx hb d_M_look_135 (by decide) ?_
          refine n_iald hx hb hK hP 2 rfl (by omega) (by decide) d_M_look_136 ?_
          refine n_igt hx hb d_M_look_137 rfl (by omega) (by omega) (fun h3 => ?_) (fun h3 => ?_)
          · have hb0 : nt_b wo N v a b k = 0 := nt_b_n hu (fun q => by have := q.2.1; omega)
            refine lv_iinc (k := 6) (v := dn k) (lv' := [(4, .int (dn k)), (6, .int (nI ((v - (a * wo 3 + b * wo 2 + k * wo 1)) / (wo 0)))), (5, .int (nI (v - (a * wo 3 + b * wo 2 + k * wo 1)))), (0, .ref (ad 0)), (1, .int (nI v)), (2, .int (nI a)), (3, .int (nI b))]) hx hb d_M_look_229 hl rfl rfl (by decide) rfl (fun ls hl => ?_)
            refine lv_goto hx hb d_M_look_232 rfl ?_
            have hl := lv_sub (l' := [(0, .ref (ad 0)), (1, .int (nI v)), (2, .int (nI a)), (3, .int (nI b)), (4, .int (dn k))]) hl [3, 4, 5, 6, 0] rfl
            exact ih mx f cN ch H locs ls (by omega) (nt_JC_s hb0 hJ) (nt_V_skip hg01 hbi hb0) hch hP hD hS hl
          · refine lv_iload_n hx hb d_M_look_140 rfl (lv_at hl 4 rfl) ?_
            refine lv_iload_n hx hb d_M_look_141 rfl (lv_at hl 5 rfl) ?_
            refine n_add hx hb d_M_look_142 ?_
            refine lv_iload hx hb d_M_look_143 (lv_at hl 6 rfl) ?_
            refine n_add hx hb d_M_look_145 ?_
            refine lv_iload hx hb d_M_look_146 (lv_at hl 0 rfl) ?_
            refine n_add hx hb d_M_look_148 ?_
            refine lv_bipush (v := nI 40) hx hb d_M_look_149 (by decide) ?_
            refine n_ile hx hb d_M_look_151 rfl (by omega) (by omega) (fun h4 => ?_) (fun h4 => ?_)
            · have hb1 : nt_b wo N v a b k = 1 := nt_b_y ha hbN (by omega) hule hu h2 h3 h4
              have hok : nt_ok wo N v a b k ((v - (a * wo 3 + b * wo 2 + k * wo 1)) / wo 0) := nt_b_ok (by rw [hb1]; decide)
              refine lv_aload_n hx hb d_M_look_157 rfl (lv_at hl 2 rfl) ?_
              refine lv_dup hx hb d_M_look_158 rfl ?_
              refine gM_mixes B.1 hK hP rfl d_M_look_159 ?_
              refine lv_iconst (v := nI 1) hx hb d_M_look_162 (by decide) ?_
              refine n_add hx hb d_M_look_163 ?_
              refine pM_mixes B.1 hK hP hD hS d_M_look_164 (fun H locs hP hD hS => ?_)
              have hP : va_P g.1 cl (wM g ad (nF wo) (nF N) ch cn (nI f) (nI (mx + 1)) th) H := hP
              have hD : va_D A (wM g ad (nF wo) (nF N) ch cn (nI f) (nI (mx + 1)) th) := hD
              refine lv_iload_n hx hb d_M_look_167 rfl (lv_at hl 4 rfl) ?_
              refine lv_iload_n hx hb d_M_look_168 rfl (lv_at hl 5 rfl) ?_
              refine n_add hx hb d_M_look_169 ?_
              refine lv_iload hx hb d_M_look_170 (lv_at hl 6 rfl) ?_
              refine n_add hx hb d_M_look_172 ?_
              refine lv_iload hx hb d_M_look_173 (lv_at hl 0 rfl) ?_
              refine n_add hx hb d_M_look_175 ?_
              refine lv_aload_n hx hb d_M_look_176 rfl (lv_at hl 2 rfl) ?_
              refine gM_fewest B.1 hK hP rfl d_M_look_177 ?_
              refine n_ilt hx hb d_M_look_180 rfl (by omega) (by omega) (fun h5 => ?_) (fun h5 => ?_)
              · refine lv_aload_n hx hb d_M_look_186 rfl (lv_at hl 2 rfl) ?_
                refine lv_iload_n hx hb d_M_look_187 rfl (lv_at hl 4 rfl) ?_
                refine lv_iload_n hx hb d_M_look_188 rfl (lv_at hl 5 rfl) ?_
                refine n_add hx hb d_M_look_189 ?_
                refine lv_iload hx hb d_M_look_190 (lv_at hl 6 rfl) ?_
                refine n_add hx hb d_M_look_192 ?_
                refine lv_iload hx hb d_M_look_193 (lv_at hl 0 rfl) ?_
                refine n_add hx hb d_M_look_195 ?_
                refine pM_fewest B.1 hK hP hD hS d_M_look_196 (fun H locs hP hD hS => ?_)
                have hP : va_P g.1 cl (wM g ad (nF wo) (nF N) ch cn (nI (((a + b) + k) + ((v - (a * wo 3 + b * wo 2 + k * wo 1)) / (wo 0)))) (nI (mx + 1)) th) H := hP
                have hD : va_D A (wM g ad (nF wo) (nF N) ch cn (nI (((a + b) + k) + ((v - (a * wo 3 + b * wo 2 + k * wo 1)) / (wo 0)))) (nI (mx + 1)) th) := hD
                refine lv_aload_n hx hb d_M_look_199 rfl (lv_at hl 2 rfl) ?_
                refine gM_chosen B.1 hK hP rfl d_M_look_200 ?_
                refine lv_iconst (v := nI 0) hx hb d_M_look_203 (by decide) ?_
                refine lv_iload hx hb d_M_look_204 (lv_at hl 0 rfl) ?_
                refine n_iast hx hb hK hP hD hS 3 rfl (by omega) (by decide) d_M_look_206 (fun H locs hP hD hS => ?_)
                have hP : va_P g.1 cl (wM g ad (nF wo) (nF N) (upd (ch) 0 (nI ((v - (a * wo 3 + b * wo 2 + k * wo 1)) / wo 0))) cn (nI (((a + b) + k) + ((v - (a * wo 3 + b * wo 2 + k * wo 1)) / (wo 0)))) (nI (mx + 1)) th) H := hP
                have hD : va_D A (wM g ad (nF wo) (nF N) (upd (ch) 0 (nI ((v - (a * wo 3 + b * wo 2 + k * wo 1)) / wo 0))) cn (nI (((a + b) + k) + ((v - (a * wo 3 + b * wo 2 + k * wo 1)) / (wo 0)))) (nI (mx + 1)) th) := hD
                refine lv_aload_n hx hb d_M_look_207 rfl (lv_at hl 2 rfl) ?_
                refine gM_chosen B.1 hK hP rfl d_M_look_208 ?_
                refine lv_iconst (v := nI 1) hx hb d_M_look_211 (by decide) ?_
                refine lv_iload hx hb d_M_look_212 (lv_at hl 6 rfl) ?_
                refine n_iast hx hb hK hP hD hS 3 rfl (by omega) (by decide) d_M_look_214 (fun H locs hP hD hS => ?_)
                have hP : va_P g.1 cl (wM g ad (nF wo) (nF N) (upd (upd (ch) 0 (nI ((v - (a * wo 3 + b * wo 2 + k * wo 1)) / wo 0))) 1 (nI (k))) cn (nI (((a + b) + k) + ((v - (a * wo 3 + b * wo 2 + k * wo 1)) / (wo 0)))) (nI (mx + 1)) th) H := hP
                have hD : va_D A (wM g ad (nF wo) (nF N) (upd (upd (ch) 0 (nI ((v - (a * wo 3 + b * wo 2 + k * wo 1)) / wo 0))) 1 (nI (k))) cn (nI (((a + b) + k) + ((v - (a * wo 3 + b * wo 2 + k * wo 1)) / (wo 0)))) (nI (mx + 1)) th) := hD
                refine lv_aload_n hx hb d_M_look_215 rfl (lv_at hl 2 rfl) ?_
                refine gM_chosen B.1 hK hP rfl d_M_look_216 ?_
                refine lv_iconst (v := nI 2) hx hb d_M_look_219 (by decide) ?_
                refine lv_iload_n hx hb d_M_look_220 rfl (lv_at hl 5 rfl) ?_
                refine n_iast hx hb hK hP hD hS 3 rfl (by omega) (by decide) d_M_look_221 (fun H locs hP hD hS => ?_)
                have hP : va_P g.1 cl (wM g ad (nF wo) (nF N) (upd (upd (upd (ch) 0 (nI ((v - (a * wo 3 + b * wo 2 + k * wo 1)) / wo 0))) 1 (nI (k))) 2 (nI (b))) cn (nI (((a + b) + k) + ((v - (a * wo 3 + b * wo 2 + k * wo 1)) / (wo 0)))) (nI (mx + 1)) th) H := hP
                have hD : va_D A (wM g ad (nF wo) (nF N) (upd (upd (upd (ch) 0 (nI ((v - (a * wo 3 + b * wo 2 + k * wo 1)) / wo 0))) 1 (nI (k))) 2 (nI (b))) cn (nI (((a + b) + k) + ((v - (a * wo 3 + b * wo 2 + k * wo 1)) / (wo 0)))) (nI (mx + 1)) th) := hD
                refine lv_aload_n hx hb d_M_look_222 rfl (lv_at hl 2 rfl) ?_
                refine gM_chosen B.1 hK hP rfl d_M_look_223 ?_
                refine lv_iconst (v := nI 3) hx hb d_M_look_226 (by decide) ?_
                refine lv_iload_n hx hb d_M_look_227 rfl (lv_at hl 4 rfl) ?_
                refine n_iast hx hb hK hP hD hS 3 rfl (by omega) (by decide) d_M_look_228 (fun H locs hP hD hS => ?_)
                have hP : va_P g.1 cl (wM g ad (nF wo) (nF N) (upd (upd (upd (upd (ch) 0 (nI ((v - (a * wo 3 + b * wo 2 + k * wo 1)) / wo 0))) 1 (nI (k))) 2 (nI (b))) 3 (nI (a))) cn (nI (((a + b) + k) + ((v - (a * wo 3 + b * wo 2 + k * wo 1)) / (wo 0)))) (nI (mx + 1)) th) H := hP
                have hD : va_D A (wM g ad (nF wo) (nF N) (upd (upd (upd (upd (ch) 0 (nI ((v - (a * wo 3 + b * wo 2 + k * wo 1)) / wo 0))) 1 (nI (k))) 2 (nI (b))) 3 (nI (a))) cn (nI (((a + b) + k) + ((v - (a * wo 3 + b * wo 2 + k * wo 1)) / (wo 0)))) (nI (mx + 1)) th) := hD
                refine lv_iinc (k := 6) (v := dn k) (lv' := [(4, .int (dn k)), (6, .int (nI ((v - (a * wo 3 + b * wo 2 + k * wo 1)) / (wo 0)))), (5, .int (nI (v - (a * wo 3 + b * wo 2 + k * wo 1)))), (0, .ref (ad 0)), (1, .int (nI v)), (2, .int (nI a)), (3, .int (nI b))]) hx hb d_M_look_229 hl rfl rfl (by decide) rfl (fun ls hl => ?_)
                refine lv_goto hx hb d_M_look_232 rfl ?_
                have hl := lv_sub (l' := [(0, .ref (ad 0)), (1, .int (nI v)), (2, .int (nI a)), (3, .int (nI b)), (4, .int (dn k))]) hl [3, 4, 5, 6, 0] rfl
                refine ih _ _ (fun i => if i = 0 then (v - (a * wo 3 + b * wo 2 + k * wo 1)) / wo 0 else if i = 1 then k else if i = 2 then b else a) _ H locs ls (by omega) (nt_JC_s hb1 hJ) (nt_V_take hg01 hbi hok h5 rfl rfl rfl rfl) (fun _ i hi => ?_) hP hD hS hl
                rcases (show i = 0 ∨ i = 1 ∨ i = 2 ∨ i = 3 by omega) with rfl | rfl | rfl | rfl <;> rfl
              · refine lv_goto hx hb d_M_look_183 rfl ?_
                refine lv_iinc (k := 6) (v := dn k) (lv' := [(4, .int (dn k)), (6, .int (nI ((v - (a * wo 3 + b * wo 2 + k * wo 1)) / (wo 0)))), (5, .int (nI (v - (a * wo 3 + b * wo 2 + k * wo 1)))), (0, .ref (ad 0)), (1, .int (nI v)), (2, .int (nI a)), (3, .int (nI b))]) hx hb d_M_look_229 hl rfl rfl (by decide) rfl (fun ls hl => ?_)
                refine lv_goto hx hb d_M_look_232 rfl ?_
                have hl := lv_sub (l' := [(0, .ref (ad 0)), (1, .int (nI v)), (2, .int (nI a)), (3, .int (nI b)), (4, .int (dn k))]) hl [3, 4, 5, 6, 0] rfl
                exact ih (mx + 1) f cN ch H locs ls (by omega) (nt_JC_s hb1 hJ) (nt_V_keep hg01 hbi hok h5) hch hP hD hS hl
            · have hb0 : nt_b wo N v a b k = 0 := nt_b_n hu (fun q => by have := q.2.2; omega)
              refine lv_goto hx hb d_M_look_154 rfl ?_
              refine lv_iinc (k := 6) (v := dn k) (lv' := [(4, .int (dn k)), (6, .int (nI ((v - (a * wo 3 + b * wo 2 + k * wo 1)) / (wo 0)))), (5, .int (nI (v - (a * wo 3 + b * wo 2 + k * wo 1)))), (0, .ref (ad 0)), (1, .int (nI v)), (2, .int (nI a)), (3, .int (nI b))]) hx hb d_M_look_229 hl rfl rfl (by decide) rfl (fun ls hl => ?_)
              refine lv_goto hx hb d_M_look_232 rfl ?_
              have hl := lv_sub (l' := [(0, .ref (ad 0)), (1, .int (nI v)), (2, .int (nI a)), (3, .int (nI b)), (4, .int (dn k))]) hl [3, 4, 5, 6, 0] rfl
              exact ih mx f cN ch H locs ls (by omega) (nt_JC_s hb0 hJ) (nt_V_skip hg01 hbi hb0) hch hP hD hS hl
        · have hb0 : nt_b wo N v a b k = 0 := nt_b_n hu (fun q => by have := q.1; omega)
          refine lv_goto hx hb d_M_look_115 rfl ?_
          refine lv_iinc (k := 5) (v := dn k) (lv' := [(4, .int (dn k)), (5, .int (nI (v - (a * wo 3 + b * wo 2 + k * wo 1)))), (0, .ref (ad 0)), (1, .int (nI v)), (2, .int (nI a)), (3, .int (nI b))]) hx hb d_M_look_229 hl rfl rfl (by decide) rfl (fun ls hl => ?_)
          refine lv_goto hx hb d_M_look_232 rfl ?_
          have hl := lv_sub (l' := [(0, .ref (ad 0)), (1, .int (nI v)), (2, .int (nI a)), (3, .int (nI b)), (4, .int (dn k))]) hl [2, 3, 4, 5, 0] rfl
          exact ih mx f cN ch H locs ls (by omega) (nt_JC_s hb0 hJ) (nt_V_skip hg01 hbi hb0) hch hP hD hS hl
end LKA
section LKB
variable {p : Program} {l : Launch} {e : Env} {R : Room} {s : State} {m : MethodId} {args : Array Value} {below : List Frame} {meth : Method} {c : Code} {H : Heap} {locs : List Loc} {cells slots : Nat} {Q : State → Prop}
variable {g : Gc} {ad : Nat → Nat} {A : Nat → Prop} {ls : Array Slot}
variable {wo N : Nat → Nat} {cn : Nat → Int32} {th : Int32} {v a : Nat}
theorem lk_b (B : xk_B p s m args meth c y_M_look b_M_look 7 none []) (hG : nt_gd wo N) (hK : gK g s) (hRm : xw_R R cells slots rm0 2) (hv : v ≤ 2000) (ha : a ≤ N 3) (ha4 : a ≤ 40)
    (kk : ∀ (mx f : Nat) (cN : Nat → Nat) (ch : Nat → Int32) (H : Heap) (locs : List Loc) (ls : Array Slot), nt_JB wo N v a 0 mx → nt_bi wo N v (nt_VB a 0) f cN → (f ≤ 40 → ∀ i, i < 4 → ch i = nI (cN i)) → va_P g.1 cl (wM g ad (nF wo) (nF N) ch cn (nI f) (nI mx) th) H → va_D A (wM g ad (nF wo) (nF N) ch cn (nI f) (nI mx) th) → va_S A s.heap H locs → lv_has ls 7 [(0, .ref (ad 0)), (1, .int (nI v)), (2, .int (nI a))] → W p l e R s m args below meth c H locs cells slots Q (F0 m 241 ls [])) :
    ∀ (b1 : Nat) (mx f : Nat) (cN : Nat → Nat) (ch : Nat → Int32) (H : Heap) (locs : List Loc) (ls : Array Slot), b1 ≤ min (N 2) (40 - a) + 1 → nt_JB wo N v a b1 mx → nt_bi wo N v (nt_VB a b1) f cN → (f ≤ 40 → ∀ i, i < 4 → ch i = nI (cN i)) → va_P g.1 cl (wM g ad (nF wo) (nF N) ch cn (nI f) (nI mx) th) H → va_D A (wM g ad (nF wo) (nF N) ch cn (nI f) (nI mx) th) → va_S A s.heap H locs → lv_has ls 7 [(0, .ref (ad 0)), (1, .int (nI v)), (2, .int (nI a)), (3, .int (dn b1))] → W p l e R s m args below meth c H locs cells slots Q (F0 m 41 ls []) := by
  obtain ⟨hg01, hg02, hg03⟩ := hG 0 (by omega)
  obtain ⟨hg11, hg12, hg13⟩ := hG 1 (by omega)
  obtain ⟨hg21, hg22, hg23⟩ := hG 2 (by omega)
  obtain ⟨hg31, hg32, hg33⟩ := hG 3 (by omega)
  obtain ⟨hx, hb, hml, hown, hts⟩ := B.1
  intro b1
  induction b1 with
  | zero =>
    intro mx f cN ch H locs ls hc hJ hbi hch hP hD hS hl
    refine lv_iload_n hx hb d_M_look_41 rfl (lv_at hl 3 rfl) ?_
    refine n_dn hx hb d_M_look_42 rfl (by omega) (fun h => ?_) (fun k h9 => ?_)
    · have hl := lv_sub (l' := [(0, .ref (ad 0)), (1, .int (nI v)), (2, .int (nI a))]) hl [0, 1, 2] rfl
      exact kk mx f cN ch H locs ls hJ hbi hch hP hD hS hl
    · omega
  | succ b ih =>
    intro mx f cN ch H locs ls hc hJ hbi hch hP hD hS hl
    refine lv_iload_n hx hb d_M_look_41 rfl (lv_at hl 3 rfl) ?_
    refine n_dn hx hb d_M_look_42 rfl (by omega) (fun h => ?_) (fun k9 h9 => ?_)
    · omega
    · have e : b = k9 := by omega
      subst e
      rw [dn_s] at hl
      refine lv_aload_n hx hb d_M_look_45 rfl (lv_at hl 0 rfl) ?_
      refine gM_notes B.1 hK hP rfl d_M_look_46 ?_
      refine lv_iconst (v := nI 1) hx hb d_M_look_49 (by decide) ?_
      refine n_iald hx hb hK hP 2 rfl (by omega) (by decide) d_M_look_50 ?_
      refine lv_bipush (v := nI 40) hx hb d_M_look_51 (by decide) ?_
      refine lv_iload_n hx hb d_M_look_53 rfl (lv_at hl 2 rfl) ?_
      refine n_sub hx hb d_M_look_54 (by omega) ?_
      refine lv_iload_n hx hb d_M_look_55 rfl (lv_at hl 3 rfl) ?_
      refine n_sub hx hb d_M_look_56 (by omega) ?_
      refine n_min B.1 hl.1 hRm d_M_look_57 (by omega) (by omega) (Nat.le_of_ble_eq_true rfl) ?_
      refine lv_istore (lv' := [(4, .int (nI (min (N 1) ((40 - a) - b)))), (0, .ref (ad 0)), (1, .int (nI v)), (2, .int (nI a)), (3, .int (nI b))]) hx hb d_M_look_60 hl (by decide) rfl (fun ls hl => ?_)
      have hl : lv_has ls 7 [(0, .ref (ad 0)), (1, .int (nI v)), (2, .int (nI a)), (3, .int (nI b)), (4, .int (dn (min (N 1) (40 - a - b) + 1)))] := by rw [dn_s]; exact lv_sub (l' := [(0, .ref (ad 0)), (1, .int (nI v)), (2, .int (nI a)), (3, .int (nI b)), (4, .int (nI (min (N 1) ((40 - a) - b))))]) hl [1, 2, 3, 4, 0] rfl
      refine lk_c B hG hK hRm hv ha (by omega) (by omega) (fun mx f cN ch H locs ls hJ hbi hch hP hD hS hl => ?_) _ mx f cN ch H locs ls (Nat.le_refl _) (nt_JB_C hg01 (by omega) (fun c d q => ?_) hJ) (nt_V_BC hbi (fun c d q => ?_)) hch hP hD hS hl
      · skip
        refine lv_iinc (k := 3) (v := dn b) (lv' := [(3, .int (dn b)), (0, .ref (ad 0)), (1, .int (nI v)), (2, .int (nI a))]) hx hb d_M_look_235 hl rfl rfl (by decide) rfl (fun ls hl => ?_)
        refine lv_goto hx hb d_M_look_238 rfl ?_
        have hl := lv_sub (l' := [(0, .ref (ad 0)), (1, .int (nI v)), (2, .int (nI a)), (3, .int (dn b))]) hl [1, 2, 3, 0] rfl
        exact ih mx f cN ch H locs ls (by omega) (nt_JC_B hJ) (nt_V_CB hbi) hch hP hD hS hl
      · obtain ⟨q1, q2, q3, q4, q5, q6⟩ := q; omega
      · obtain ⟨q1, q2, q3, q4, q5, q6⟩ := q; omega
end LKB
section LKC
variable {p : Program} {l : Launch} {e : Env} {R : Room} {s : State} {m : MethodId} {args : Array Value} {below : List Frame} {meth : Method} {c : Code} {H : Heap} {locs : List Loc} {cells slots : Nat} {Q : State → Prop}
variable {g : Gc} {ad : Nat → Nat} {A : Nat → Prop} {ls : Array Slot}
variable {wo N : Nat → Nat} {cn : Nat → Int32} {th : Int32} {v : Nat}
theorem lk_a (B : xk_B p s m args meth c y_M_look b_M_look 7 none []) (hG : nt_gd wo N) (hK : gK g s) (hRm : xw_R R cells slots rm0 2) (hv : v ≤ 2000)
    (kk : ∀ (mx f : Nat) (cN : Nat → Nat) (ch : Nat → Int32) (H : Heap) (locs : List Loc) (ls : Array Slot), nt_JA wo N v 0 mx → nt_bi wo N v (nt_VA 0) f cN → (f ≤ 40 → ∀ i, i < 4 → ch i = nI (cN i)) → va_P g.1 cl (wM g ad (nF wo) (nF N) ch cn (nI f) (nI mx) th) H → va_D A (wM g ad (nF wo) (nF N) ch cn (nI f) (nI mx) th) → va_S A s.heap H locs → W p l e R s m args below meth c H locs cells slots Q (F0 m 247 ls [])) :
    ∀ (a1 : Nat) (mx f : Nat) (cN : Nat → Nat) (ch : Nat → Int32) (H : Heap) (locs : List Loc) (ls : Array Slot), a1 ≤ min (N 3) 40 + 1 → nt_JA wo N v a1 mx → nt_bi wo N v (nt_VA a1) f cN → (f ≤ 40 → ∀ i, i < 4 → ch i = nI (cN i)) → va_P g.1 cl (wM g ad (nF wo) (nF N) ch cn (nI f) (nI mx) th) H → va_D A (wM g ad (nF wo) (nF N) ch cn (nI f) (nI mx) th) → va_S A s.heap H locs → lv_has ls 7 [(0, .ref (ad 0)), (1, .int (nI v)), (2, .int (dn a1))] → W p l e R s m args below meth c H locs cells slots Q (F0 m 23 ls []) := by
  obtain ⟨hg01, hg02, hg03⟩ := hG 0 (by omega)
  obtain ⟨hg11, hg12, hg13⟩ := hG 1 (by omega)
  obtain ⟨hg21, hg22, hg23⟩ := hG 2 (by omega)
  obtain ⟨hg31, hg32, hg33⟩ := hG 3 (by omega)
  obtain ⟨hx, hb, hml, hown, hts⟩ := B.1
  intro a1
  induction a1 with
  | zero =>
    intro mx f cN ch H locs ls hc hJ hbi hch hP hD hS hl
    refine lv_iload_n hx hb d_M_look_23 rfl (lv_at hl 2 rfl) ?_
    refine n_dn hx hb d_M_look_24 rfl (by omega) (fun h => ?_) (fun k h9 => ?_)
    · exact kk mx f cN ch H locs ls hJ hbi hch hP hD hS
    · omega
  | succ a ih =>
    intro mx f cN ch H locs ls hc hJ hbi hch hP hD hS hl
    refine lv_iload_n hx hb d_M_look_23 rfl (lv_at hl 2 rfl) ?_
    refine n_dn hx hb d_M_look_24 rfl (by omega) (fun h => ?_) (fun k9 h9 => ?_)
    · omega
    · have e : a = k9 := by omega
      subst e
      rw [dn_s] at hl
      refine lv_aload_n hx hb d_M_look_27 rfl (lv_at hl 0 rfl) ?_
      refine gM_notes B.1 hK hP rfl d_M_look_28 ?_
      refine lv_iconst (v := nI 2) hx hb d_M_look_31 (by decide) ?_
      refine n_iald hx hb hK hP 2 rfl (by omega) (by decide) d_M_look_32 ?_
      refine lv_bipush (v := nI 40) hx hb d_M_look_33 (by decide) ?_
      refine lv_iload_n hx hb d_M_look_35 rfl (lv_at hl 2 rfl) ?_
      refine n_sub hx hb d_M_look_36 (by omega) ?_
      refine n_min B.1 hl.1 hRm d_M_look_37 (by omega) (by omega) (Nat.le_of_ble_eq_true rfl) ?_
      refine lv_istore_n (lv' := [(3, .int (nI (min (N 2) (40 - a)))), (0, .ref (ad 0)), (1, .int (nI v)), (2, .int (nI a))]) hx hb d_M_look_40 rfl hl (by decide) rfl (fun ls hl => ?_)
      have hl : lv_has ls 7 [(0, .ref (ad 0)), (1, .int (nI v)), (2, .int (nI a)), (3, .int (dn (min (N 2) (40 - a) + 1)))] := by rw [dn_s]; exact lv_sub (l' := [(0, .ref (ad 0)), (1, .int (nI v)), (2, .int (nI a)), (3, .int (nI (min (N 2) (40 - a))))]) hl [1, 2, 3, 0] rfl
      refine lk_b B hG hK hRm hv (by omega) (by omega) (fun mx f cN ch H locs ls hJ hbi hch hP hD hS hl => ?_) _ mx f cN ch H locs ls (Nat.le_refl _) (nt_JA_B hg01 (by omega) (fun b c d q => ?_) hJ) (nt_V_AB hbi (fun b c d q => ?_)) hch hP hD hS hl
      · skip
        refine lv_iinc (k := 2) (v := dn a) (lv' := [(2, .int (dn a)), (0, .ref (ad 0)), (1, .int (nI v))]) hx hb d_M_look_241 hl rfl rfl (by decide) rfl (fun ls hl => ?_)
        refine lv_goto hx hb d_M_look_244 rfl ?_
        have hl := lv_sub (l' := [(0, .ref (ad 0)), (1, .int (nI v)), (2, .int (dn a))]) hl [1, 2, 0] rfl
        exact ih mx f cN ch H locs ls (by omega) (nt_JB_A hJ) (nt_V_BA hbi) hch hP hD hS hl
      · obtain ⟨q1, q2, q3, q4, q5, q6⟩ := q; omega
      · obtain ⟨q1, q2, q3, q4, q5, q6⟩ := q; omega
end LKC
/-- look(v): how many mixes, and the best of them -/
def q_look (g : Gc) (ad : Nat → Nat) (wo N : Nat → Nat) (cn : Nat → Int32) (th : Int32) (v : Nat) (A : Nat → Prop) : Array Value → State → Outcome → State → Prop := fun _ _ o t => o = .returned none ∧ ∃ ch k, nt_bst wo N v (nt_rw wo N 4 v) k ∧ (nt_rw wo N 4 v ≤ 40 → ∀ i, i < 4 → ch i = nI (k i)) ∧ va_P g.1 cl (wM g ad (nF wo) (nF N) ch cn (nI (nt_rw wo N 4 v)) (nI (nt_cnt wo N v)) th) t.heap ∧ va_D A (wM g ad (nF wo) (nF N) ch cn (nI (nt_rw wo N 4 v)) (nI (nt_cnt wo N v)) th)
theorem c_M_look (l : Launch) (g : Gc) (ad : Nat → Nat) (wo N : Nat → Nat) (ch cn : Nat → Int32) (f mx th : Int32) (v sz : Nat) (hG : nt_gd wo N) (hv : v ≤ 2000) : Ct l y_M_look cd_M_look rmM1 (0, 0) (va_Pc [.ref (ad 0), .int (nI v)] (qM g ad (nF wo) (nF N) ch cn f mx th sz)) (q_look g ad wo N cn th v (va_A (wM g ad (nF wo) (nF N) ch cn f mx th) sz)) (va_A (wM g ad (nF wo) (nF N) ch cn f mx th) sz) := by
  refine Ct.ofW (by decide) ?_
  intro p e s m args below meth c B hpre
  obtain ⟨rfl, hsz, hP, hK, hD0⟩ := hpre
  subst hsz
  have hD := hD0.self (sz := s.heap.size)
  generalize hAe : va_A (wM g ad (nF wo) (nF N) ch cn f mx th) s.heap.size = A at hD ⊢
  have hA : ∀ q : Nat, s.heap.size ≤ q → A q := fun q h => by rw [← hAe]; exact Or.inr h
  have hS : va_S A s.heap s.heap [] := va_S.rf
  have hP : va_P g.1 cl (wM g ad (nF wo) (nF N) ch cn f mx th) s.heap := hP
  obtain ⟨⟨hx, hb, hml, hown, hts⟩, hret, hlk, hnm, hex⟩ := id B
  have hl := lv_entry ([.ref (ad 0), .int (nI v)]) (n := 7) (Nat.le_of_ble_eq_true rfl)
  rw [lg_entry_eq]
  generalize (lg_sl ([.ref (ad 0), .int (nI v)]) ++ List.replicate (7 - (lg_sl ([.ref (ad 0), .int (nI v)])).length) Slot.unset).toArray = ls at hl ⊢
  have hl : lv_has ls 7 [(0, .ref (ad 0)), (1, .int (nI v))] := hl
  obtain ⟨hg31, hg32, hg33⟩ := hG 3 (by omega)
  obtain ⟨hg01, hg02, hg03⟩ := hG 0 (by omega)
  have hRm : xw_R rmM1 0 0 rm0 2 := by decide
  refine lv_aload_n hx hb d_M_look_0 rfl (lv_at hl 0 rfl) ?_
  refine lv_iconst (v := nI 0) hx hb d_M_look_1 (by decide) ?_
  refine pM_mixes B.1 hK hP hD hS d_M_look_2 (fun H locs hP hD hS => ?_)
  have hP : va_P g.1 cl (wM g ad (nF wo) (nF N) ch cn f (nI 0) th) H := hP
  have hD : va_D A (wM g ad (nF wo) (nF N) ch cn f (nI 0) th) := hD
  refine lv_aload_n hx hb d_M_look_5 rfl (lv_at hl 0 rfl) ?_
  refine lv_bipush (v := nI 41) hx hb d_M_look_6 (by decide) ?_
  refine pM_fewest B.1 hK hP hD hS d_M_look_8 (fun H locs hP hD hS => ?_)
  have hP : va_P g.1 cl (wM g ad (nF wo) (nF N) ch cn (nI 41) (nI 0) th) H := hP
  have hD : va_D A (wM g ad (nF wo) (nF N) ch cn (nI 41) (nI 0) th) := hD
  refine lv_aload_n hx hb d_M_look_11 rfl (lv_at hl 0 rfl) ?_
  refine gM_notes B.1 hK hP rfl d_M_look_12 ?_
  refine lv_iconst (v := nI 3) hx hb d_M_look_15 (by decide) ?_
  refine n_iald hx hb hK hP 2 rfl (by omega) (by decide) d_M_look_16 ?_
  refine lv_bipush (v := nI 40) hx hb d_M_look_17 (by decide) ?_
  refine n_min B.1 hl.1 hRm d_M_look_19 (by omega) (by omega) (Nat.le_of_ble_eq_true rfl) ?_
  refine lv_istore_n (lv' := [(2, .int (nI (min (N 3) 40))), (0, .ref (ad 0)), (1, .int (nI v))]) hx hb d_M_look_22 rfl hl (by decide) rfl (fun ls hl => ?_)
  have hl : lv_has ls 7 [(0, .ref (ad 0)), (1, .int (nI v)), (2, .int (dn (min (N 3) 40 + 1)))] := by rw [dn_s]; exact lv_sub (l' := [(0, .ref (ad 0)), (1, .int (nI v)), (2, .int (nI (min (N 3) 40)))]) hl [1, 2, 0] rfl
  refine lk_a B hG hK hRm hv (fun mx f cN ch H locs ls hJ hbi hch hP hD hS => ?_) _ 0 41 (fun _ => 0) ch H locs ls (Nat.le_refl _) (nt_JA_st hg01 (by omega) (fun a b c d q => ?_)) (nt_bi_st (fun a b c d q h => ?_)) (fun q => by omega) hP hD hS hl
  · have e1 := nt_JA_0 hJ
    have hbst := nt_V_end hbi
    have e2 := nt_bst_rw (fun i hi => (hG i hi).1) hbst
    subst e1
    subst e2
    exact x_vret B hS (by decide) (by decide) (fun t ht hW => ⟨rfl, ch, cN, hbst, hch, by rw [ht]; exact hP, hD⟩) d_M_look_247
  · obtain ⟨q1, q2, q3, q4, q5, q6⟩ := q; omega
  · obtain ⟨q1, q2, q3, q4, q5, q6⟩ := q; unfold nt_VA at h; omega
end
section
/-! NoteMixModel: isBest, best, part, ways, pay -/
abbrev rmM2 : Room := { frames := 2, cells := 0, slots := 0, locals := 48 }
abbrev rmM3 : Room := { frames := 3, cells := 0, slots := 0, locals := 69 }
theorem xw_M_look {R : Room} {cells slots : Nat} (h : xw_R R cells slots rmM1 7) : xk_W R cells slots y_M_look cd_M_look rmM1 7 1 := ⟨kc_M_look, Or.inl ⟨_, _, rfl⟩, tw_2, by decide, by decide +kernel, h.1, h.2.1, h.2.2.1, h.2.2.2⟩
theorem xw_M_isBest {R : Room} {cells slots : Nat} (h : xw_R R cells slots rmM2 2) : xk_W R cells slots y_M_isBest cd_M_isBest rmM2 2 1 := ⟨kc_M_isBest, Or.inl ⟨_, _, rfl⟩, tw_2, by decide, by decide +kernel, h.1, h.2.1, h.2.2.1, h.2.2.2⟩
def q_ib (g : Gc) (ad : Nat → Nat) (wo N : Nat → Nat) (cn : Nat → Int32) (v : Int32) (A : Nat → Prop) : Array Value → State → Outcome → State → Prop := fun _ _ o t => ∃ ch f mx th, va_P g.1 cl (wM g ad (nF wo) (nF N) ch cn f mx th) t.heap ∧ va_D A (wM g ad (nF wo) (nF N) ch cn f mx th) ∧
  ((bad v 2000 ∧ th = 1 ∧ o = .returned (some (.int 0))) ∨ (cF wo N v ∧ th = 2 ∧ o = .returned (some (.int 0))) ∨
    ∃ n k, n ≤ 2000 ∧ v = nI n ∧ nt_rw wo N 4 n ≤ 40 ∧ th = 0 ∧ o = .returned (some (.int 1)) ∧ f = nI (nt_rw wo N 4 n) ∧ nt_bst wo N n (nt_rw wo N 4 n) k ∧ ∀ i, i < 4 → ch i = nI (k i))
theorem c_M_isBest (l : Launch) (g : Gc) (ad : Nat → Nat) (wo N : Nat → Nat) (ch cn : Nat → Int32) (f mx th : Int32) (v : Int32) (sz : Nat) (hG : nt_gd wo N) : Ct l y_M_isBest cd_M_isBest rmM2 (0, 0) (va_Pc [.ref (ad 0), .int v] (qM g ad (nF wo) (nF N) ch cn f mx th sz)) (q_ib g ad wo N cn v (va_A (wM g ad (nF wo) (nF N) ch cn f mx th) sz)) (va_A (wM g ad (nF wo) (nF N) ch cn f mx th) sz) := by
  refine Ct.ofW (by decide) ?_
  intro p e s m args below meth c B hpre
  obtain ⟨rfl, hsz, hP, hK, hD0⟩ := hpre
  subst hsz
  have hD := hD0.self (sz := s.heap.size)
  generalize hAe : va_A (wM g ad (nF wo) (nF N) ch cn f mx th) s.heap.size = A at hD ⊢
  have hA : ∀ q : Nat, s.heap.size ≤ q → A q := fun q h => by rw [← hAe]; exact Or.inr h
  have hS : va_S A s.heap s.heap [] := va_S.rf
  have hP : va_P g.1 cl (wM g ad (nF wo) (nF N) ch cn f mx th) s.heap := hP
  obtain ⟨⟨hx, hb, hml, hown, hts⟩, hret, hlk, hnm, hex⟩ := id B
  have hl := lv_entry ([.ref (ad 0), .int v]) (n := 2) (Nat.le_of_ble_eq_true rfl)
  rw [lg_entry_eq]
  generalize (lg_sl ([.ref (ad 0), .int v]) ++ List.replicate (2 - (lg_sl ([.ref (ad 0), .int v])).length) Slot.unset).toArray = ls at hl ⊢
  have hl : lv_has ls 2 [(0, .ref (ad 0)), (1, .int v)] := hl
  refine lv_aload_n hx hb d_M_isBest_0 rfl (lv_at hl 0 rfl) ?_
  refine lv_iload_n hx hb d_M_isBest_1 rfl (lv_at hl 1 rfl) ?_
  refine lv_iconst (v := nI 0) hx hb d_M_isBest_2 (by decide) ?_
  refine lv_sipush (v := nI 2000) hx hb d_M_isBest_3 (by decide) ?_
  refine x_pS (As := [.int v, .int (nI 0), .int (nI 2000)]) (rest := [.ref (ad 0)]) B.1 (c_M_in l v (nI 0) (nI 2000)) (xw_M_in (by decide)) tw_234 tw_235 (⟨fun _ _ _ _ q => q, fun _ _ _ => ⟨rfl, trivial⟩⟩) hl.1 (Nat.le_of_ble_eq_true rfl) hS rfl d_M_isBest_6 ?_
  refine lv_if_eq hx hb d_M_isBest_9 rfl (fun hin => ?_) (fun hin => ?_)
  · refine lv_iconst (v := nI 1) hx hb d_M_isBest_16 (by decide) ?_
    refine pM_thrown B.1 hK hP hD hS d_M_isBest_17 (fun H locs hP hD hS => ?_)
    have hP : va_P g.1 cl (wM g ad (nF wo) (nF N) ch cn f mx (nI 1)) H := hP
    have hD : va_D A (wM g ad (nF wo) (nF N) ch cn f mx (nI 1)) := hD
    refine lv_aload_n hx hb d_M_isBest_20 rfl (lv_at hl 0 rfl) ?_
    refine gM_thrown B.1 hK hP rfl d_M_isBest_21 ?_
    refine n_ifle hx hb d_M_isBest_24 rfl (by omega) (fun h9 => ?_) (fun h9 => ?_)
    · omega
    · refine lv_iconst (v := nI 0) hx hb d_M_isBest_27 (by decide) ?_
      exact x_zret B (by decide) hS (by decide) (by decide) (fun t ht hW => ⟨ch, f, mx, _, by rw [ht]; exact hP, hD, Or.inl ⟨hin, rfl, rfl⟩⟩) d_M_isBest_28
  · refine lv_iconst (v := nI 0) hx hb d_M_isBest_12 (by decide) ?_
    refine lv_goto hx hb d_M_isBest_13 rfl ?_
    refine pM_thrown B.1 hK hP hD hS d_M_isBest_17 (fun H locs hP hD hS => ?_)
    have hP : va_P g.1 cl (wM g ad (nF wo) (nF N) ch cn f mx (nI 0)) H := hP
    have hD : va_D A (wM g ad (nF wo) (nF N) ch cn f mx (nI 0)) := hD
    refine lv_aload_n hx hb d_M_isBest_20 rfl (lv_at hl 0 rfl) ?_
    refine gM_thrown B.1 hK hP rfl d_M_isBest_21 ?_
    refine n_ifle hx hb d_M_isBest_24 rfl (by omega) (fun h9 => ?_) (fun h9 => ?_)
    · obtain ⟨n, rfl, hn0, hn⟩ := in3_nI (by decide) (by decide) hin
      refine lv_aload_n hx hb d_M_isBest_29 rfl (lv_at hl 0 rfl) ?_
      refine lv_iload_n hx hb d_M_isBest_30 rfl (lv_at hl 1 rfl) ?_
      have hFc := va_free (wc := wM g ad (nF wo) (nF N) ch cn f mx (nI 0)) hD hS hA [0, 1, 2, 3, 4] rfl
      refine x_calV (C := R_M) (b := ad 0) (As := [.int (nI n)]) (rest := []) B.1 (c_M_look l g ad wo N ch cn f mx _ n _ hG hn) (xw_M_look (by decide)) tw_245 tw_247 ts_7 (recM hK hP) (preM hP hK hD) hl.1 (Nat.le_of_ble_eq_true rfl) hS hFc rfl d_M_isBest_31 (fun rv t H1 locs1 hN => ?_) (fun rx t H1 locs1 hN => ?_)
      · obtain ⟨e1, hal, ⟨st, h0, hv0, ch, k, hbst, hch, hP, hD1⟩, hz1, hk1, hS, -⟩ := hN
        cases hv0
        rw [e1] at hP
        have hD := hD1.weaken (fun k q _ h => hFc q.1 h)
        refine W.eq (g2 := F0 m 34 ls []) rfl ?_
        have hcl := nt_cnt_le wo N n
        have hr4 := nt_rw_41 wo N 4 n
        have hc0 := nt_bst_cnt (hG 0 (by omega)).1 hbst
        refine lv_aload_n hx hb d_M_isBest_34 rfl (lv_at hl 0 rfl) ?_
        refine lv_aload_n hx hb d_M_isBest_35 rfl (lv_at hl 0 rfl) ?_
        refine gM_mixes B.1 hK hP rfl d_M_isBest_36 ?_
        refine n_ifne hx hb d_M_isBest_39 rfl (by omega) (fun h8 => ?_) (fun h8 => ?_)
        · have h40 : nt_rw wo N 4 n ≤ 40 := by omega
          refine lv_iconst (v := nI 0) hx hb d_M_isBest_46 (by decide) ?_
          refine pM_thrown B.1 hK hP hD hS d_M_isBest_47 (fun H locs hP hD hS => ?_)
          have hP : va_P g.1 cl (wM g ad (nF wo) (nF N) ch cn (nI (nt_rw wo N 4 n)) (nI (nt_cnt wo N n)) (nI 0)) H := hP
          have hD : va_D A (wM g ad (nF wo) (nF N) ch cn (nI (nt_rw wo N 4 n)) (nI (nt_cnt wo N n)) (nI 0)) := hD
          refine lv_aload_n hx hb d_M_isBest_50 rfl (lv_at hl 0 rfl) ?_
          refine gM_thrown B.1 hK hP rfl d_M_isBest_51 ?_
          refine n_ifne hx hb d_M_isBest_54 rfl (by omega) (fun h7 => ?_) (fun h7 => ?_)
          · omega
          · refine lv_iconst (v := nI 1) hx hb d_M_isBest_57 (by decide) ?_
            refine lv_goto hx hb d_M_isBest_58 rfl ?_
            exact x_zret B (by decide) hS (by decide) (by decide) (fun t ht hW => ⟨ch, _, _, _, by rw [ht]; exact hP, hD, Or.inr (Or.inr ⟨n, k, hn, rfl, h40, rfl, rfl, rfl, hbst, hch h40⟩)⟩) d_M_isBest_62
        · refine lv_iconst (v := nI 2) hx hb d_M_isBest_42 (by decide) ?_
          refine lv_goto hx hb d_M_isBest_43 rfl ?_
          refine pM_thrown B.1 hK hP hD hS d_M_isBest_47 (fun H locs hP hD hS => ?_)
          have hP : va_P g.1 cl (wM g ad (nF wo) (nF N) ch cn (nI (nt_rw wo N 4 n)) (nI (nt_cnt wo N n)) (nI 2)) H := hP
          have hD : va_D A (wM g ad (nF wo) (nF N) ch cn (nI (nt_rw wo N 4 n)) (nI (nt_cnt wo N n)) (nI 2)) := hD
          refine lv_aload_n hx hb d_M_isBest_50 rfl (lv_at hl 0 rfl) ?_
          refine gM_thrown B.1 hK hP rfl d_M_isBest_51 ?_
          refine n_ifne hx hb d_M_isBest_54 rfl (by omega) (fun h7 => ?_) (fun h7 => ?_)
          · refine lv_iconst (v := nI 0) hx hb d_M_isBest_61 (by decide) ?_
            exact x_zret B (by decide) hS (by decide) (by decide) (fun t ht hW => ⟨ch, _, _, _, by rw [ht]; exact hP, hD, Or.inr (Or.inl ⟨⟨n, hn, rfl, hc0.mp h8⟩, rfl, rfl⟩)⟩) d_M_isBest_62
          · omega
      · obtain ⟨-, -, ⟨st, h0, hv0, -⟩, -⟩ := hN
        cases hv0
    · omega
/-- what a call of NoteMixModel's that answers an int comes to: 'thrown' says which -/
def qMI (g : Gc) (ad : Nat → Nat) (wo N : Nat → Nat) (A : Nat → Prop) (c1 c2 : Prop) (post : Int32 → Prop) : Array Value → State → Outcome → State → Prop := fun _ _ o t => ∃ ch cn f mx th r, va_P g.1 cl (wM g ad (nF wo) (nF N) ch cn f mx th) t.heap ∧ va_D A (wM g ad (nF wo) (nF N) ch cn f mx th) ∧ o = .returned (some (.int r)) ∧
  ((c1 ∧ th = 1) ∨ (c2 ∧ th = 2) ∨ (post r ∧ th = 0))
def pB (wo N : Nat → Nat) (v r : Int32) : Prop := ∃ n, n ≤ 2000 ∧ v = nI n ∧ nt_rw wo N 4 n ≤ 40 ∧ r = nI (nt_rw wo N 4 n)
theorem c_M_best (l : Launch) (g : Gc) (ad : Nat → Nat) (wo N : Nat → Nat) (ch cn : Nat → Int32) (f mx th : Int32) (v : Int32) (sz : Nat) (hG : nt_gd wo N) : Ct l y_M_best cd_M_best rmM3 (0, 0) (va_Pc [.ref (ad 0), .int v] (qM g ad (nF wo) (nF N) ch cn f mx th sz)) (qMI g ad wo N (va_A (wM g ad (nF wo) (nF N) ch cn f mx th) sz) (bad v 2000) (cF wo N v) (pB wo N v)) (va_A (wM g ad (nF wo) (nF N) ch cn f mx th) sz) := by
  refine Ct.ofW (by decide) ?_
  intro p e s m args below meth c B hpre
  obtain ⟨rfl, hsz, hP, hK, hD0⟩ := hpre
  subst hsz
  have hD := hD0.self (sz := s.heap.size)
  generalize hAe : va_A (wM g ad (nF wo) (nF N) ch cn f mx th) s.heap.size = A at hD ⊢
  have hA : ∀ q : Nat, s.heap.size ≤ q → A q := fun q h => by rw [← hAe]; exact Or.inr h
  have hS : va_S A s.heap s.heap [] := va_S.rf
  have hP : va_P g.1 cl (wM g ad (nF wo) (nF N) ch cn f mx th) s.heap := hP
  obtain ⟨⟨hx, hb, hml, hown, hts⟩, hret, hlk, hnm, hex⟩ := id B
  have hl := lv_entry ([.ref (ad 0), .int v]) (n := 2) (Nat.le_of_ble_eq_true rfl)
  rw [lg_entry_eq]
  generalize (lg_sl ([.ref (ad 0), .int v]) ++ List.replicate (2 - (lg_sl ([.ref (ad 0), .int v])).length) Slot.unset).toArray = ls at hl ⊢
  have hl : lv_has ls 2 [(0, .ref (ad 0)), (1, .int v)] := hl
  refine lv_aload_n hx hb d_M_best_0 rfl (lv_at hl 0 rfl) ?_
  refine lv_iload_n hx hb d_M_best_1 rfl (lv_at hl 1 rfl) ?_
  have hFc := va_free (wc := wM g ad (nF wo) (nF N) ch cn f mx th) hD hS hA [0, 1, 2, 3, 4] rfl
  refine x_calV (C := R_M) (b := ad 0) (As := [.int v]) (rest := []) B.1 (c_M_isBest l g ad wo N ch cn f mx _ v _ hG) (xw_M_isBest (by decide)) tw_241 tw_243 ts_6 (recM hK hP) (preM hP hK hD) hl.1 (Nat.le_of_ble_eq_true rfl) hS hFc rfl d_M_best_2 (fun rv t H1 locs1 hN => ?_) (fun rx t H1 locs1 hN => ?_)
  · obtain ⟨e1, hal, ⟨st, h0, ch, f, mx, th, hP, hD1, hcase⟩, hz1, hk1, hS, -⟩ := hN
    rw [e1] at hP
    have hD := hD1.weaken (fun k q _ h => hFc q.1 h)
    rcases hcase with ⟨hc1, hth, hv0⟩ | ⟨hc2, hth, hv0⟩ | ⟨n, k, hn, hvn, h40, hth, hv0, hf, hbst, hch⟩
    · cases hv0
      refine W.eq (g2 := F0 m 5 ls [.int 0]) rfl ?_
      refine lv_if_eq hx hb d_M_best_5 rfl (fun h => ?_) (fun h => ?_)
      · refine lv_iconst (v := nI 0) hx hb d_M_best_15 (by decide) ?_
        exact x_iret B hS (by decide) (by decide) (fun t ht hW => ⟨ch, cn, f, mx, th, _, by rw [ht]; exact hP, hD, rfl, Or.inl ⟨hc1, hth⟩⟩) d_M_best_16
      · exact absurd rfl h
    · cases hv0
      refine W.eq (g2 := F0 m 5 ls [.int 0]) rfl ?_
      refine lv_if_eq hx hb d_M_best_5 rfl (fun h => ?_) (fun h => ?_)
      · refine lv_iconst (v := nI 0) hx hb d_M_best_15 (by decide) ?_
        exact x_iret B hS (by decide) (by decide) (fun t ht hW => ⟨ch, cn, f, mx, th, _, by rw [ht]; exact hP, hD, rfl, Or.inr (Or.inl ⟨hc2, hth⟩)⟩) d_M_best_16
      · exact absurd rfl h
    · cases hv0
      refine W.eq (g2 := F0 m 5 ls [.int 1]) rfl ?_
      refine lv_if_eq hx hb d_M_best_5 rfl (fun h => ?_) (fun h => ?_)
      · exact absurd h (by decide)
      · refine lv_aload_n hx hb d_M_best_8 rfl (lv_at hl 0 rfl) ?_
        refine gM_fewest B.1 hK hP rfl d_M_best_9 ?_
        refine lv_goto hx hb d_M_best_12 rfl ?_
        exact x_iret B hS (by decide) (by decide) (fun t ht hW => ⟨ch, cn, f, mx, th, _, by rw [ht]; exact hP, hD, rfl, Or.inr (Or.inr ⟨⟨n, hn, hvn, h40, hf⟩, hth⟩)⟩) d_M_best_16
  · obtain ⟨-, -, ⟨st, h0, ch, f, mx, th, -, -, hcase⟩, -⟩ := hN
    rcases hcase with ⟨-, -, hv0⟩ | ⟨-, -, hv0⟩ | ⟨n, k, -, -, -, -, hv0, -⟩ <;> cases hv0
theorem c_M_part (l : Launch) (g : Gc) (ad : Nat → Nat) (wo N : Nat → Nat) (ch cn : Nat → Int32) (f mx th : Int32) (v cI : Int32) (sz : Nat) (hG : nt_gd wo N) : Ct l y_M_part cd_M_part rmM3 (0, 0) (va_Pc [.ref (ad 0), .int v, .int cI] (qM g ad (nF wo) (nF N) ch cn f mx th sz)) (qMI g ad wo N (va_A (wM g ad (nF wo) (nF N) ch cn f mx th) sz) (bad cI 3 ∨ (¬ bad cI 3 ∧ bad v 2000)) (¬ bad cI 3 ∧ cF wo N v) (fun r => pP wo N v cI r (fun _ => 0))) (va_A (wM g ad (nF wo) (nF N) ch cn f mx th) sz) := by
  refine Ct.ofW (by decide) ?_
  intro p e s m args below meth c B hpre
  obtain ⟨rfl, hsz, hP, hK, hD0⟩ := hpre
  subst hsz
  have hD := hD0.self (sz := s.heap.size)
  generalize hAe : va_A (wM g ad (nF wo) (nF N) ch cn f mx th) s.heap.size = A at hD ⊢
  have hA : ∀ q : Nat, s.heap.size ≤ q → A q := fun q h => by rw [← hAe]; exact Or.inr h
  have hS : va_S A s.heap s.heap [] := va_S.rf
  have hP : va_P g.1 cl (wM g ad (nF wo) (nF N) ch cn f mx th) s.heap := hP
  obtain ⟨⟨hx, hb, hml, hown, hts⟩, hret, hlk, hnm, hex⟩ := id B
  have hl := lv_entry ([.ref (ad 0), .int v, .int cI]) (n := 3) (Nat.le_of_ble_eq_true rfl)
  rw [lg_entry_eq]
  generalize (lg_sl ([.ref (ad 0), .int v, .int cI]) ++ List.replicate (3 - (lg_sl ([.ref (ad 0), .int v, .int cI])).length) Slot.unset).toArray = ls at hl ⊢
  have hl : lv_has ls 3 [(0, .ref (ad 0)), (1, .int v), (2, .int cI)] := hl
  refine lv_aload_n hx hb d_M_part_0 rfl (lv_at hl 0 rfl) ?_
  refine lv_iload_n hx hb d_M_part_1 rfl (lv_at hl 2 rfl) ?_
  refine lv_iconst (v := nI 0) hx hb d_M_part_2 (by decide) ?_
  refine lv_iconst (v := nI 3) hx hb d_M_part_3 (by decide) ?_
  refine x_pS (As := [.int cI, .int (nI 0), .int (nI 3)]) (rest := [.ref (ad 0)]) B.1 (c_M_in l cI (nI 0) (nI 3)) (xw_M_in (by decide)) tw_234 tw_235 (⟨fun _ _ _ _ q => q, fun _ _ _ => ⟨rfl, trivial⟩⟩) hl.1 (Nat.le_of_ble_eq_true rfl) hS rfl d_M_part_4 ?_
  refine lv_if_eq hx hb d_M_part_7 rfl (fun hin => ?_) (fun hin => ?_)
  · refine lv_iconst (v := nI 1) hx hb d_M_part_14 (by decide) ?_
    refine pM_thrown B.1 hK hP hD hS d_M_part_15 (fun H locs hP hD hS => ?_)
    have hP : va_P g.1 cl (wM g ad (nF wo) (nF N) ch cn f mx (nI 1)) H := hP
    have hD : va_D A (wM g ad (nF wo) (nF N) ch cn f mx (nI 1)) := hD
    refine lv_aload_n hx hb d_M_part_18 rfl (lv_at hl 0 rfl) ?_
    refine gM_thrown B.1 hK hP rfl d_M_part_19 ?_
    refine n_ifne hx hb d_M_part_22 rfl (by omega) (fun h9 => ?_) (fun h9 => ?_)
    · refine lv_iconst (v := nI 0) hx hb d_M_part_42 (by decide) ?_
      exact x_iret B hS (by decide) (by decide) (fun t ht hW => ⟨ch, cn, f, mx, _, _, by rw [ht]; exact hP, hD, rfl, Or.inl ⟨Or.inl hin, rfl⟩⟩) d_M_part_43
    · omega
  · refine lv_iconst (v := nI 0) hx hb d_M_part_10 (by decide) ?_
    refine lv_goto hx hb d_M_part_11 rfl ?_
    refine pM_thrown B.1 hK hP hD hS d_M_part_15 (fun H locs hP hD hS => ?_)
    have hP : va_P g.1 cl (wM g ad (nF wo) (nF N) ch cn f mx (nI 0)) H := hP
    have hD : va_D A (wM g ad (nF wo) (nF N) ch cn f mx (nI 0)) := hD
    refine lv_aload_n hx hb d_M_part_18 rfl (lv_at hl 0 rfl) ?_
    refine gM_thrown B.1 hK hP rfl d_M_part_19 ?_
    refine n_ifne hx hb d_M_part_22 rfl (by omega) (fun h9 => ?_) (fun h9 => ?_)
    · omega
    · obtain ⟨j, rfl, hj0, hj⟩ := in3_nI (by decide) (by decide) hin
      refine lv_aload_n hx hb d_M_part_25 rfl (lv_at hl 0 rfl) ?_
      refine lv_iload_n hx hb d_M_part_26 rfl (lv_at hl 1 rfl) ?_
      have hFc := va_free (wc := wM g ad (nF wo) (nF N) ch cn f mx (nI 0)) hD hS hA [0, 1, 2, 3, 4] rfl
      refine x_calV (C := R_M) (b := ad 0) (As := [.int v]) (rest := []) B.1 (c_M_isBest l g ad wo N ch cn f mx _ v _ hG) (xw_M_isBest (by decide)) tw_241 tw_243 ts_6 (recM hK hP) (preM hP hK hD) hl.1 (Nat.le_of_ble_eq_true rfl) hS hFc rfl d_M_part_27 (fun rv t H1 locs1 hN => ?_) (fun rx t H1 locs1 hN => ?_)
      · obtain ⟨e1, hal, ⟨st, h0, ch, f, mx, th, hP, hD1, hcase⟩, hz1, hk1, hS, -⟩ := hN
        rw [e1] at hP
        have hD := hD1.weaken (fun k q _ h => hFc q.1 h)
        rcases hcase with ⟨hc1, hth, hv0⟩ | ⟨hc2, hth, hv0⟩ | ⟨n, k, hn, hvn, h40, hth, hv0, hf, hbst, hch⟩
        · cases hv0
          refine W.eq (g2 := F0 m 30 ls [.int 0]) rfl ?_
          refine lv_if_eq hx hb d_M_part_30 rfl (fun h => ?_) (fun h => ?_)
          · refine lv_iconst (v := nI 0) hx hb d_M_part_42 (by decide) ?_
            exact x_iret B hS (by decide) (by decide) (fun t ht hW => ⟨ch, cn, f, mx, th, _, by rw [ht]; exact hP, hD, rfl, Or.inl ⟨Or.inr ⟨hin, hc1⟩, hth⟩⟩) d_M_part_43
          · exact absurd rfl h
        · cases hv0
          refine W.eq (g2 := F0 m 30 ls [.int 0]) rfl ?_
          refine lv_if_eq hx hb d_M_part_30 rfl (fun h => ?_) (fun h => ?_)
          · refine lv_iconst (v := nI 0) hx hb d_M_part_42 (by decide) ?_
            exact x_iret B hS (by decide) (by decide) (fun t ht hW => ⟨ch, cn, f, mx, th, _, by rw [ht]; exact hP, hD, rfl, Or.inr (Or.inl ⟨⟨hin, hc2⟩, hth⟩)⟩) d_M_part_43
          · exact absurd rfl h
        · cases hv0
          refine W.eq (g2 := F0 m 30 ls [.int 1]) rfl ?_
          refine lv_if_eq hx hb d_M_part_30 rfl (fun h => ?_) (fun h => ?_)
          · exact absurd h (by decide)
          · refine lv_aload_n hx hb d_M_part_33 rfl (lv_at hl 0 rfl) ?_
            refine gM_chosen B.1 hK hP rfl d_M_part_34 ?_
            refine lv_iload_n hx hb d_M_part_37 rfl (lv_at hl 2 rfl) ?_
            refine n_iald hx hb hK hP 3 rfl (by omega) (by decide) d_M_part_38 ?_
            refine lv_goto hx hb d_M_part_39 rfl ?_
            exact x_iret B hS (by decide) (by decide) (fun t ht hW => ⟨ch, cn, f, mx, th, _, by rw [ht]; exact hP, hD, rfl, Or.inr (Or.inr ⟨⟨n, j, k, hn, hvn, by omega, rfl, h40, hbst, hch j (by omega)⟩, hth⟩)⟩) d_M_part_43
      · obtain ⟨-, -, ⟨st, h0, ch, f, mx, th, -, -, hcase⟩, -⟩ := hN
        rcases hcase with ⟨-, -, hv0⟩ | ⟨-, -, hv0⟩ | ⟨n, k, -, -, -, -, hv0, -⟩ <;> cases hv0
theorem c_M_ways (l : Launch) (g : Gc) (ad : Nat → Nat) (wo N : Nat → Nat) (ch cn : Nat → Int32) (f mx th : Int32) (v : Int32) (sz : Nat) (hG : nt_gd wo N) : Ct l y_M_ways cd_M_ways rmM2 (0, 0) (va_Pc [.ref (ad 0), .int v] (qM g ad (nF wo) (nF N) ch cn f mx th sz)) (qMI g ad wo N (va_A (wM g ad (nF wo) (nF N) ch cn f mx th) sz) (bad v 2000) False (fun r => pY wo N v r (fun _ => 0))) (va_A (wM g ad (nF wo) (nF N) ch cn f mx th) sz) := by
  refine Ct.ofW (by decide) ?_
  intro p e s m args below meth c B hpre
  obtain ⟨rfl, hsz, hP, hK, hD0⟩ := hpre
  subst hsz
  have hD := hD0.self (sz := s.heap.size)
  generalize hAe : va_A (wM g ad (nF wo) (nF N) ch cn f mx th) s.heap.size = A at hD ⊢
  have hA : ∀ q : Nat, s.heap.size ≤ q → A q := fun q h => by rw [← hAe]; exact Or.inr h
  have hS : va_S A s.heap s.heap [] := va_S.rf
  have hP : va_P g.1 cl (wM g ad (nF wo) (nF N) ch cn f mx th) s.heap := hP
  obtain ⟨⟨hx, hb, hml, hown, hts⟩, hret, hlk, hnm, hex⟩ := id B
  have hl := lv_entry ([.ref (ad 0), .int v]) (n := 2) (Nat.le_of_ble_eq_true rfl)
  rw [lg_entry_eq]
  generalize (lg_sl ([.ref (ad 0), .int v]) ++ List.replicate (2 - (lg_sl ([.ref (ad 0), .int v])).length) Slot.unset).toArray = ls at hl ⊢
  have hl : lv_has ls 2 [(0, .ref (ad 0)), (1, .int v)] := hl
  refine lv_aload_n hx hb d_M_ways_0 rfl (lv_at hl 0 rfl) ?_
  refine lv_iload_n hx hb d_M_ways_1 rfl (lv_at hl 1 rfl) ?_
  refine lv_iconst (v := nI 0) hx hb d_M_ways_2 (by decide) ?_
  refine lv_sipush (v := nI 2000) hx hb d_M_ways_3 (by decide) ?_
  refine x_pS (As := [.int v, .int (nI 0), .int (nI 2000)]) (rest := [.ref (ad 0)]) B.1 (c_M_in l v (nI 0) (nI 2000)) (xw_M_in (by decide)) tw_234 tw_235 (⟨fun _ _ _ _ q => q, fun _ _ _ => ⟨rfl, trivial⟩⟩) hl.1 (Nat.le_of_ble_eq_true rfl) hS rfl d_M_ways_6 ?_
  refine lv_if_eq hx hb d_M_ways_9 rfl (fun hin => ?_) (fun hin => ?_)
  · refine lv_iconst (v := nI 1) hx hb d_M_ways_16 (by decide) ?_
    refine pM_thrown B.1 hK hP hD hS d_M_ways_17 (fun H locs hP hD hS => ?_)
    have hP : va_P g.1 cl (wM g ad (nF wo) (nF N) ch cn f mx (nI 1)) H := hP
    have hD : va_D A (wM g ad (nF wo) (nF N) ch cn f mx (nI 1)) := hD
    refine lv_aload_n hx hb d_M_ways_20 rfl (lv_at hl 0 rfl) ?_
    refine gM_thrown B.1 hK hP rfl d_M_ways_21 ?_
    refine n_ifle hx hb d_M_ways_24 rfl (by omega) (fun h9 => ?_) (fun h9 => ?_)
    · omega
    · refine lv_iconst (v := nI 0) hx hb d_M_ways_27 (by decide) ?_
      exact x_iret B hS (by decide) (by decide) (fun t ht hW => ⟨ch, cn, f, mx, _, _, by rw [ht]; exact hP, hD, rfl, Or.inl ⟨hin, rfl⟩⟩) d_M_ways_28
  · refine lv_iconst (v := nI 0) hx hb d_M_ways_12 (by decide) ?_
    refine lv_goto hx hb d_M_ways_13 rfl ?_
    refine pM_thrown B.1 hK hP hD hS d_M_ways_17 (fun H locs hP hD hS => ?_)
    have hP : va_P g.1 cl (wM g ad (nF wo) (nF N) ch cn f mx (nI 0)) H := hP
    have hD : va_D A (wM g ad (nF wo) (nF N) ch cn f mx (nI 0)) := hD
    refine lv_aload_n hx hb d_M_ways_20 rfl (lv_at hl 0 rfl) ?_
    refine gM_thrown B.1 hK hP rfl d_M_ways_21 ?_
    refine n_ifle hx hb d_M_ways_24 rfl (by omega) (fun h9 => ?_) (fun h9 => ?_)
    · obtain ⟨n, rfl, hn0, hn⟩ := in3_nI (by decide) (by decide) hin
      refine lv_aload_n hx hb d_M_ways_29 rfl (lv_at hl 0 rfl) ?_
      refine lv_iload_n hx hb d_M_ways_30 rfl (lv_at hl 1 rfl) ?_
      have hFc := va_free (wc := wM g ad (nF wo) (nF N) ch cn f mx (nI 0)) hD hS hA [0, 1, 2, 3, 4] rfl
      refine x_calV (C := R_M) (b := ad 0) (As := [.int (nI n)]) (rest := []) B.1 (c_M_look l g ad wo N ch cn f mx _ n _ hG hn) (xw_M_look (by decide)) tw_245 tw_247 ts_7 (recM hK hP) (preM hP hK hD) hl.1 (Nat.le_of_ble_eq_true rfl) hS hFc rfl d_M_ways_31 (fun rv t H1 locs1 hN => ?_) (fun rx t H1 locs1 hN => ?_)
      · obtain ⟨e1, hal, ⟨st, h0, hv0, ch, k, hbst, hch, hP, hD1⟩, hz1, hk1, hS, -⟩ := hN
        cases hv0
        rw [e1] at hP
        have hD := hD1.weaken (fun k q _ h => hFc q.1 h)
        refine W.eq (g2 := F0 m 34 ls []) rfl ?_
        refine lv_aload_n hx hb d_M_ways_34 rfl (lv_at hl 0 rfl) ?_
        refine gM_mixes B.1 hK hP rfl d_M_ways_35 ?_
        exact x_iret B hS (by decide) (by decide) (fun t ht hW => ⟨ch, cn, _, _, _, _, by rw [ht]; exact hP, hD, rfl, Or.inr (Or.inr ⟨⟨n, hn, rfl, rfl⟩, rfl⟩)⟩) d_M_ways_38
      · obtain ⟨-, -, ⟨st, h0, hv0, -⟩, -⟩ := hN
        cases hv0
    · omega
section PYM
variable {p : Program} {l : Launch} {e : Env} {R : Room} {s : State} {m : MethodId} {args : Array Value} {below : List Frame} {meth : Method} {c : Code} {H : Heap} {locs : List Loc} {cells slots : Nat} {Q : State → Prop}
variable {g : Gc} {ad : Nat → Nat} {A : Nat → Prop} {ls : Array Slot}
variable {wo : Nat → Nat} {ch cn : Nat → Int32} {f mx th : Int32} {k : Nat → Nat} {v jam : Nat}
theorem py_M {RES : (Nat → Nat) × Nat} (B : xk_B p s m args meth c y_M_pay b_M_pay 7 (some .int) []) (hW5 : ∀ i, i < 4 → wo i ≤ 500) (hK : gK g s) (hRm : xw_R R cells slots rm0 2) (hch0 : ∀ i, i < 4 → ch i = nI (k i))
    (kk : ∀ (Nc : Nat → Nat) (out : Nat) (H : Heap) (locs : List Loc) (ls : Array Slot), (Nc, out) = RES → va_P g.1 cl (wM g ad (nF wo) (nF Nc) ch cn f mx th) H → va_D A (wM g ad (nF wo) (nF Nc) ch cn f mx th) → va_S A s.heap H locs → lv_has ls 7 [(0, .ref (ad 0)), (4, .int (nI out))] → W p l e R s m args below meth c H locs cells slots Q (F0 m 100 ls [])) :
    ∀ (r : Nat) (Nc : Nat → Nat) (left out : Nat) (H : Heap) (locs : List Loc) (ls : Array Slot), r ≤ 4 → (∀ i, i < r → k i ≤ Nc i) → (∀ i, i < 4 → Nc i ≤ 500) → left ≤ 40 → out + left * 500 ≤ 20000 → nt_py wo k r Nc left out = RES → va_P g.1 cl (wM g ad (nF wo) (nF Nc) ch cn f mx th) H → va_D A (wM g ad (nF wo) (nF Nc) ch cn f mx th) → va_S A s.heap H locs → lv_has ls 7 [(0, .ref (ad 0)), (1, .int (nI v)), (2, .int (nI jam)), (3, .int (nI left)), (4, .int (nI out)), (5, .int (dn r))] → W p l e R s m args below meth c H locs cells slots Q (F0 m 44 ls []) := by
  obtain ⟨hx, hb, hml, hown, hts⟩ := B.1
  intro r
  induction r with
  | zero =>
    intro Nc left out H locs ls hr hch hN5 hle hout hres hP hD hS hl
    refine lv_iload hx hb d_M_pay_44 (lv_at hl 5 rfl) ?_
    refine n_dn hx hb d_M_pay_46 rfl (by omega) (fun h => ?_) (fun k0 h9 => ?_)
    · have hl := lv_sub (l' := [(0, .ref (ad 0)), (4, .int (nI out))]) hl [0, 4] rfl
      exact kk Nc out H locs ls hres hP hD hS hl
    · omega
  | succ r ih =>
    intro Nc left out H locs ls hr hch hN5 hle hout hres hP hD hS hl
    have hc1 := hch r (by omega)
    have hc2 := hN5 r (by omega)
    have hc3 := hW5 r (by omega)
    have hnw : min left (k r) * wo r ≤ min left (k r) * 500 := Nat.mul_le_mul_left _ hc3
    refine lv_iload hx hb d_M_pay_44 (lv_at hl 5 rfl) ?_
    refine n_dn hx hb d_M_pay_46 rfl (by omega) (fun h => ?_) (fun k9 h9 => ?_)
    · omega
    · have e : r = k9 := by omega
      subst e
      rw [dn_s] at hl
      refine lv_iload_n hx hb d_M_pay_49 rfl (lv_at hl 3 rfl) ?_
      refine lv_aload_n hx hb d_M_pay_50 rfl (lv_at hl 0 rfl) ?_
      refine gM_chosen B.1 hK hP rfl d_M_pay_51 ?_
      refine lv_iload hx hb d_M_pay_54 (lv_at hl 5 rfl) ?_
      refine n_iald hx hb hK hP 3 rfl (by omega) (by decide) d_M_pay_56 ?_
      rw [hch0 r (by omega)]
      refine n_min B.1 hl.1 hRm d_M_pay_57 (by omega) (by omega) (Nat.le_of_ble_eq_true rfl) ?_
      refine lv_istore (lv' := [(6, .int (nI (min left (k r)))), (0, .ref (ad 0)), (1, .int (nI v)), (2, .int (nI jam)), (3, .int (nI left)), (4, .int (nI out)), (5, .int (nI r))]) hx hb d_M_pay_60 hl (by decide) rfl (fun ls hl => ?_)
      refine lv_aload_n hx hb d_M_pay_62 rfl (lv_at hl 1 rfl) ?_
      refine gM_notes B.1 hK hP rfl d_M_pay_63 ?_
      refine lv_iload hx hb d_M_pay_66 (lv_at hl 6 rfl) ?_
      refine lv_dup2_11 hx hb d_M_pay_68 rfl rfl ?_
      refine n_iald hx hb hK hP 2 rfl (by omega) (by decide) d_M_pay_69 ?_
      refine lv_iload hx hb d_M_pay_70 (lv_at hl 0 rfl) ?_
      refine n_sub hx hb d_M_pay_72 (by omega) ?_
      refine n_iast hx hb hK hP hD hS 2 rfl (by omega) (by decide) d_M_pay_73 (fun H locs hP hD hS => ?_)
      rw [nF_up] at hP hD
      have hP : va_P g.1 cl (wM g ad (nF wo) (nF (nt_up Nc r (Nc r - min left (k r)))) ch cn f mx th) H := hP
      have hD : va_D A (wM g ad (nF wo) (nF (nt_up Nc r (Nc r - min left (k r)))) ch cn f mx th) := hD
      refine lv_iload_n hx hb d_M_pay_74 rfl (lv_at hl 4 rfl) ?_
      refine lv_iload hx hb d_M_pay_75 (lv_at hl 0 rfl) ?_
      refine n_sub hx hb d_M_pay_77 (by omega) ?_
      refine lv_istore_n (lv' := [(3, .int (nI (left - (min left (k r))))), (6, .int (nI (min left (k r)))), (0, .ref (ad 0)), (1, .int (nI v)), (2, .int (nI jam)), (4, .int (nI out)), (5, .int (nI r))]) hx hb d_M_pay_78 rfl hl (by decide) rfl (fun ls hl => ?_)
      refine lv_iload hx hb d_M_pay_79 (lv_at hl 5 rfl) ?_
      refine lv_iload hx hb d_M_pay_81 (lv_at hl 1 rfl) ?_
      refine lv_aload_n hx hb d_M_pay_83 rfl (lv_at hl 2 rfl) ?_
      refine gM_worth B.1 hK hP rfl d_M_pay_84 ?_
      refine lv_iload hx hb d_M_pay_87 (lv_at hl 6 rfl) ?_
      refine n_iald hx hb hK hP 1 rfl (by omega) (by decide) d_M_pay_89 ?_
      refine n_mul hx hb d_M_pay_90 ?_
      refine n_add hx hb d_M_pay_91 ?_
      refine lv_istore (lv' := [(4, .int (nI (out + ((min left (k r)) * (wo r))))), (3, .int (nI (left - (min left (k r))))), (6, .int (nI (min left (k r)))), (0, .ref (ad 0)), (1, .int (nI v)), (2, .int (nI jam)), (5, .int (nI r))]) hx hb d_M_pay_92 hl (by decide) rfl (fun ls hl => ?_)
      refine lv_iinc (k := 6) (v := dn r) (lv' := [(5, .int (dn r)), (4, .int (nI (out + ((min left (k r)) * (wo r))))), (3, .int (nI (left - (min left (k r))))), (6, .int (nI (min left (k r)))), (0, .ref (ad 0)), (1, .int (nI v)), (2, .int (nI jam))]) hx hb d_M_pay_94 hl rfl rfl (by decide) rfl (fun ls hl => ?_)
      refine lv_goto hx hb d_M_pay_97 rfl ?_
      have hl := lv_sub (l' := [(0, .ref (ad 0)), (1, .int (nI v)), (2, .int (nI jam)), (3, .int (nI (left - (min left (k r))))), (4, .int (nI (out + ((min left (k r)) * (wo r))))), (5, .int (dn r))]) hl [4, 5, 6, 2, 1, 0] rfl
      have hres2 : nt_py wo k r (nt_up Nc r (Nc r - min (k r) left)) (left - min (k r) left) (out + min (k r) left * wo r) = RES := hres
      rw [Nat.min_comm] at hres2
      refine ih _ _ _ H locs ls (by omega) (fun i hi => ?_) (fun i hi => ?_) (by omega) (by omega) hres2 hP hD hS hl
      · unfold nt_up; rw [if_neg (by omega)]; exact hch i (by omega)
      · unfold nt_up; split
        · omega
        · exact hN5 i hi
end PYM
def qMP (g : Gc) (ad : Nat → Nat) (wo N : Nat → Nat) (A : Nat → Prop) (v jI : Int32) : Array Value → State → Outcome → State → Prop := fun _ _ o t => ∃ M ch cn f mx th r, va_P g.1 cl (wM g ad (nF wo) (nF M) ch cn f mx th) t.heap ∧ va_D A (wM g ad (nF wo) (nF M) ch cn f mx th) ∧ o = .returned (some (.int r)) ∧
  (((bad jI 40 ∨ (¬ bad jI 40 ∧ bad v 2000)) ∧ M = N ∧ th = 1) ∨ ((¬ bad jI 40 ∧ cF wo N v) ∧ M = N ∧ th = 2) ∨
    ((∃ n j k, n ≤ 2000 ∧ v = nI n ∧ j ≤ 40 ∧ jI = nI j ∧ nt_rw wo N 4 n ≤ 40 ∧ nt_bst wo N n (nt_rw wo N 4 n) k ∧ M = (nt_py wo k 4 N j 0).1 ∧ r = nI (nt_py wo k 4 N j 0).2) ∧ th = 0))
theorem c_M_pay (l : Launch) (g : Gc) (ad : Nat → Nat) (wo N : Nat → Nat) (ch cn : Nat → Int32) (f mx th : Int32) (v jI : Int32) (sz : Nat) (hG : nt_gd wo N) : Ct l y_M_pay cd_M_pay rmM3 (0, 0) (va_Pc [.ref (ad 0), .int v, .int jI] (qM g ad (nF wo) (nF N) ch cn f mx th sz)) (qMP g ad wo N (va_A (wM g ad (nF wo) (nF N) ch cn f mx th) sz) v jI) (va_A (wM g ad (nF wo) (nF N) ch cn f mx th) sz) := by
  refine Ct.ofW (by decide) ?_
  intro p e s m args below meth c B hpre
  obtain ⟨rfl, hsz, hP, hK, hD0⟩ := hpre
  subst hsz
  have hD := hD0.self (sz := s.heap.size)
  generalize hAe : va_A (wM g ad (nF wo) (nF N) ch cn f mx th) s.heap.size = A at hD ⊢
  have hA : ∀ q : Nat, s.heap.size ≤ q → A q := fun q h => by rw [← hAe]; exact Or.inr h
  have hS : va_S A s.heap s.heap [] := va_S.rf
  have hP : va_P g.1 cl (wM g ad (nF wo) (nF N) ch cn f mx th) s.heap := hP
  obtain ⟨⟨hx, hb, hml, hown, hts⟩, hret, hlk, hnm, hex⟩ := id B
  have hl := lv_entry ([.ref (ad 0), .int v, .int jI]) (n := 7) (Nat.le_of_ble_eq_true rfl)
  rw [lg_entry_eq]
  generalize (lg_sl ([.ref (ad 0), .int v, .int jI]) ++ List.replicate (7 - (lg_sl ([.ref (ad 0), .int v, .int jI])).length) Slot.unset).toArray = ls at hl ⊢
  have hl : lv_has ls 7 [(0, .ref (ad 0)), (1, .int v), (2, .int jI)] := hl
  refine lv_aload_n hx hb d_M_pay_0 rfl (lv_at hl 0 rfl) ?_
  refine lv_iload_n hx hb d_M_pay_1 rfl (lv_at hl 2 rfl) ?_
  refine lv_iconst (v := nI 0) hx hb d_M_pay_2 (by decide) ?_
  refine lv_bipush (v := nI 40) hx hb d_M_pay_3 (by decide) ?_
  refine x_pS (As := [.int jI, .int (nI 0), .int (nI 40)]) (rest := [.ref (ad 0)]) B.1 (c_M_in l jI (nI 0) (nI 40)) (xw_M_in (by decide)) tw_234 tw_235 (⟨fun _ _ _ _ q => q, fun _ _ _ => ⟨rfl, trivial⟩⟩) hl.1 (Nat.le_of_ble_eq_true rfl) hS rfl d_M_pay_5 ?_
  refine lv_if_eq hx hb d_M_pay_8 rfl (fun hin => ?_) (fun hin => ?_)
  · refine lv_iconst (v := nI 1) hx hb d_M_pay_15 (by decide) ?_
    refine pM_thrown B.1 hK hP hD hS d_M_pay_16 (fun H locs hP hD hS => ?_)
    have hP : va_P g.1 cl (wM g ad (nF wo) (nF N) ch cn f mx (nI 1)) H := hP
    have hD : va_D A (wM g ad (nF wo) (nF N) ch cn f mx (nI 1)) := hD
    refine lv_aload_n hx hb d_M_pay_19 rfl (lv_at hl 0 rfl) ?_
    refine gM_thrown B.1 hK hP rfl d_M_pay_20 ?_
    refine n_ifgt hx hb d_M_pay_23 rfl (by omega) (fun h9 => ?_) (fun h9 => ?_)
    · refine lv_iconst (v := nI 0) hx hb d_M_pay_34 (by decide) ?_
      exact x_iret B hS (by decide) (by decide) (fun t ht hW => ⟨N, ch, cn, f, mx, _, _, by rw [ht]; exact hP, hD, rfl, Or.inl ⟨Or.inl hin, rfl, rfl⟩⟩) d_M_pay_35
    · omega
  · refine lv_iconst (v := nI 0) hx hb d_M_pay_11 (by decide) ?_
    refine lv_goto hx hb d_M_pay_12 rfl ?_
    refine pM_thrown B.1 hK hP hD hS d_M_pay_16 (fun H locs hP hD hS => ?_)
    have hP : va_P g.1 cl (wM g ad (nF wo) (nF N) ch cn f mx (nI 0)) H := hP
    have hD : va_D A (wM g ad (nF wo) (nF N) ch cn f mx (nI 0)) := hD
    refine lv_aload_n hx hb d_M_pay_19 rfl (lv_at hl 0 rfl) ?_
    refine gM_thrown B.1 hK hP rfl d_M_pay_20 ?_
    refine n_ifgt hx hb d_M_pay_23 rfl (by omega) (fun h9 => ?_) (fun h9 => ?_)
    · omega
    · obtain ⟨j, rfl, hj0, hj⟩ := in3_nI (by decide) (by decide) hin
      refine lv_aload_n hx hb d_M_pay_26 rfl (lv_at hl 0 rfl) ?_
      refine lv_iload_n hx hb d_M_pay_27 rfl (lv_at hl 1 rfl) ?_
      have hFc := va_free (wc := wM g ad (nF wo) (nF N) ch cn f mx (nI 0)) hD hS hA [0, 1, 2, 3, 4] rfl
      refine x_calV (C := R_M) (b := ad 0) (As := [.int v]) (rest := []) B.1 (c_M_isBest l g ad wo N ch cn f mx _ v _ hG) (xw_M_isBest (by decide)) tw_241 tw_243 ts_6 (recM hK hP) (preM hP hK hD) hl.1 (Nat.le_of_ble_eq_true rfl) hS hFc rfl d_M_pay_28 (fun rv t H1 locs1 hN => ?_) (fun rx t H1 locs1 hN => ?_)
      · obtain ⟨e1, hal, ⟨st, h0, ch, f, mx, th, hP, hD1, hcase⟩, hz1, hk1, hS, -⟩ := hN
        rw [e1] at hP
        have hD := hD1.weaken (fun k q _ h => hFc q.1 h)
        rcases hcase with ⟨hc1, hth, hv0⟩ | ⟨hc2, hth, hv0⟩ | ⟨n, k, hn, hvn, h40, hth, hv0, hf, hbst, hch⟩
        · cases hv0
          refine W.eq (g2 := F0 m 31 ls [.int 0]) rfl ?_
          refine lv_if_ne hx hb d_M_pay_31 rfl (fun h => ?_) (fun h => ?_)
          · exact absurd rfl h
          · refine lv_iconst (v := nI 0) hx hb d_M_pay_34 (by decide) ?_
            exact x_iret B hS (by decide) (by decide) (fun t ht hW => ⟨N, ch, cn, f, mx, th, _, by rw [ht]; exact hP, hD, rfl, Or.inl ⟨Or.inr ⟨hin, hc1⟩, rfl, hth⟩⟩) d_M_pay_35
        · cases hv0
          refine W.eq (g2 := F0 m 31 ls [.int 0]) rfl ?_
          refine lv_if_ne hx hb d_M_pay_31 rfl (fun h => ?_) (fun h => ?_)
          · exact absurd rfl h
          · refine lv_iconst (v := nI 0) hx hb d_M_pay_34 (by decide) ?_
            exact x_iret B hS (by decide) (by decide) (fun t ht hW => ⟨N, ch, cn, f, mx, th, _, by rw [ht]; exact hP, hD, rfl, Or.inr (Or.inl ⟨⟨hin, hc2⟩, rfl, hth⟩)⟩) d_M_pay_35
        · cases hv0
          refine W.eq (g2 := F0 m 31 ls [.int 1]) rfl ?_
          refine lv_if_ne hx hb d_M_pay_31 rfl (fun h => ?_) (fun h => ?_)
          · subst hvn
            obtain ⟨⟨k1, k2, k3, k4, k5, -⟩, -⟩ := hbst.2.2 h40
            have hkN : ∀ i, i < 4 → k i ≤ N i := fun i hi => by
              rcases (show i = 0 ∨ i = 1 ∨ i = 2 ∨ i = 3 by omega) with rfl | rfl | rfl | rfl <;> assumption
            refine lv_iload_n hx hb d_M_pay_36 rfl (lv_at hl 2 rfl) ?_
            refine lv_istore_n (lv' := [(3, .int (nI j)), (0, .ref (ad 0)), (1, .int (nI n)), (2, .int (nI j))]) hx hb d_M_pay_37 rfl hl (by decide) rfl (fun ls hl => ?_)
            refine lv_iconst (v := nI 0) hx hb d_M_pay_38 (by decide) ?_
            refine lv_istore (lv' := [(4, .int (nI 0)), (3, .int (nI j)), (0, .ref (ad 0)), (1, .int (nI n)), (2, .int (nI j))]) hx hb d_M_pay_39 hl (by decide) rfl (fun ls hl => ?_)
            refine lv_iconst (v := nI 3) hx hb d_M_pay_41 (by decide) ?_
            refine lv_istore (lv' := [(5, .int (nI 3)), (4, .int (nI 0)), (3, .int (nI j)), (0, .ref (ad 0)), (1, .int (nI n)), (2, .int (nI j))]) hx hb d_M_pay_42 hl (by decide) rfl (fun ls hl => ?_)
            have hl : lv_has ls 7 [(0, .ref (ad 0)), (1, .int (nI n)), (2, .int (nI j)), (3, .int (nI j)), (4, .int (nI 0)), (5, .int (dn (3 + 1)))] := by rw [dn_s]; exact lv_sub (l' := [(0, .ref (ad 0)), (1, .int (nI n)), (2, .int (nI j)), (3, .int (nI j)), (4, .int (nI 0)), (5, .int (nI 3))]) hl [3, 4, 5, 2, 1, 0] rfl
            refine py_M (RES := nt_py wo k 4 N j 0) B (fun i hi => (hG i hi).2.1) hK (by decide) hch (fun Nc out H locs ls hres hP hD hS hl => ?_) 4 N j 0 _ _ ls (by omega) hkN (fun i hi => (hG i hi).2.2) hj (by omega) rfl hP hD hS hl
            refine lv_iload hx hb d_M_pay_100 (lv_at hl 1 rfl) ?_
            have e1 : Nc = (nt_py wo k 4 N j 0).1 := by rw [← hres]
            have e2 : out = (nt_py wo k 4 N j 0).2 := by rw [← hres]
            exact x_iret B hS (by decide) (by decide) (fun t ht hW => ⟨Nc, ch, cn, f, mx, th, _, by rw [ht]; exact hP, hD, rfl, Or.inr (Or.inr ⟨⟨n, j, k, hn, rfl, hj, rfl, h40, hbst, e1, by rw [← e2]⟩, hth⟩)⟩) d_M_pay_102
          · exact absurd h (by decide)
      · obtain ⟨-, -, ⟨st, h0, ch, f, mx, th, -, -, hcase⟩, -⟩ := hN
        rcases hcase with ⟨-, -, hv0⟩ | ⟨-, -, hv0⟩ | ⟨n, k, -, -, -, -, hv0, -⟩ <;> cases hv0
end
section
/-! NoteMixModel: all, next, reach, cassette, value -/
def nt_D (a b k d : Nat) : Nat → Nat → Nat → Nat → Prop := fun x y z t => x < a ∨ (x = a ∧ (y < b ∨ (y = b ∧ (z < k ∨ (z = k ∧ t < d)))))
def nt_DC (a b k : Nat) : Nat → Nat → Nat → Nat → Prop := fun x y z _ => x < a ∨ (x = a ∧ (y < b ∨ (y = b ∧ z < k)))
def nt_DB (a b : Nat) : Nat → Nat → Nat → Nat → Prop := fun x y _ _ => x < a ∨ (x = a ∧ y < b)
def nt_DA (a : Nat) : Nat → Nat → Nat → Nat → Prop := fun x _ _ _ => x < a
theorem nt_D_put {wo N : Nat → Nat} {a b k d vv : Nat} {cn cn' : Nat → Int32} (h : nt_ci wo N (nt_D a b k d) cn) (hq : nt_ok wo N vv a b k d) (e1 : cn' vv = 1) (e2 : ∀ j, j ≠ vv → cn' j = cn j) : nt_ci wo N (nt_D a b k (d + 1)) cn' :=
  nt_ci_put h hq e1 e2 (fun x y z t q => by unfold nt_D at q ⊢; omega) (by unfold nt_D; omega) (fun x y z t q => by unfold nt_D at q ⊢; omega)
theorem nt_D_DC {wo N : Nat → Nat} {a b k d : Nat} {cn : Nat → Int32} (h : nt_ci wo N (nt_D a b k d) cn) (hn : ∀ j t, j ≤ 2000 → nt_ok wo N j a b k t → t < d) : nt_ci wo N (nt_DC a b (k + 1)) cn := by
  refine nt_ci_mono h (fun x y z t q => ?_) (fun j x y z t hj hq q => ?_)
  · unfold nt_D at q; unfold nt_DC; omega
  · unfold nt_DC at q; unfold nt_D
    by_cases e : x = a ∧ y = b ∧ z = k
    · obtain ⟨rfl, rfl, rfl⟩ := e
      have := hn j t hj hq
      omega
    · omega
theorem nt_DC_D {wo N : Nat → Nat} {a b k : Nat} {cn : Nat → Int32} (h : nt_ci wo N (nt_DC a b k) cn) : nt_ci wo N (nt_D a b k 0) cn :=
  nt_ci_mono h (fun x y z t q => by unfold nt_DC at q; unfold nt_D; omega) (fun j x y z t _ _ q => by unfold nt_D at q; unfold nt_DC; omega)
theorem nt_DC_DB {wo N : Nat → Nat} {a b k : Nat} {cn : Nat → Int32} (h : nt_ci wo N (nt_DC a b k) cn) (hn : ∀ j z t, nt_ok wo N j a b z t → z < k) : nt_ci wo N (nt_DB a (b + 1)) cn := by
  refine nt_ci_mono h (fun x y z t q => ?_) (fun j x y z t hj hq q => ?_)
  · unfold nt_DC at q; unfold nt_DB; omega
  · unfold nt_DB at q; unfold nt_DC
    by_cases e : x = a ∧ y = b
    · obtain ⟨rfl, rfl⟩ := e
      have := hn j z t hq
      omega
    · omega
theorem nt_DB_DC {wo N : Nat → Nat} {a b : Nat} {cn : Nat → Int32} (h : nt_ci wo N (nt_DB a b) cn) : nt_ci wo N (nt_DC a b 0) cn :=
  nt_ci_mono h (fun x y z t q => by unfold nt_DB at q; unfold nt_DC; omega) (fun j x y z t _ _ q => by unfold nt_DC at q; unfold nt_DB; omega)
theorem nt_DB_DA {wo N : Nat → Nat} {a b : Nat} {cn : Nat → Int32} (h : nt_ci wo N (nt_DB a b) cn) (hn : ∀ j y z t, nt_ok wo N j a y z t → y < b) : nt_ci wo N (nt_DA (a + 1)) cn := by
  refine nt_ci_mono h (fun x y z t q => ?_) (fun j x y z t hj hq q => ?_)
  · unfold nt_DB at q; unfold nt_DA; omega
  · unfold nt_DA at q; unfold nt_DB
    by_cases e : x = a
    · subst e
      have := hn j y z t hq
      omega
    · omega
theorem nt_DA_DB {wo N : Nat → Nat} {a : Nat} {cn : Nat → Int32} (h : nt_ci wo N (nt_DA a) cn) : nt_ci wo N (nt_DB a 0) cn :=
  nt_ci_mono h (fun x y z t q => by unfold nt_DA at q; unfold nt_DB; omega) (fun j x y z t _ _ q => by unfold nt_DB at q; unfold nt_DA; omega)
section ALD
variable {p : Program} {l : Launch} {e : Env} {R : Room} {s : State} {m : MethodId} {args : Array Value} {below : List Frame} {meth : Method} {c : Code} {H : Heap} {locs : List Loc} {cells slots : Nat} {Q : State → Prop}
variable {g : Gc} {ad : Nat → Nat} {A : Nat → Prop} {ls : Array Slot}
variable {wo N : Nat → Nat} {ch : Nat → Int32} {f mx th : Int32} {a b k : Nat}
theorem al_d (B : xk_B p s m args meth c y_M_all b_M_all 6 none []) (hG : nt_gd wo N) (hK : gK g s) (hRm : xw_R R cells slots rm0 2) (ha : a ≤ N 3) (hbN : b ≤ N 2) (hkN : k ≤ N 1) (habk : a + b + k ≤ 40)
    (kk : ∀ (cn : Nat → Int32) (H : Heap) (locs : List Loc) (ls : Array Slot), nt_ci wo N (nt_DC a b (k + 1)) cn → va_P g.1 cl (wM g ad (nF wo) (nF N) ch cn f mx th) H → va_D A (wM g ad (nF wo) (nF N) ch cn f mx th) → va_S A s.heap H locs → lv_has ls 6 [(0, .ref (ad 0)), (1, .int (nI a)), (2, .int (nI b)), (3, .int (nI k))] → W p l e R s m args below meth c H locs cells slots Q (F0 m 165 ls [])) :
    ∀ (n d vv : Nat) (cn : Nat → Int32) (H : Heap) (locs : List Loc) (ls : Array Slot), 41 - d < n → d ≤ min (N 0) (40 - a - b - k) + 1 → vv = nt_u wo a b k + d * wo 0 → nt_ci wo N (nt_D a b k d) cn → va_P g.1 cl (wM g ad (nF wo) (nF N) ch cn f mx th) H → va_D A (wM g ad (nF wo) (nF N) ch cn f mx th) → va_S A s.heap H locs → lv_has ls 6 [(0, .ref (ad 0)), (1, .int (nI a)), (2, .int (nI b)), (3, .int (nI k)), (4, .int (nI vv)), (5, .int (nI d))] → W p l e R s m args below meth c H locs cells slots Q (F0 m 110 ls []) := by
  obtain ⟨hg01, hg02, hg03⟩ := hG 0 (by omega)
  obtain ⟨hg11, hg12, hg13⟩ := hG 1 (by omega)
  obtain ⟨hg21, hg22, hg23⟩ := hG 2 (by omega)
  obtain ⟨hg31, hg32, hg33⟩ := hG 3 (by omega)
  obtain ⟨hx, hb, hml, hown, hts⟩ := B.1
  have hw3 : a * wo 3 ≤ 20000 := Nat.le_trans (Nat.mul_le_mul (show a ≤ 40 by omega) hg32) (by omega)
  have hw2 : b * wo 2 ≤ 20000 := Nat.le_trans (Nat.mul_le_mul (show b ≤ 40 by omega) hg22) (by omega)
  have hw1 : k * wo 1 ≤ 20000 := Nat.le_trans (Nat.mul_le_mul (show k ≤ 40 by omega) hg12) (by omega)
  have hu6 : nt_u wo a b k ≤ 60000 := by unfold nt_u; omega
  intro n
  induction n with
  | zero => intro d vv cn H locs ls h1 h2; omega
  | succ n ih =>
    intro d vv cn H locs ls hn hd hvv hci hP hD hS hl
    have hw0 : d * wo 0 ≤ 41 * 500 := Nat.mul_le_mul (by omega) hg02
    refine lv_iload hx hb d_M_all_110 (lv_at hl 5 rfl) ?_
    refine lv_aload_n hx hb d_M_all_112 rfl (lv_at hl 0 rfl) ?_
    refine gM_notes B.1 hK hP rfl d_M_all_113 ?_
    refine lv_iconst (v := nI 0) hx hb d_M_all_116 (by decide) ?_
    refine n_iald hx hb hK hP 2 rfl (by omega) (by decide) d_M_all_117 ?_
    refine lv_bipush (v := nI 40) hx hb d_M_all_118 (by decide) ?_
    refine lv_iload_n hx hb d_M_all_120 rfl (lv_at hl 1 rfl) ?_
    refine n_sub hx hb d_M_all_121 (by omega) ?_
    refine lv_iload_n hx hb d_M_all_122 rfl (lv_at hl 2 rfl) ?_
    refine n_sub hx hb d_M_all_123 (by omega) ?_
    refine lv_iload_n hx hb d_M_all_124 rfl (lv_at hl 3 rfl) ?_
    refine n_sub hx hb d_M_all_125 (by omega) ?_
    refine n_min B.1 hl.1 hRm d_M_all_126 (by omega) (by omega) (Nat.le_of_ble_eq_true rfl) ?_
    refine n_igt hx hb d_M_all_129 rfl (by omega) (by omega) (fun h1 => ?_) (fun h1 => ?_)
    · have hl := lv_sub (l' := [(0, .ref (ad 0)), (1, .int (nI a)), (2, .int (nI b)), (3, .int (nI k))]) hl [0, 1, 2, 3] rfl
      exact kk cn H locs ls (nt_D_DC hci (fun j t hj q => by obtain ⟨q1, q2, q3, q4, q5, q6⟩ := q; omega)) hP hD hS hl
    · refine lv_iload hx hb d_M_all_132 (lv_at hl 4 rfl) ?_
      refine lv_sipush (v := nI 2000) hx hb d_M_all_134 (by decide) ?_
      refine n_igt hx hb d_M_all_137 rfl (by omega) (by omega) (fun h2 => ?_) (fun h2 => ?_)
      · have hl := lv_sub (l' := [(0, .ref (ad 0)), (1, .int (nI a)), (2, .int (nI b)), (3, .int (nI k))]) hl [0, 1, 2, 3] rfl
        refine kk cn H locs ls (nt_D_DC hci (fun j t hj q => ?_)) hP hD hS hl
        obtain ⟨q1, q2, q3, q4, q5, q6⟩ := q
        refine Nat.not_le.mp (fun hdt => ?_)
        have := Nat.mul_le_mul_right (wo 0) hdt
        unfold nt_u at hvv
        omega
      · refine lv_aload_n hx hb d_M_all_140 rfl (lv_at hl 0 rfl) ?_
        refine gM_can B.1 hK hP rfl d_M_all_141 ?_
        refine lv_iload hx hb d_M_all_144 (lv_at hl 4 rfl) ?_
        refine lv_iconst (v := nI 1) hx hb d_M_all_146 (by decide) ?_
        refine n_zast hx hb hK hP hD hS 4 rfl (by omega) (by decide) d_M_all_147 (fun H locs hP hD hS => ?_)
        rw [show vp_nar .boolean (nI 1) = 1 from rfl] at hP hD
        have hP : va_P g.1 cl (wM g ad (nF wo) (nF N) ch (upd cn vv 1) f mx th) H := hP
        have hD : va_D A (wM g ad (nF wo) (nF N) ch (upd cn vv 1) f mx th) := hD
        refine lv_iload hx hb d_M_all_148 (lv_at hl 4 rfl) ?_
        refine lv_aload_n hx hb d_M_all_150 rfl (lv_at hl 0 rfl) ?_
        refine gM_worth B.1 hK hP rfl d_M_all_151 ?_
        refine lv_iconst (v := nI 0) hx hb d_M_all_154 (by decide) ?_
        refine n_iald hx hb hK hP 1 rfl (by omega) (by decide) d_M_all_155 ?_
        refine n_add hx hb d_M_all_156 ?_
        refine lv_istore (lv' := [(4, .int (nI (vv + (wo 0)))), (0, .ref (ad 0)), (1, .int (nI a)), (2, .int (nI b)), (3, .int (nI k)), (5, .int (nI d))]) hx hb d_M_all_157 hl (by decide) rfl (fun ls hl => ?_)
        refine lv_iinc (k := 5) (v := nI (d + 1)) (lv' := [(5, .int (nI (d + 1))), (4, .int (nI (vv + (wo 0)))), (0, .ref (ad 0)), (1, .int (nI a)), (2, .int (nI b)), (3, .int (nI k))]) hx hb d_M_all_159 hl rfl (nI_add _ 1) (by decide) rfl (fun ls hl => ?_)
        refine lv_goto hx hb d_M_all_162 rfl ?_
        have hl := lv_sub (l' := [(0, .ref (ad 0)), (1, .int (nI a)), (2, .int (nI b)), (3, .int (nI k)), (4, .int (nI (vv + (wo 0)))), (5, .int (nI (d + 1)))]) hl [2, 3, 4, 5, 1, 0] rfl
        refine ih (d + 1) _ _ H locs ls (by omega) (by omega) (by rw [hvv, Nat.succ_mul]; omega) (nt_D_put hci (vv := vv) ⟨ha, hbN, hkN, by omega, by omega, by rw [hvv]; rfl⟩ pk_us (fun j hj => pk_un hj)) hP hD hS hl
end ALD
section ALC
variable {p : Program} {l : Launch} {e : Env} {R : Room} {s : State} {m : MethodId} {args : Array Value} {below : List Frame} {meth : Method} {c : Code} {H : Heap} {locs : List Loc} {cells slots : Nat} {Q : State → Prop}
variable {g : Gc} {ad : Nat → Nat} {A : Nat → Prop} {ls : Array Slot}
variable {wo N : Nat → Nat} {ch : Nat → Int32} {f mx th : Int32} {a b : Nat}
theorem al_c (B : xk_B p s m args meth c y_M_all b_M_all 6 none []) (hG : nt_gd wo N) (hK : gK g s) (hRm : xw_R R cells slots rm0 2) (ha : a ≤ N 3) (hbN : b ≤ N 2) (hab : a + b ≤ 40)
    (kk : ∀ (cn : Nat → Int32) (H : Heap) (locs : List Loc) (ls : Array Slot), nt_ci wo N (nt_DB a (b + 1)) cn → va_P g.1 cl (wM g ad (nF wo) (nF N) ch cn f mx th) H → va_D A (wM g ad (nF wo) (nF N) ch cn f mx th) → va_S A s.heap H locs → lv_has ls 6 [(0, .ref (ad 0)), (1, .int (nI a)), (2, .int (nI b))] → W p l e R s m args below meth c H locs cells slots Q (F0 m 171 ls [])) :
    ∀ (n k : Nat) (cn : Nat → Int32) (H : Heap) (locs : List Loc) (ls : Array Slot), 41 - k < n → k ≤ min (N 1) (40 - a - b) + 1 → nt_ci wo N (nt_DC a b k) cn → va_P g.1 cl (wM g ad (nF wo) (nF N) ch cn f mx th) H → va_D A (wM g ad (nF wo) (nF N) ch cn f mx th) → va_S A s.heap H locs → lv_has ls 6 [(0, .ref (ad 0)), (1, .int (nI a)), (2, .int (nI b)), (3, .int (nI k))] → W p l e R s m args below meth c H locs cells slots Q (F0 m 60 ls []) := by
  obtain ⟨hg01, hg02, hg03⟩ := hG 0 (by omega)
  obtain ⟨hg11, hg12, hg13⟩ := hG 1 (by omega)
  obtain ⟨hg21, hg22, hg23⟩ := hG 2 (by omega)
  obtain ⟨hg31, hg32, hg33⟩ := hG 3 (by omega)
  obtain ⟨hx, hb, hml, hown, hts⟩ := B.1
  intro n
  induction n with
  | zero => intro k cn H locs ls h1 h2; omega
  | succ n ih =>
    intro k cn H locs ls hn hk hci hP hD hS hl
    refine lv_iload_n hx hb d_M_all_60 rfl (lv_at hl 3 rfl) ?_
    refine lv_aload_n hx hb d_M_all_61 rfl (lv_at hl 0 rfl) ?_
    refine gM_notes B.1 hK hP rfl d_M_all_62 ?_
    refine lv_iconst (v := nI 1) hx hb d_M_all_65 (by decide) ?_
    refine n_iald hx hb hK hP 2 rfl (by omega) (by decide) d_M_all_66 ?_
    refine lv_bipush (v := nI 40) hx hb d_M_all_67 (by decide) ?_
    refine lv_iload_n hx hb d_M_all_69 rfl (lv_at hl 1 rfl) ?_
    refine n_sub hx hb d_M_all_70 (by omega) ?_
    refine lv_iload_n hx hb d_M_all_71 rfl (lv_at hl 2 rfl) ?_
    refine n_sub hx hb d_M_all_72 (by omega) ?_
    refine n_min B.1 hl.1 hRm d_M_all_73 (by omega) (by omega) (Nat.le_of_ble_eq_true rfl) ?_
    refine n_igt hx hb d_M_all_76 rfl (by omega) (by omega) (fun h1 => ?_) (fun h1 => ?_)
    · have hl := lv_sub (l' := [(0, .ref (ad 0)), (1, .int (nI a)), (2, .int (nI b))]) hl [0, 1, 2] rfl
      exact kk cn H locs ls (nt_DC_DB hci (fun j z t q => by obtain ⟨q1, q2, q3, q4, q5, q6⟩ := q; omega)) hP hD hS hl
    · refine lv_iload_n hx hb d_M_all_79 rfl (lv_at hl 1 rfl) ?_
      refine lv_aload_n hx hb d_M_all_80 rfl (lv_at hl 0 rfl) ?_
      refine gM_worth B.1 hK hP rfl d_M_all_81 ?_
      refine lv_iconst (v := nI 3) hx hb d_M_all_84 (by decide) ?_
      refine n_iald hx hb hK hP 1 rfl (by omega) (by decide) d_M_all_85 ?_
      refine n_mul hx hb d_M_all_86 ?_
      refine lv_iload_n hx hb d_M_all_87 rfl (lv_at hl 2 rfl) ?_
      refine lv_aload_n hx hb d_M_all_88 rfl (lv_at hl 0 rfl) ?_
      refine gM_worth B.1 hK hP rfl d_M_all_89 ?_
      refine lv_iconst (v := nI 2) hx hb d_M_all_92 (by decide) ?_
      refine n_iald hx hb hK hP 1 rfl (by omega) (by decide) d_M_all_93 ?_
      refine n_mul hx hb d_M_all_94 ?_
      refine n_add hx hb d_M_all_95 ?_
      refine lv_iload_n hx hb d_M_all_96 rfl (lv_at hl 3 rfl) ?_
      refine lv_aload_n hx hb d_M_all_97 rfl (lv_at hl 0 rfl) ?_
      refine gM_worth B.1 hK hP rfl d_M_all_98 ?_
      refine lv_iconst (v := nI 1) hx hb d_M_all_101 (by decide) ?_
      refine n_iald hx hb hK hP 1 rfl (by omega) (by decide) d_M_all_102 ?_
      refine n_mul hx hb d_M_all_103 ?_
      refine n_add hx hb d_M_all_104 ?_
      refine lv_istore (lv' := [(4, .int (nI (((a * (wo 3)) + (b * (wo 2))) + (k * (wo 1))))), (0, .ref (ad 0)), (1, .int (nI a)), (2, .int (nI b)), (3, .int (nI k))]) hx hb d_M_all_105 hl (by decide) rfl (fun ls hl => ?_)
      refine lv_iconst (v := nI 0) hx hb d_M_all_107 (by decide) ?_
      refine lv_istore (lv' := [(5, .int (nI 0)), (4, .int (nI (((a * (wo 3)) + (b * (wo 2))) + (k * (wo 1))))), (0, .ref (ad 0)), (1, .int (nI a)), (2, .int (nI b)), (3, .int (nI k))]) hx hb d_M_all_108 hl (by decide) rfl (fun ls hl => ?_)
      have hl := lv_sub (l' := [(0, .ref (ad 0)), (1, .int (nI a)), (2, .int (nI b)), (3, .int (nI k)), (4, .int (nI (((a * (wo 3)) + (b * (wo 2))) + (k * (wo 1))))), (5, .int (nI 0))]) hl [2, 3, 4, 5, 1, 0] rfl
      refine al_d B hG hK hRm ha hbN (by omega) (by omega) (fun cn H locs ls hci hP hD hS hl => ?_) 42 0 _ cn H locs ls (by omega) (by omega) (by rw [Nat.zero_mul]; rfl) (nt_DC_D hci) hP hD hS hl
      refine lv_iinc (k := 3) (v := nI (k + 1)) (lv' := [(3, .int (nI (k + 1))), (0, .ref (ad 0)), (1, .int (nI a)), (2, .int (nI b))]) hx hb d_M_all_165 hl rfl (nI_add _ 1) (by decide) rfl (fun ls hl => ?_)
      refine lv_goto hx hb d_M_all_168 rfl ?_
      have hl := lv_sub (l' := [(0, .ref (ad 0)), (1, .int (nI a)), (2, .int (nI b)), (3, .int (nI (k + 1)))]) hl [1, 2, 3, 0] rfl
      exact ih (k + 1) cn H locs ls (by omega) (by omega) hci hP hD hS hl
end ALC
section ALB
variable {p : Program} {l : Launch} {e : Env} {R : Room} {s : State} {m : MethodId} {args : Array Value} {below : List Frame} {meth : Method} {c : Code} {H : Heap} {locs : List Loc} {cells slots : Nat} {Q : State → Prop}
variable {g : Gc} {ad : Nat → Nat} {A : Nat → Prop} {ls : Array Slot}
variable {wo N : Nat → Nat} {ch : Nat → Int32} {f mx th : Int32} {a : Nat}
theorem al_b (B : xk_B p s m args meth c y_M_all b_M_all 6 none []) (hG : nt_gd wo N) (hK : gK g s) (hRm : xw_R R cells slots rm0 2) (ha : a ≤ N 3) (ha4 : a ≤ 40)
    (kk : ∀ (cn : Nat → Int32) (H : Heap) (locs : List Loc) (ls : Array Slot), nt_ci wo N (nt_DA (a + 1)) cn → va_P g.1 cl (wM g ad (nF wo) (nF N) ch cn f mx th) H → va_D A (wM g ad (nF wo) (nF N) ch cn f mx th) → va_S A s.heap H locs → lv_has ls 6 [(0, .ref (ad 0)), (1, .int (nI a))] → W p l e R s m args below meth c H locs cells slots Q (F0 m 177 ls [])) :
    ∀ (n b : Nat) (cn : Nat → Int32) (H : Heap) (locs : List Loc) (ls : Array Slot), 41 - b < n → b ≤ min (N 2) (40 - a) + 1 → nt_ci wo N (nt_DB a b) cn → va_P g.1 cl (wM g ad (nF wo) (nF N) ch cn f mx th) H → va_D A (wM g ad (nF wo) (nF N) ch cn f mx th) → va_S A s.heap H locs → lv_has ls 6 [(0, .ref (ad 0)), (1, .int (nI a)), (2, .int (nI b))] → W p l e R s m args below meth c H locs cells slots Q (F0 m 41 ls []) := by
  obtain ⟨hg01, hg02, hg03⟩ := hG 0 (by omega)
  obtain ⟨hg11, hg12, hg13⟩ := hG 1 (by omega)
  obtain ⟨hg21, hg22, hg23⟩ := hG 2 (by omega)
  obtain ⟨hg31, hg32, hg33⟩ := hG 3 (by omega)
  obtain ⟨hx, hb, hml, hown, hts⟩ := B.1
  intro n
  induction n with
  | zero => intro b cn H locs ls h1 h2; omega
  | succ n ih =>
    intro b cn H locs ls hn hb' hci hP hD hS hl
    refine lv_iload_n hx hb d_M_all_41 rfl (lv_at hl 2 rfl) ?_
    refine lv_aload_n hx hb d_M_all_42 rfl (lv_at hl 0 rfl) ?_
    refine gM_notes B.1 hK hP rfl d_M_all_43 ?_
    refine lv_iconst (v := nI 2) hx hb d_M_all_46 (by decide) ?_
    refine n_iald hx hb hK hP 2 rfl (by omega) (by decide) d_M_all_47 ?_
    refine lv_bipush (v := nI 40) hx hb d_M_all_48 (by decide) ?_
    refine lv_iload_n hx hb d_M_all_50 rfl (lv_at hl 1 rfl) ?_
    refine n_sub hx hb d_M_all_51 (by omega) ?_
    refine n_min B.1 hl.1 hRm d_M_all_52 (by omega) (by omega) (Nat.le_of_ble_eq_true rfl) ?_
    refine n_igt hx hb d_M_all_55 rfl (by omega) (by omega) (fun h1 => ?_) (fun h1 => ?_)
    · have hl := lv_sub (l' := [(0, .ref (ad 0)), (1, .int (nI a))]) hl [0, 1] rfl
      exact kk cn H locs ls (nt_DB_DA hci (fun j y z t q => by obtain ⟨q1, q2, q3, q4, q5, q6⟩ := q; omega)) hP hD hS hl
    · refine lv_iconst (v := nI 0) hx hb d_M_all_58 (by decide) ?_
      refine lv_istore_n (lv' := [(3, .int (nI 0)), (0, .ref (ad 0)), (1, .int (nI a)), (2, .int (nI b))]) hx hb d_M_all_59 rfl hl (by decide) rfl (fun ls hl => ?_)
      have hl := lv_sub (l' := [(0, .ref (ad 0)), (1, .int (nI a)), (2, .int (nI b)), (3, .int (nI 0))]) hl [1, 2, 3, 0] rfl
      refine al_c B hG hK hRm ha (by omega) (by omega) (fun cn H locs ls hci hP hD hS hl => ?_) 42 0 cn H locs ls (by omega) (by omega) (nt_DB_DC hci) hP hD hS hl
      refine lv_iinc (k := 2) (v := nI (b + 1)) (lv' := [(2, .int (nI (b + 1))), (0, .ref (ad 0)), (1, .int (nI a))]) hx hb d_M_all_171 hl rfl (nI_add _ 1) (by decide) rfl (fun ls hl => ?_)
      refine lv_goto hx hb d_M_all_174 rfl ?_
      have hl := lv_sub (l' := [(0, .ref (ad 0)), (1, .int (nI a)), (2, .int (nI (b + 1)))]) hl [1, 2, 0] rfl
      exact ih (b + 1) cn H locs ls (by omega) (by omega) hci hP hD hS hl
end ALB
section ALA
variable {p : Program} {l : Launch} {e : Env} {R : Room} {s : State} {m : MethodId} {args : Array Value} {below : List Frame} {meth : Method} {c : Code} {H : Heap} {locs : List Loc} {cells slots : Nat} {Q : State → Prop}
variable {g : Gc} {ad : Nat → Nat} {A : Nat → Prop} {ls : Array Slot}
variable {wo N : Nat → Nat} {ch : Nat → Int32} {f mx th : Int32}
theorem al_a (B : xk_B p s m args meth c y_M_all b_M_all 6 none []) (hG : nt_gd wo N) (hK : gK g s) (hRm : xw_R R cells slots rm0 2)
    (kk : ∀ (cn : Nat → Int32) (H : Heap) (locs : List Loc) (ls : Array Slot), (∀ j, j ≤ 2000 → cn j = nI (nt_hs wo N j)) → va_P g.1 cl (wM g ad (nF wo) (nF N) ch cn f mx th) H → va_D A (wM g ad (nF wo) (nF N) ch cn f mx th) → va_S A s.heap H locs → W p l e R s m args below meth c H locs cells slots Q (F0 m 183 ls [])) :
    ∀ (n a : Nat) (cn : Nat → Int32) (H : Heap) (locs : List Loc) (ls : Array Slot), 41 - a < n → a ≤ min (N 3) 40 + 1 → nt_ci wo N (nt_DA a) cn → va_P g.1 cl (wM g ad (nF wo) (nF N) ch cn f mx th) H → va_D A (wM g ad (nF wo) (nF N) ch cn f mx th) → va_S A s.heap H locs → lv_has ls 6 [(0, .ref (ad 0)), (1, .int (nI a))] → W p l e R s m args below meth c H locs cells slots Q (F0 m 24 ls []) := by
  obtain ⟨hg01, hg02, hg03⟩ := hG 0 (by omega)
  obtain ⟨hg11, hg12, hg13⟩ := hG 1 (by omega)
  obtain ⟨hg21, hg22, hg23⟩ := hG 2 (by omega)
  obtain ⟨hg31, hg32, hg33⟩ := hG 3 (by omega)
  obtain ⟨hx, hb, hml, hown, hts⟩ := B.1
  intro n
  induction n with
  | zero => intro a cn H locs ls h1 h2; omega
  | succ n ih =>
    intro a cn H locs ls hn ha' hci hP hD hS hl
    refine lv_iload_n hx hb d_M_all_24 rfl (lv_at hl 1 rfl) ?_
    refine lv_aload_n hx hb d_M_all_25 rfl (lv_at hl 0 rfl) ?_
    refine gM_notes B.1 hK hP rfl d_M_all_26 ?_
    refine lv_iconst (v := nI 3) hx hb d_M_all_29 (by decide) ?_
    refine n_iald hx hb hK hP 2 rfl (by omega) (by decide) d_M_all_30 ?_
    refine lv_bipush (v := nI 40) hx hb d_M_all_31 (by decide) ?_
    refine n_min B.1 hl.1 hRm d_M_all_33 (by omega) (by omega) (Nat.le_of_ble_eq_true rfl) ?_
    refine n_igt hx hb d_M_all_36 rfl (by omega) (by omega) (fun h1 => ?_) (fun h1 => ?_)
    · exact kk cn H locs ls (nt_ci_hs (fun i hi => (hG i hi).1) hci (fun j a b c d q => by obtain ⟨q1, q2, q3, q4, q5, q6⟩ := q; unfold nt_DA; omega)) hP hD hS
    · refine lv_iconst (v := nI 0) hx hb d_M_all_39 (by decide) ?_
      refine lv_istore_n (lv' := [(2, .int (nI 0)), (0, .ref (ad 0)), (1, .int (nI a))]) hx hb d_M_all_40 rfl hl (by decide) rfl (fun ls hl => ?_)
      have hl := lv_sub (l' := [(0, .ref (ad 0)), (1, .int (nI a)), (2, .int (nI 0))]) hl [1, 2, 0] rfl
      refine al_b B hG hK hRm (by omega) (by omega) (fun cn H locs ls hci hP hD hS hl => ?_) 42 0 cn H locs ls (by omega) (by omega) (nt_DA_DB hci) hP hD hS hl
      refine lv_iinc (k := 1) (v := nI (a + 1)) (lv' := [(1, .int (nI (a + 1))), (0, .ref (ad 0))]) hx hb d_M_all_177 hl rfl (nI_add _ 1) (by decide) rfl (fun ls hl => ?_)
      refine lv_goto hx hb d_M_all_180 rfl ?_
      have hl := lv_sub (l' := [(0, .ref (ad 0)), (1, .int (nI (a + 1)))]) hl [1, 0] rfl
      exact ih (a + 1) cn H locs ls (by omega) (by omega) hci hP hD hS hl
end ALA
section ALZ
variable {p : Program} {l : Launch} {e : Env} {R : Room} {s : State} {m : MethodId} {args : Array Value} {below : List Frame} {meth : Method} {c : Code} {H : Heap} {locs : List Loc} {cells slots : Nat} {Q : State → Prop}
variable {g : Gc} {ad : Nat → Nat} {A : Nat → Prop} {ls : Array Slot}
variable {wo N : Nat → Nat} {ch : Nat → Int32} {f mx th : Int32}
theorem al_z (B : xk_B p s m args meth c y_M_all b_M_all 6 none []) (hK : gK g s)
    (kk : ∀ (cn : Nat → Int32) (H : Heap) (locs : List Loc) (ls : Array Slot), (∀ j, j ≤ 2000 → cn j = 0) → va_P g.1 cl (wM g ad (nF wo) (nF N) ch cn f mx th) H → va_D A (wM g ad (nF wo) (nF N) ch cn f mx th) → va_S A s.heap H locs → lv_has ls 6 [(0, .ref (ad 0))] → W p l e R s m args below meth c H locs cells slots Q (F0 m 22 ls [])) :
    ∀ (n v : Nat) (cn : Nat → Int32) (H : Heap) (locs : List Loc) (ls : Array Slot), 2001 - v < n → v ≤ 2001 → (∀ j, j < v → cn j = 0) → va_P g.1 cl (wM g ad (nF wo) (nF N) ch cn f mx th) H → va_D A (wM g ad (nF wo) (nF N) ch cn f mx th) → va_S A s.heap H locs → lv_has ls 6 [(0, .ref (ad 0)), (1, .int (nI v))] → W p l e R s m args below meth c H locs cells slots Q (F0 m 2 ls []) := by
  obtain ⟨hx, hb, hml, hown, hts⟩ := B.1
  intro n
  induction n with
  | zero => intro v cn H locs ls h1 h2; omega
  | succ n ih =>
    intro v cn H locs ls hn hv hz hP hD hS hl
    refine lv_iload_n hx hb d_M_all_2 rfl (lv_at hl 1 rfl) ?_
    refine lv_sipush (v := nI 2000) hx hb d_M_all_3 (by decide) ?_
    refine n_igt hx hb d_M_all_6 rfl (by omega) (by omega) (fun h1 => ?_) (fun h1 => ?_)
    · have hl := lv_sub (l' := [(0, .ref (ad 0))]) hl [0] rfl
      exact kk cn H locs ls (fun j hj => hz j (by omega)) hP hD hS hl
    · refine lv_aload_n hx hb d_M_all_9 rfl (lv_at hl 0 rfl) ?_
      refine gM_can B.1 hK hP rfl d_M_all_10 ?_
      refine lv_iload_n hx hb d_M_all_13 rfl (lv_at hl 1 rfl) ?_
      refine lv_iconst (v := nI 0) hx hb d_M_all_14 (by decide) ?_
      refine n_zast hx hb hK hP hD hS 4 rfl (by omega) (by decide) d_M_all_15 (fun H locs hP hD hS => ?_)
      rw [show vp_nar .boolean (nI 0) = 0 from rfl] at hP hD
      have hP : va_P g.1 cl (wM g ad (nF wo) (nF N) ch (upd cn v 0) f mx th) H := hP
      have hD : va_D A (wM g ad (nF wo) (nF N) ch (upd cn v 0) f mx th) := hD
      refine lv_iinc (k := 1) (v := nI (v + 1)) (lv' := [(1, .int (nI (v + 1))), (0, .ref (ad 0))]) hx hb d_M_all_16 hl rfl (nI_add _ 1) (by decide) rfl (fun ls hl => ?_)
      refine lv_goto hx hb d_M_all_19 rfl ?_
      have hl := lv_sub (l' := [(0, .ref (ad 0)), (1, .int (nI (v + 1)))]) hl [1, 0] rfl
      refine ih (v + 1) _ H locs ls (by omega) (by omega) (fun j hj => ?_) hP hD hS hl
      by_cases e : j = v
      · subst e; rw [pk_us]
      · rw [pk_un e]; exact hz j (by omega)
end ALZ
def q_all (g : Gc) (ad : Nat → Nat) (wo N : Nat → Nat) (ch : Nat → Int32) (f mx th : Int32) (A : Nat → Prop) : Array Value → State → Outcome → State → Prop := fun _ _ o t => o = .returned none ∧ ∃ cn, (∀ j, j ≤ 2000 → cn j = nI (nt_hs wo N j)) ∧ va_P g.1 cl (wM g ad (nF wo) (nF N) ch cn f mx th) t.heap ∧ va_D A (wM g ad (nF wo) (nF N) ch cn f mx th)
theorem c_M_all (l : Launch) (g : Gc) (ad : Nat → Nat) (wo N : Nat → Nat) (ch cn : Nat → Int32) (f mx th : Int32) (sz : Nat) (hG : nt_gd wo N) : Ct l y_M_all cd_M_all rmM1 (0, 0) (va_Pc [.ref (ad 0)] (qM g ad (nF wo) (nF N) ch cn f mx th sz)) (q_all g ad wo N ch f mx th (va_A (wM g ad (nF wo) (nF N) ch cn f mx th) sz)) (va_A (wM g ad (nF wo) (nF N) ch cn f mx th) sz) := by
  refine Ct.ofW (by decide) ?_
  intro p e s m args below meth c B hpre
  obtain ⟨rfl, hsz, hP, hK, hD0⟩ := hpre
  subst hsz
  have hD := hD0.self (sz := s.heap.size)
  generalize hAe : va_A (wM g ad (nF wo) (nF N) ch cn f mx th) s.heap.size = A at hD ⊢
  have hA : ∀ q : Nat, s.heap.size ≤ q → A q := fun q h => by rw [← hAe]; exact Or.inr h
  have hS : va_S A s.heap s.heap [] := va_S.rf
  have hP : va_P g.1 cl (wM g ad (nF wo) (nF N) ch cn f mx th) s.heap := hP
  obtain ⟨⟨hx, hb, hml, hown, hts⟩, hret, hlk, hnm, hex⟩ := id B
  have hl := lv_entry ([.ref (ad 0)]) (n := 6) (Nat.le_of_ble_eq_true rfl)
  rw [lg_entry_eq]
  generalize (lg_sl ([.ref (ad 0)]) ++ List.replicate (6 - (lg_sl ([.ref (ad 0)])).length) Slot.unset).toArray = ls at hl ⊢
  have hl : lv_has ls 6 [(0, .ref (ad 0))] := hl
  refine lv_iconst (v := nI 0) hx hb d_M_all_0 (by decide) ?_
  refine lv_istore_n (lv' := [(1, .int (nI 0)), (0, .ref (ad 0))]) hx hb d_M_all_1 rfl hl (by decide) rfl (fun ls hl => ?_)
  have hl := lv_sub (l' := [(0, .ref (ad 0)), (1, .int (nI 0))]) hl [1, 0] rfl
  refine al_z B hK (fun cn H locs ls hz hP hD hS hl => ?_) 2002 0 cn _ _ ls (by omega) (by omega) (fun j hj => by omega) hP hD hS hl
  refine lv_iconst (v := nI 0) hx hb d_M_all_22 (by decide) ?_
  refine lv_istore_n (lv' := [(1, .int (nI 0)), (0, .ref (ad 0))]) hx hb d_M_all_23 rfl hl (by decide) rfl (fun ls hl => ?_)
  have hl := lv_sub (l' := [(0, .ref (ad 0)), (1, .int (nI 0))]) hl [1, 0] rfl
  refine al_a B hG hK (by decide) (fun cn H locs ls hcn hP hD hS => ?_) 42 0 cn H locs ls (by omega) (by omega) (fun j hj => Or.inr ⟨hz j hj, fun a b c d q h => by unfold nt_DA at h; omega⟩) hP hD hS hl
  exact x_vret B hS (by decide) (by decide) (fun t ht hW => ⟨rfl, cn, hcn, by rw [ht]; exact hP, hD⟩) d_M_all_183
theorem xw_M_all {R : Room} {cells slots : Nat} (h : xw_R R cells slots rmM1 6) : xk_W R cells slots y_M_all cd_M_all rmM1 6 0 := ⟨kc_M_all, Or.inl ⟨_, _, rfl⟩, tw_2, by decide, by decide +kernel, h.1, h.2.1, h.2.2.1, h.2.2.2⟩
section NXM
variable {p : Program} {l : Launch} {e : Env} {R : Room} {s : State} {m : MethodId} {args : Array Value} {below : List Frame} {meth : Method} {c : Code} {H : Heap} {locs : List Loc} {cells slots : Nat} {Q : State → Prop}
variable {g : Gc} {ad : Nat → Nat} {A : Nat → Prop} {ls : Array Slot}
variable {wo N : Nat → Nat} {ch : Nat → Int32} {f mx th : Int32} {cn : Nat → Int32}
theorem nx_M {a : Nat} (B : xk_B p s m args meth c y_M_next b_M_next 3 (some .int) []) (hK : gK g s) (hcn : ∀ j, j ≤ 2000 → cn j = nI (nt_hs wo N j)) (hP : va_P g.1 cl (wM g ad (nF wo) (nF N) ch cn f mx th) H)
    (k1 : ∀ (k : Nat) (ls : Array Slot), a ≤ k → k ≤ 2000 → (∀ j, a ≤ j → j < k → nt_hs wo N j = 0) → nt_hs wo N k = 1 → lv_has ls 3 [(0, .ref (ad 0)), (1, .int (nI a)), (2, .int (nI k))] → W p l e R s m args below meth c H locs cells slots Q (F0 m 51 ls [])) (k2 : ∀ (ls : Array Slot), (∀ j, a ≤ j → j ≤ 2000 → nt_hs wo N j = 0) → W p l e R s m args below meth c H locs cells slots Q (F0 m 59 ls [])) :
    ∀ (n k : Nat) (ls : Array Slot), 2001 - k < n → a ≤ k → k ≤ 2001 → (∀ j, a ≤ j → j < k → nt_hs wo N j = 0) → lv_has ls 3 [(0, .ref (ad 0)), (1, .int (nI a)), (2, .int (nI k))] → W p l e R s m args below meth c H locs cells slots Q (F0 m 35 ls []) := by
  obtain ⟨hx, hb, hml, hown, hts⟩ := B.1
  intro n
  induction n with
  | zero => intro k ls h; omega
  | succ n ih =>
    intro k ls hn hak hk hno hl
    have hs1 := nt_hs_le wo N k
    refine lv_iload_n hx hb d_M_next_35 rfl (lv_at hl 2 rfl) ?_
    refine lv_sipush (v := nI 2000) hx hb d_M_next_36 (by decide) ?_
    refine n_igt hx hb d_M_next_39 rfl (by omega) (by omega) (fun h => ?_) (fun h => ?_)
    · exact k2 ls (fun j h3 h4 => hno j h3 (by omega))
    · refine lv_aload_n hx hb d_M_next_42 rfl (lv_at hl 0 rfl) ?_
      refine gM_can B.1 hK hP rfl d_M_next_43 ?_
      refine lv_iload_n hx hb d_M_next_46 rfl (lv_at hl 2 rfl) ?_
      refine n_zald hx hb hK hP 4 rfl (by omega) (by decide) d_M_next_47 ?_
      rw [hcn k (by omega)]
      refine n_ifeq hx hb d_M_next_48 rfl (by omega) (fun h2 => ?_) (fun h2 => ?_)
      · refine lv_iinc (k := 2) (v := nI (k + 1)) (lv' := [(2, .int (nI (k + 1))), (0, .ref (ad 0)), (1, .int (nI a))]) hx hb d_M_next_53 hl rfl (nI_add _ 1) (by decide) rfl (fun ls hl => ?_)
        refine lv_goto hx hb d_M_next_56 rfl ?_
        have hl := lv_sub (l' := [(0, .ref (ad 0)), (1, .int (nI a)), (2, .int (nI (k + 1)))]) hl [1, 2, 0] rfl
        refine ih (k + 1) ls (by omega) (by omega) (by omega) (fun j h3 h4 => ?_) hl
        by_cases e : j = k
        · subst e; exact h2
        · exact hno j h3 (by omega)
      · have hl := lv_sub (l' := [(0, .ref (ad 0)), (1, .int (nI a)), (2, .int (nI k))]) hl [0, 1, 2] rfl
        exact k1 k ls hak h hno (by omega) hl
end NXM
theorem c_M_next (l : Launch) (g : Gc) (ad : Nat → Nat) (wo N : Nat → Nat) (ch cn : Nat → Int32) (f mx th : Int32) (v : Int32) (sz : Nat) (hG : nt_gd wo N) : Ct l y_M_next cd_M_next rmM2 (0, 0) (va_Pc [.ref (ad 0), .int v] (qM g ad (nF wo) (nF N) ch cn f mx th sz)) (qMI g ad wo N (va_A (wM g ad (nF wo) (nF N) ch cn f mx th) sz) (bad v 2000) False (fun r => pN wo N v r (fun _ => 0))) (va_A (wM g ad (nF wo) (nF N) ch cn f mx th) sz) := by
  refine Ct.ofW (by decide) ?_
  intro p e s m args below meth c B hpre
  obtain ⟨rfl, hsz, hP, hK, hD0⟩ := hpre
  subst hsz
  have hD := hD0.self (sz := s.heap.size)
  generalize hAe : va_A (wM g ad (nF wo) (nF N) ch cn f mx th) s.heap.size = A at hD ⊢
  have hA : ∀ q : Nat, s.heap.size ≤ q → A q := fun q h => by rw [← hAe]; exact Or.inr h
  have hS : va_S A s.heap s.heap [] := va_S.rf
  have hP : va_P g.1 cl (wM g ad (nF wo) (nF N) ch cn f mx th) s.heap := hP
  obtain ⟨⟨hx, hb, hml, hown, hts⟩, hret, hlk, hnm, hex⟩ := id B
  have hl := lv_entry ([.ref (ad 0), .int v]) (n := 3) (Nat.le_of_ble_eq_true rfl)
  rw [lg_entry_eq]
  generalize (lg_sl ([.ref (ad 0), .int v]) ++ List.replicate (3 - (lg_sl ([.ref (ad 0), .int v])).length) Slot.unset).toArray = ls at hl ⊢
  have hl : lv_has ls 3 [(0, .ref (ad 0)), (1, .int v)] := hl
  refine lv_aload_n hx hb d_M_next_0 rfl (lv_at hl 0 rfl) ?_
  refine lv_iload_n hx hb d_M_next_1 rfl (lv_at hl 1 rfl) ?_
  refine lv_iconst (v := nI 0) hx hb d_M_next_2 (by decide) ?_
  refine lv_sipush (v := nI 2000) hx hb d_M_next_3 (by decide) ?_
  refine x_pS (As := [.int v, .int (nI 0), .int (nI 2000)]) (rest := [.ref (ad 0)]) B.1 (c_M_in l v (nI 0) (nI 2000)) (xw_M_in (by decide)) tw_234 tw_235 (⟨fun _ _ _ _ q => q, fun _ _ _ => ⟨rfl, trivial⟩⟩) hl.1 (Nat.le_of_ble_eq_true rfl) hS rfl d_M_next_6 ?_
  refine lv_if_eq hx hb d_M_next_9 rfl (fun hin => ?_) (fun hin => ?_)
  · refine lv_iconst (v := nI 1) hx hb d_M_next_16 (by decide) ?_
    refine pM_thrown B.1 hK hP hD hS d_M_next_17 (fun H locs hP hD hS => ?_)
    have hP : va_P g.1 cl (wM g ad (nF wo) (nF N) ch cn f mx (nI 1)) H := hP
    have hD : va_D A (wM g ad (nF wo) (nF N) ch cn f mx (nI 1)) := hD
    refine lv_aload_n hx hb d_M_next_20 rfl (lv_at hl 0 rfl) ?_
    refine gM_thrown B.1 hK hP rfl d_M_next_21 ?_
    refine n_ifle hx hb d_M_next_24 rfl (by omega) (fun h9 => ?_) (fun h9 => ?_)
    · omega
    · refine lv_iconst (v := nI 0) hx hb d_M_next_27 (by decide) ?_
      exact x_iret B hS (by decide) (by decide) (fun t ht hW => ⟨ch, cn, f, mx, _, _, by rw [ht]; exact hP, hD, rfl, Or.inl ⟨hin, rfl⟩⟩) d_M_next_28
  · refine lv_iconst (v := nI 0) hx hb d_M_next_12 (by decide) ?_
    refine lv_goto hx hb d_M_next_13 rfl ?_
    refine pM_thrown B.1 hK hP hD hS d_M_next_17 (fun H locs hP hD hS => ?_)
    have hP : va_P g.1 cl (wM g ad (nF wo) (nF N) ch cn f mx (nI 0)) H := hP
    have hD : va_D A (wM g ad (nF wo) (nF N) ch cn f mx (nI 0)) := hD
    refine lv_aload_n hx hb d_M_next_20 rfl (lv_at hl 0 rfl) ?_
    refine gM_thrown B.1 hK hP rfl d_M_next_21 ?_
    refine n_ifle hx hb d_M_next_24 rfl (by omega) (fun h9 => ?_) (fun h9 => ?_)
    · obtain ⟨n, rfl, hn0, hn⟩ := in3_nI (by decide) (by decide) hin
      refine lv_aload_n hx hb d_M_next_29 rfl (lv_at hl 0 rfl) ?_
      have hFc := va_free (wc := wM g ad (nF wo) (nF N) ch cn f mx (nI 0)) hD hS hA [0, 1, 2, 3, 4] rfl
      refine x_calV (C := R_M) (b := ad 0) (As := []) (rest := []) B.1 (c_M_all l g ad wo N ch cn f mx _ _ hG) (xw_M_all (by decide)) tw_268 tw_270 ts_8 (recM hK hP) (preM hP hK hD) hl.1 (Nat.le_of_ble_eq_true rfl) hS hFc rfl d_M_next_30 (fun rv t H1 locs1 hN => ?_) (fun rx t H1 locs1 hN => ?_)
      · obtain ⟨e1, hal, ⟨st, h0, hv0, cn, hcn, hP, hD1⟩, hz1, hk1, hS, -⟩ := hN
        cases hv0
        rw [e1] at hP
        have hD := hD1.weaken (fun k q _ h => hFc q.1 h)
        refine W.eq (g2 := F0 m 33 ls []) rfl ?_
        refine lv_iload_n hx hb d_M_next_33 rfl (lv_at hl 1 rfl) ?_
        refine lv_istore_n (lv' := [(2, .int (nI n)), (0, .ref (ad 0)), (1, .int (nI n))]) hx hb d_M_next_34 rfl hl (by decide) rfl (fun ls hl => ?_)
        have hl := lv_sub (l' := [(0, .ref (ad 0)), (1, .int (nI n)), (2, .int (nI n))]) hl [1, 2, 0] rfl
        refine nx_M B hK hcn hP (fun k ls h1 h2 h3 h4 hl => ?_) (fun ls h1 => ?_) 2002 n ls (by omega) (by omega) (by omega) (fun j h3 h4 => by omega) hl
        · refine lv_iload_n hx hb d_M_next_51 rfl (lv_at hl 2 rfl) ?_
          exact x_iret B hS (by decide) (by decide) (fun t ht hW => ⟨ch, cn, f, mx, _, _, by rw [ht]; exact hP, hD, rfl, Or.inr (Or.inr ⟨⟨n, hn, rfl, Or.inl ⟨k, h1, h2, h4, h3, rfl⟩⟩, rfl⟩)⟩) d_M_next_52
        · refine lv_iconst (v := -1) hx hb d_M_next_59 (by decide) ?_
          exact x_iret B hS (by decide) (by decide) (fun t ht hW => ⟨ch, cn, f, mx, _, _, by rw [ht]; exact hP, hD, rfl, Or.inr (Or.inr ⟨⟨n, hn, rfl, Or.inr ⟨h1, rfl⟩⟩, rfl⟩)⟩) d_M_next_60
      · obtain ⟨-, -, ⟨st, h0, hv0, -⟩, -⟩ := hN
        cases hv0
    · omega
section RCM
variable {p : Program} {l : Launch} {e : Env} {R : Room} {s : State} {m : MethodId} {args : Array Value} {below : List Frame} {meth : Method} {c : Code} {H : Heap} {locs : List Loc} {cells slots : Nat} {Q : State → Prop}
variable {g : Gc} {ad : Nat → Nat} {A : Nat → Prop} {ls : Array Slot}
variable {wo N : Nat → Nat} {ch : Nat → Int32} {f mx th : Int32} {cn : Nat → Int32}
theorem rc_M (B : xk_B p s m args meth c y_M_reach b_M_reach 3 (some .int) []) (hK : gK g s) (hcn : ∀ j, j ≤ 2000 → cn j = nI (nt_hs wo N j)) (hP : va_P g.1 cl (wM g ad (nF wo) (nF N) ch cn f mx th) H)
    (kk : ∀ ls, lv_has ls 3 [(0, .ref (ad 0)), (1, .int (nI (nt_sm (nt_hs wo N) 2001)))] → W p l e R s m args below meth c H locs cells slots Q (F0 m 38 ls [])) : ∀ (n v x : Nat) (ls : Array Slot), 2001 - v < n → v ≤ 2001 → x = nt_sm (nt_hs wo N) v → lv_has ls 3 [(0, .ref (ad 0)), (1, .int (nI x)), (2, .int (nI v))] → W p l e R s m args below meth c H locs cells slots Q (F0 m 13 ls []) := by
  obtain ⟨hx, hb, hml, hown, hts⟩ := B.1
  intro n
  induction n with
  | zero => intro v x ls h; omega
  | succ n ih =>
    intro v x ls hn hv hxe hl
    have hxl : x ≤ 2001 := by
      have := nt_sm_le (f := nt_hs wo N) (k := 1) v (fun i _ => nt_hs_le wo N i)
      omega
    have hs1 := nt_hs_le wo N v
    refine lv_iload_n hx hb d_M_reach_13 rfl (lv_at hl 2 rfl) ?_
    refine lv_sipush (v := nI 2000) hx hb d_M_reach_14 (by decide) ?_
    refine n_igt hx hb d_M_reach_17 rfl (by omega) (by omega) (fun h => ?_) (fun h => ?_)
    · have e : v = 2001 := by omega
      subst e
      subst hxe
      have hl := lv_sub (l' := [(0, .ref (ad 0)), (1, .int (nI (nt_sm (nt_hs wo N) 2001)))]) hl [0, 1] rfl
      exact kk ls hl
    · refine lv_aload_n hx hb d_M_reach_20 rfl (lv_at hl 0 rfl) ?_
      refine gM_can B.1 hK hP rfl d_M_reach_21 ?_
      refine lv_iload_n hx hb d_M_reach_24 rfl (lv_at hl 2 rfl) ?_
      refine n_zald hx hb hK hP 4 rfl (by omega) (by decide) d_M_reach_25 ?_
      rw [hcn v (by omega)]
      refine n_ifeq hx hb d_M_reach_26 rfl (by omega) (fun h2 => ?_) (fun h2 => ?_)
      · refine lv_iinc (k := 2) (v := nI (v + 1)) (lv' := [(2, .int (nI (v + 1))), (0, .ref (ad 0)), (1, .int (nI x))]) hx hb d_M_reach_32 hl rfl (nI_add _ 1) (by decide) rfl (fun ls hl => ?_)
        refine lv_goto hx hb d_M_reach_35 rfl ?_
        have hl := lv_sub (l' := [(0, .ref (ad 0)), (1, .int (nI x)), (2, .int (nI (v + 1)))]) hl [1, 2, 0] rfl
        exact ih (v + 1) _ ls (by omega) (by omega) (by show _ = nt_sm (nt_hs wo N) v + nt_hs wo N v; omega) hl
      · refine lv_iinc (k := 1) (v := nI (x + 1)) (lv' := [(1, .int (nI (x + 1))), (0, .ref (ad 0)), (2, .int (nI v))]) hx hb d_M_reach_29 hl rfl (nI_add _ 1) (by decide) rfl (fun ls hl => ?_)
        refine lv_iinc (k := 2) (v := nI (v + 1)) (lv' := [(2, .int (nI (v + 1))), (1, .int (nI (x + 1))), (0, .ref (ad 0))]) hx hb d_M_reach_32 hl rfl (nI_add _ 1) (by decide) rfl (fun ls hl => ?_)
        refine lv_goto hx hb d_M_reach_35 rfl ?_
        have hl := lv_sub (l' := [(0, .ref (ad 0)), (1, .int (nI (x + 1))), (2, .int (nI (v + 1)))]) hl [2, 1, 0] rfl
        exact ih (v + 1) _ ls (by omega) (by omega) (by show _ = nt_sm (nt_hs wo N) v + nt_hs wo N v; omega) hl
end RCM
/-- an answer that needs no more than wo and N; nothing thrown -/
def qM0 (g : Gc) (ad : Nat → Nat) (wo N : Nat → Nat) (A : Nat → Prop) (r : Int32) : Array Value → State → Outcome → State → Prop := fun _ _ o t => o = .returned (some (.int r)) ∧ ∃ ch cn f mx th, va_P g.1 cl (wM g ad (nF wo) (nF N) ch cn f mx th) t.heap ∧ va_D A (wM g ad (nF wo) (nF N) ch cn f mx th)
theorem c_M_reach (l : Launch) (g : Gc) (ad : Nat → Nat) (wo N : Nat → Nat) (ch cn : Nat → Int32) (f mx th : Int32) (sz : Nat) (hG : nt_gd wo N) : Ct l y_M_reach cd_M_reach rmM2 (0, 0) (va_Pc [.ref (ad 0)] (qM g ad (nF wo) (nF N) ch cn f mx th sz)) (qM0 g ad wo N (va_A (wM g ad (nF wo) (nF N) ch cn f mx th) sz) (nI (nt_sm (nt_hs wo N) 2001))) (va_A (wM g ad (nF wo) (nF N) ch cn f mx th) sz) := by
  refine Ct.ofW (by decide) ?_
  intro p e s m args below meth c B hpre
  obtain ⟨rfl, hsz, hP, hK, hD0⟩ := hpre
  subst hsz
  have hD := hD0.self (sz := s.heap.size)
  generalize hAe : va_A (wM g ad (nF wo) (nF N) ch cn f mx th) s.heap.size = A at hD ⊢
  have hA : ∀ q : Nat, s.heap.size ≤ q → A q := fun q h => by rw [← hAe]; exact Or.inr h
  have hS : va_S A s.heap s.heap [] := va_S.rf
  have hP : va_P g.1 cl (wM g ad (nF wo) (nF N) ch cn f mx th) s.heap := hP
  obtain ⟨⟨hx, hb, hml, hown, hts⟩, hret, hlk, hnm, hex⟩ := id B
  have hl := lv_entry ([.ref (ad 0)]) (n := 3) (Nat.le_of_ble_eq_true rfl)
  rw [lg_entry_eq]
  generalize (lg_sl ([.ref (ad 0)]) ++ List.replicate (3 - (lg_sl ([.ref (ad 0)])).length) Slot.unset).toArray = ls at hl ⊢
  have hl : lv_has ls 3 [(0, .ref (ad 0))] := hl
  refine lv_aload_n hx hb d_M_reach_0 rfl (lv_at hl 0 rfl) ?_
  refine lv_iconst (v := nI 0) hx hb d_M_reach_1 (by decide) ?_
  refine pM_thrown B.1 hK hP hD hS d_M_reach_2 (fun H locs hP hD hS => ?_)
  have hP : va_P g.1 cl (wM g ad (nF wo) (nF N) ch cn f mx (nI 0)) H := hP
  have hD : va_D A (wM g ad (nF wo) (nF N) ch cn f mx (nI 0)) := hD
  refine lv_aload_n hx hb d_M_reach_5 rfl (lv_at hl 0 rfl) ?_
  have hFc := va_free (wc := wM g ad (nF wo) (nF N) ch cn f mx (nI 0)) hD hS hA [0, 1, 2, 3, 4] rfl
  refine x_calV (C := R_M) (b := ad 0) (As := []) (rest := []) B.1 (c_M_all l g ad wo N ch cn f mx _ _ hG) (xw_M_all (by decide)) tw_268 tw_270 ts_8 (recM hK hP) (preM hP hK hD) hl.1 (Nat.le_of_ble_eq_true rfl) hS hFc rfl d_M_reach_6 (fun rv t H1 locs1 hN => ?_) (fun rx t H1 locs1 hN => ?_)
  · obtain ⟨e1, hal, ⟨st, h0, hv0, cn, hcn, hP, hD1⟩, hz1, hk1, hS, -⟩ := hN
    cases hv0
    rw [e1] at hP
    have hD := hD1.weaken (fun k q _ h => hFc q.1 h)
    refine W.eq (g2 := F0 m 9 ls []) rfl ?_
    refine lv_iconst (v := nI 0) hx hb d_M_reach_9 (by decide) ?_
    refine lv_istore_n (lv' := [(1, .int (nI 0)), (0, .ref (ad 0))]) hx hb d_M_reach_10 rfl hl (by decide) rfl (fun ls hl => ?_)
    refine lv_iconst (v := nI 0) hx hb d_M_reach_11 (by decide) ?_
    refine lv_istore_n (lv' := [(2, .int (nI 0)), (1, .int (nI 0)), (0, .ref (ad 0))]) hx hb d_M_reach_12 rfl hl (by decide) rfl (fun ls hl => ?_)
    have hl := lv_sub (l' := [(0, .ref (ad 0)), (1, .int (nI 0)), (2, .int (nI 0))]) hl [2, 1, 0] rfl
    refine rc_M B hK hcn hP (fun ls hl => ?_) 2002 0 0 ls (by omega) (by omega) rfl hl
    refine lv_iload_n hx hb d_M_reach_38 rfl (lv_at hl 1 rfl) ?_
    exact x_iret B hS (by decide) (by decide) (fun t ht hW => ⟨rfl, ch, cn, f, mx, _, by rw [ht]; exact hP, hD⟩) d_M_reach_39
  · obtain ⟨-, -, ⟨st, h0, hv0, -⟩, -⟩ := hN
    cases hv0
theorem c_M_cassette (l : Launch) (g : Gc) (ad : Nat → Nat) (wo N : Nat → Nat) (ch cn : Nat → Int32) (f mx th : Int32) (cI b : Int32) (sz : Nat) : Ct l y_M_cassette cd_M_cassette rmM1 (0, 0) (va_Pc [.ref (ad 0), .int cI, .int b] (qM g ad (nF wo) (nF N) ch cn f mx th sz)) (qMI g ad wo N (va_A (wM g ad (nF wo) (nF N) ch cn f mx th) sz) (bad cI 3) False (fun r => pC wo N cI b r (fun _ => 0))) (va_A (wM g ad (nF wo) (nF N) ch cn f mx th) sz) := by
  refine Ct.ofW (by decide) ?_
  intro p e s m args below meth c B hpre
  obtain ⟨rfl, hsz, hP, hK, hD0⟩ := hpre
  subst hsz
  have hD := hD0.self (sz := s.heap.size)
  generalize hAe : va_A (wM g ad (nF wo) (nF N) ch cn f mx th) s.heap.size = A at hD ⊢
  have hA : ∀ q : Nat, s.heap.size ≤ q → A q := fun q h => by rw [← hAe]; exact Or.inr h
  have hS : va_S A s.heap s.heap [] := va_S.rf
  have hP : va_P g.1 cl (wM g ad (nF wo) (nF N) ch cn f mx th) s.heap := hP
  obtain ⟨⟨hx, hb, hml, hown, hts⟩, hret, hlk, hnm, hex⟩ := id B
  have hl := lv_entry ([.ref (ad 0), .int cI, .int b]) (n := 3) (Nat.le_of_ble_eq_true rfl)
  rw [lg_entry_eq]
  generalize (lg_sl ([.ref (ad 0), .int cI, .int b]) ++ List.replicate (3 - (lg_sl ([.ref (ad 0), .int cI, .int b])).length) Slot.unset).toArray = ls at hl ⊢
  have hl : lv_has ls 3 [(0, .ref (ad 0)), (1, .int cI), (2, .int b)] := hl
  refine lv_aload_n hx hb d_M_cassette_0 rfl (lv_at hl 0 rfl) ?_
  refine lv_iload_n hx hb d_M_cassette_1 rfl (lv_at hl 1 rfl) ?_
  refine lv_iconst (v := nI 0) hx hb d_M_cassette_2 (by decide) ?_
  refine lv_iconst (v := nI 3) hx hb d_M_cassette_3 (by decide) ?_
  refine x_pS (As := [.int cI, .int (nI 0), .int (nI 3)]) (rest := [.ref (ad 0)]) B.1 (c_M_in l cI (nI 0) (nI 3)) (xw_M_in (by decide)) tw_234 tw_235 (⟨fun _ _ _ _ q => q, fun _ _ _ => ⟨rfl, trivial⟩⟩) hl.1 (Nat.le_of_ble_eq_true rfl) hS rfl d_M_cassette_4 ?_
  refine lv_if_eq hx hb d_M_cassette_7 rfl (fun hin => ?_) (fun hin => ?_)
  · refine lv_iconst (v := nI 1) hx hb d_M_cassette_14 (by decide) ?_
    refine pM_thrown B.1 hK hP hD hS d_M_cassette_15 (fun H locs hP hD hS => ?_)
    have hP : va_P g.1 cl (wM g ad (nF wo) (nF N) ch cn f mx (nI 1)) H := hP
    have hD : va_D A (wM g ad (nF wo) (nF N) ch cn f mx (nI 1)) := hD
    refine lv_aload_n hx hb d_M_cassette_18 rfl (lv_at hl 0 rfl) ?_
    refine gM_thrown B.1 hK hP rfl d_M_cassette_19 ?_
    refine n_ifle hx hb d_M_cassette_22 rfl (by omega) (fun h9 => ?_) (fun h9 => ?_)
    · omega
    · refine lv_iconst (v := nI 0) hx hb d_M_cassette_25 (by decide) ?_
      exact x_iret B hS (by decide) (by decide) (fun t ht hW => ⟨ch, cn, f, mx, _, _, by rw [ht]; exact hP, hD, rfl, Or.inl ⟨hin, rfl⟩⟩) d_M_cassette_26
  · refine lv_iconst (v := nI 0) hx hb d_M_cassette_10 (by decide) ?_
    refine lv_goto hx hb d_M_cassette_11 rfl ?_
    refine pM_thrown B.1 hK hP hD hS d_M_cassette_15 (fun H locs hP hD hS => ?_)
    have hP : va_P g.1 cl (wM g ad (nF wo) (nF N) ch cn f mx (nI 0)) H := hP
    have hD : va_D A (wM g ad (nF wo) (nF N) ch cn f mx (nI 0)) := hD
    refine lv_aload_n hx hb d_M_cassette_18 rfl (lv_at hl 0 rfl) ?_
    refine gM_thrown B.1 hK hP rfl d_M_cassette_19 ?_
    refine n_ifle hx hb d_M_cassette_22 rfl (by omega) (fun h9 => ?_) (fun h9 => ?_)
    · obtain ⟨k, rfl, hk0, hk⟩ := in3_nI (by decide) (by decide) hin
      refine lv_iload_n hx hb d_M_cassette_27 rfl (lv_at hl 2 rfl) ?_
      refine lv_if_eq hx hb d_M_cassette_28 rfl (fun h => ?_) (fun h => ?_)
      · refine lv_aload_n hx hb d_M_cassette_40 rfl (lv_at hl 0 rfl) ?_
        refine gM_notes B.1 hK hP rfl d_M_cassette_41 ?_
        refine lv_iload_n hx hb d_M_cassette_44 rfl (lv_at hl 1 rfl) ?_
        refine n_iald hx hb hK hP 2 rfl (by omega) (by decide) d_M_cassette_45 ?_
        exact x_iret B hS (by decide) (by decide) (fun t ht hW => ⟨ch, cn, f, mx, _, _, by rw [ht]; exact hP, hD, rfl, Or.inr (Or.inr ⟨⟨k, by omega, rfl, by rw [if_pos h]⟩, rfl⟩)⟩) d_M_cassette_46
      · refine lv_aload_n hx hb d_M_cassette_31 rfl (lv_at hl 0 rfl) ?_
        refine gM_worth B.1 hK hP rfl d_M_cassette_32 ?_
        refine lv_iload_n hx hb d_M_cassette_35 rfl (lv_at hl 1 rfl) ?_
        refine n_iald hx hb hK hP 1 rfl (by omega) (by decide) d_M_cassette_36 ?_
        refine lv_goto hx hb d_M_cassette_37 rfl ?_
        exact x_iret B hS (by decide) (by decide) (fun t ht hW => ⟨ch, cn, f, mx, _, _, by rw [ht]; exact hP, hD, rfl, Or.inr (Or.inr ⟨⟨k, by omega, rfl, by rw [if_neg h]⟩, rfl⟩)⟩) d_M_cassette_46
    · omega
section VLM
variable {p : Program} {l : Launch} {e : Env} {R : Room} {s : State} {m : MethodId} {args : Array Value} {below : List Frame} {meth : Method} {c : Code} {H : Heap} {locs : List Loc} {cells slots : Nat} {Q : State → Prop}
variable {g : Gc} {ad : Nat → Nat} {A : Nat → Prop} {ls : Array Slot}
variable {wo N : Nat → Nat} {ch : Nat → Int32} {f mx th : Int32} {cn : Nat → Int32}
theorem vl_M (B : xk_B p s m args meth c y_M_value b_M_value 3 (some .int) []) (hK : gK g s) (hP : va_P g.1 cl (wM g ad (nF wo) (nF N) ch cn f mx th) H)
    (kk : ∀ ls, lv_has ls 3 [(0, .ref (ad 0)), (1, .int (nt_vl wo N 4))] → W p l e R s m args below meth c H locs cells slots Q (F0 m 36 ls [])) : ∀ (n cN : Nat) (x : Int32) (ls : Array Slot), 4 - cN < n → cN ≤ 4 → x = nt_vl wo N cN → lv_has ls 3 [(0, .ref (ad 0)), (1, .int x), (2, .int (nI cN))] → W p l e R s m args below meth c H locs cells slots Q (F0 m 9 ls []) := by
  obtain ⟨hx, hb, hml, hown, hts⟩ := B.1
  intro n
  induction n with
  | zero => intro cN x ls h; omega
  | succ n ih =>
    intro cN x ls hn hc hxe hl
    refine lv_iload_n hx hb d_M_value_9 rfl (lv_at hl 2 rfl) ?_
    refine lv_iconst (v := nI 4) hx hb d_M_value_10 (by decide) ?_
    refine n_ige hx hb d_M_value_11 rfl (by omega) (by omega) (fun h => ?_) (fun h => ?_)
    · have e : cN = 4 := by omega
      subst e
      subst hxe
      have hl := lv_sub (l' := [(0, .ref (ad 0)), (1, .int (nt_vl wo N 4))]) hl [0, 1] rfl
      exact kk ls hl
    · refine lv_iload_n hx hb d_M_value_14 rfl (lv_at hl 1 rfl) ?_
      refine lv_aload_n hx hb d_M_value_15 rfl (lv_at hl 0 rfl) ?_
      refine gM_notes B.1 hK hP rfl d_M_value_16 ?_
      refine lv_iload_n hx hb d_M_value_19 rfl (lv_at hl 2 rfl) ?_
      refine n_iald hx hb hK hP 2 rfl (by omega) (by decide) d_M_value_20 ?_
      refine lv_aload_n hx hb d_M_value_21 rfl (lv_at hl 0 rfl) ?_
      refine gM_worth B.1 hK hP rfl d_M_value_22 ?_
      refine lv_iload_n hx hb d_M_value_25 rfl (lv_at hl 2 rfl) ?_
      refine n_iald hx hb hK hP 1 rfl (by omega) (by decide) d_M_value_26 ?_
      refine n_mul hx hb d_M_value_27 ?_
      refine lv_iadd hx hb d_M_value_28 ?_
      refine lv_istore_n (lv' := [(1, .int (x + (nI ((N cN) * (wo cN))))), (0, .ref (ad 0)), (2, .int (nI cN))]) hx hb d_M_value_29 rfl hl (by decide) rfl (fun ls hl => ?_)
      refine lv_iinc (k := 2) (v := nI (cN + 1)) (lv' := [(2, .int (nI (cN + 1))), (1, .int (x + (nI ((N cN) * (wo cN))))), (0, .ref (ad 0))]) hx hb d_M_value_30 hl rfl (nI_add _ 1) (by decide) rfl (fun ls hl => ?_)
      refine lv_goto hx hb d_M_value_33 rfl ?_
      have hl := lv_sub (l' := [(0, .ref (ad 0)), (1, .int (x + (nI ((N cN) * (wo cN))))), (2, .int (nI (cN + 1)))]) hl [2, 1, 0] rfl
      exact ih (cN + 1) _ ls (by omega) (by omega) (by show _ = nt_vl wo N cN + nI (N cN) * nI (wo cN); rw [pk_mul, hxe]) hl
end VLM
theorem c_M_value (l : Launch) (g : Gc) (ad : Nat → Nat) (wo N : Nat → Nat) (ch cn : Nat → Int32) (f mx th : Int32) (sz : Nat) : Ct l y_M_value cd_M_value rm0 (0, 0) (va_Pc [.ref (ad 0)] (qM g ad (nF wo) (nF N) ch cn f mx th sz)) (qM0 g ad wo N (va_A (wM g ad (nF wo) (nF N) ch cn f mx th) sz) (nt_vl wo N 4)) (va_A (wM g ad (nF wo) (nF N) ch cn f mx th) sz) := by
  refine Ct.ofW (by decide) ?_
  intro p e s m args below meth c B hpre
  obtain ⟨rfl, hsz, hP, hK, hD0⟩ := hpre
  subst hsz
  have hD := hD0.self (sz := s.heap.size)
  generalize hAe : va_A (wM g ad (nF wo) (nF N) ch cn f mx th) s.heap.size = A at hD ⊢
  have hA : ∀ q : Nat, s.heap.size ≤ q → A q := fun q h => by rw [← hAe]; exact Or.inr h
  have hS : va_S A s.heap s.heap [] := va_S.rf
  have hP : va_P g.1 cl (wM g ad (nF wo) (nF N) ch cn f mx th) s.heap := hP
  obtain ⟨⟨hx, hb, hml, hown, hts⟩, hret, hlk, hnm, hex⟩ := id B
  have hl := lv_entry ([.ref (ad 0)]) (n := 3) (Nat.le_of_ble_eq_true rfl)
  rw [lg_entry_eq]
  generalize (lg_sl ([.ref (ad 0)]) ++ List.replicate (3 - (lg_sl ([.ref (ad 0)])).length) Slot.unset).toArray = ls at hl ⊢
  have hl : lv_has ls 3 [(0, .ref (ad 0))] := hl
  refine lv_aload_n hx hb d_M_value_0 rfl (lv_at hl 0 rfl) ?_
  refine lv_iconst (v := nI 0) hx hb d_M_value_1 (by decide) ?_
  refine pM_thrown B.1 hK hP hD hS d_M_value_2 (fun H locs hP hD hS => ?_)
  have hP : va_P g.1 cl (wM g ad (nF wo) (nF N) ch cn f mx (nI 0)) H := hP
  have hD : va_D A (wM g ad (nF wo) (nF N) ch cn f mx (nI 0)) := hD
  refine lv_iconst (v := nI 0) hx hb d_M_value_5 (by decide) ?_
  refine lv_istore_n (lv' := [(1, .int (nI 0)), (0, .ref (ad 0))]) hx hb d_M_value_6 rfl hl (by decide) rfl (fun ls hl => ?_)
  refine lv_iconst (v := nI 0) hx hb d_M_value_7 (by decide) ?_
  refine lv_istore_n (lv' := [(2, .int (nI 0)), (1, .int (nI 0)), (0, .ref (ad 0))]) hx hb d_M_value_8 rfl hl (by decide) rfl (fun ls hl => ?_)
  have hl := lv_sub (l' := [(0, .ref (ad 0)), (1, .int (nI 0)), (2, .int (nI 0))]) hl [2, 1, 0] rfl
  refine vl_M B hK hP (fun ls hl => ?_) 5 0 _ ls (by omega) (by omega) rfl hl
  refine lv_iload_n hx hb d_M_value_36 rfl (lv_at hl 1 rfl) ?_
  exact x_iret B hS (by decide) (by decide) (fun t ht hW => ⟨rfl, ch, cn, f, mx, _, by rw [ht]; exact hP, hD⟩) d_M_value_37
end
section
/-! the law's own small methods: they catch -/
section LRW
variable {p : Program} {l : Launch} {e : Env} {R : Room} {s : State} {m : MethodId} {args : Array Value} {below : List Frame} {meth : Method} {c : Code} {H : Heap} {locs : List Loc} {cells slots : Nat} {Q : State → Prop}
variable {cc : ByteArray} {pc a : Nat} {ls : Array Slot} {rest : List Value} {g : Gc} {ws : va_W} {A : Nat → Prop}
theorem n_lald (hexec : p.tables.exec = Jvm.exec) (hb : c.code = cc) (hK : gK g s) (hP : va_P g.1 cl ws H) (q0 : Nat) {n i : Nat} {f : Nat → Int64} (ha : ws[q0]? = some (a, .inl (g.2 3, n, .inr (.inl f)))) (hi : i < n) (hn : n < 2147483648) (hdg : decode cc pc = .ok (.laload, 1)) (kk : W p l e R s m args below meth c H locs cells slots Q (F0 m (pc + 1) ls (.long (f i) :: rest))) : W p l e R s m args below meth c H locs cells slots Q (F0 m pc ls (.int (nI i) :: .ref a :: rest)) :=
  va_lald hexec hb hK hP q0 3 ha rfl (vp_in_nI hi hn) hdg (by rw [nI_clamp (show i < 2 ^ 31 by omega)]; exact kk)
theorem n_last (hexec : p.tables.exec = Jvm.exec) (hb : c.code = cc) (hK : gK g s) (hP : va_P g.1 cl ws H) (hD : va_D A ws) (hS : va_S A s.heap H locs) (q0 : Nat) {n i : Nat} {f : Nat → Int64} {x : Int64} (ha : ws[q0]? = some (a, .inl (g.2 3, n, .inr (.inl f)))) (hi : i < n) (hn : n < 2147483648) (hdg : decode cc pc = .ok (.lastore, 1))
    (kk : ∀ (H1 : Heap) (locs1 : List Loc), va_P g.1 cl (ws.set q0 (a, .inl (g.2 3, n, .inr (.inl (vp_updL f i x))))) H1 → va_D A (ws.set q0 (a, .inl (g.2 3, n, .inr (.inl (vp_updL f i x))))) → va_S A s.heap H1 locs1 → W p l e R s m args below meth c H1 locs1 cells slots Q (F0 m (pc + 1) ls rest)) : W p l e R s m args below meth c H locs cells slots Q (F0 m pc ls (.long x :: .int (nI i) :: .ref a :: rest)) := by
  refine va_last hexec hb hK hP hD hS q0 3 ha rfl (vp_in_nI hi hn) hdg (fun H1 locs1 h1 h2 h3 => ?_)
  rw [nI_clamp (show i < 2 ^ 31 by omega)] at h1 h2
  exact kk H1 locs1 h1 h2 h3
end LRW
/-- the law's long[1], and the object -/
abbrev wO (g : Gc) (oa : Nat) (ov : Nat → Int64) : Nat × va_E := (oa, .inl (g.2 3, 1, .inr (.inl ov)))
abbrev wY (g : Gc) (oa : Nat) (ov : Nat → Int64) (ad : Nat → Nat) (wv nv : Nat → Int32) (kn : Int32) (fw pp : Nat → Int32) : va_W := wO g oa ov :: wX g ad wv nv kn fw pp
def qYt (g : Gc) (oa : Nat) (ov : Nat → Int64) (ad : Nat → Nat) (wv nv : Nat → Int32) (kn : Int32) (fw pp : Nat → Int32) (sz : Nat) (U : State) : Prop := U.heap.size = sz ∧ va_P g.1 cl (wY g oa ov ad wv nv kn fw pp) U.heap ∧ gK g U ∧ va_D (fun _ => True) (wY g oa ov ad wv nv kn fw pp) ∧ TS (va_A (wY g oa ov ad wv nv kn fw pp) sz) U U.heap
theorem th_at {cls : String} {x : Addr} {s t : State} {H1 : Heap} (h : TH cls x t) (e1 : t.heap = H1) (hal : s.vm.Alike t.vm) : ∃ cell : Cell, H1[x]? = some cell ∧ cell.vm.isStatics = false ∧ s.vm.findClass cls = some cell.cls := by
  obtain ⟨cell, h1, h2, h3⟩ := h
  exact ⟨cell, by rw [← e1]; exact h1, h2, by rw [← h3]; exact (hal.findClass ..).symm⟩
abbrev rmL : Room := { frames := 9, cells := 1, slots := 6, locals := 149 }
/-- 1: IllegalArgumentException; 2: NoSuchElementException; 0: the answer lies in the array -/
def qR (g : Gc) (oa : Nat) (ad : Nat → Nat) (wo N : Nat → Nat) (A : Nat → Prop) (c1 c2 : Prop) (post : Int32 → Prop) : Array Value → State → Outcome → State → Prop := fun _ _ o t => ∃ kn fw pp ov k, nt_kn wo N kn fw ∧ va_P g.1 cl (wY g oa ov ad (nF wo) (nF N) kn fw pp) t.heap ∧ va_D A (wY g oa ov ad (nF wo) (nF N) kn fw pp) ∧ o = .returned (some (.int k)) ∧ ((c1 ∧ k = 1) ∨ (c2 ∧ k = 2) ∨ (k = 0 ∧ ∃ r, post r ∧ ov 0 = r.toInt64))
def qRP (g : Gc) (oa : Nat) (ad : Nat → Nat) (wo N : Nat → Nat) (A : Nat → Prop) (v jI : Int32) : Array Value → State → Outcome → State → Prop := fun _ _ o t => ∃ M kn fw pp ov k, nt_kn wo M kn fw ∧ nt_gd wo M ∧ va_P g.1 cl (wY g oa ov ad (nF wo) (nF M) kn fw pp) t.heap ∧ va_D A (wY g oa ov ad (nF wo) (nF M) kn fw pp) ∧ o = .returned (some (.int k)) ∧
  (((bad jI 40 ∨ (¬ bad jI 40 ∧ bad v 2000)) ∧ M = N ∧ k = 1) ∨ ((¬ bad jI 40 ∧ cF wo N v) ∧ M = N ∧ k = 2) ∨
    (k = 0 ∧ ∃ n j ch, n ≤ 2000 ∧ v = nI n ∧ j ≤ 40 ∧ jI = nI j ∧ nt_rw wo N 4 n ≤ 40 ∧ nt_bst wo N n (nt_rw wo N 4 n) ch ∧ M = (nt_py wo ch 4 N j 0).1 ∧ ov 0 = (nI (nt_py wo ch 4 N j 0).2).toInt64))
def qRL (g : Gc) (oa : Nat) (ad : Nat → Nat) (wo N : Nat → Nat) (A : Nat → Prop) (cI wI mI : Int32) : Array Value → State → Outcome → State → Prop := fun _ _ o t => ∃ V M kn fw pp ov k, nt_kn V M kn fw ∧ va_P g.1 cl (wY g oa ov ad (nF V) (nF M) kn fw pp) t.heap ∧ va_D A (wY g oa ov ad (nF V) (nF M) kn fw pp) ∧ o = .returned (some (.int k)) ∧
  ((¬ okL cI wI mI ∧ V = wo ∧ M = N ∧ k = 1) ∨ (okL cI wI mI ∧ ldR wo N V M cI wI mI ∧ k = 0))
theorem xw_X_load {R : Room} {cells slots : Nat} (h : xw_R R cells slots rmF 4) : xk_W R cells slots y_X_load cd_X_load rmF 4 3 := ⟨kc_X_load, Or.inl ⟨_, _, rfl⟩, tw_1, by decide, by decide +kernel, h.1, h.2.1, h.2.2.1, h.2.2.2⟩
theorem xw_X_best {R : Room} {cells slots : Nat} (h : xw_R R cells slots rmB 2) : xk_W R cells slots y_X_best cd_X_best rmB 2 1 := ⟨kc_X_best, Or.inl ⟨_, _, rfl⟩, tw_1, by decide, by decide +kernel, h.1, h.2.1, h.2.2.1, h.2.2.2⟩
theorem xw_X_part {R : Room} {cells slots : Nat} (h : xw_R R cells slots rmB 3) : xk_W R cells slots y_X_part cd_X_part rmB 3 2 := ⟨kc_X_part, Or.inl ⟨_, _, rfl⟩, tw_1, by decide, by decide +kernel, h.1, h.2.1, h.2.2.1, h.2.2.2⟩
theorem xw_X_ways {R : Room} {cells slots : Nat} (h : xw_R R cells slots rmF 9) : xk_W R cells slots y_X_ways cd_X_ways rmF 9 1 := ⟨kc_X_ways, Or.inl ⟨_, _, rfl⟩, tw_1, by decide, by decide +kernel, h.1, h.2.1, h.2.2.1, h.2.2.2⟩
theorem xw_X_pay {R : Room} {cells slots : Nat} (h : xw_R R cells slots rmB 7) : xk_W R cells slots y_X_pay cd_X_pay rmB 7 2 := ⟨kc_X_pay, Or.inl ⟨_, _, rfl⟩, tw_1, by decide, by decide +kernel, h.1, h.2.1, h.2.2.1, h.2.2.2⟩
theorem xw_X_next {R : Room} {cells slots : Nat} (h : xw_R R cells slots rmF 3) : xk_W R cells slots y_X_next cd_X_next rmF 3 1 := ⟨kc_X_next, Or.inl ⟨_, _, rfl⟩, tw_1, by decide, by decide +kernel, h.1, h.2.1, h.2.2.1, h.2.2.2⟩
theorem xw_X_cassette {R : Room} {cells slots : Nat} (h : xw_R R cells slots rmF 3) : xk_W R cells slots y_X_cassette cd_X_cassette rmF 3 2 := ⟨kc_X_cassette, Or.inl ⟨_, _, rfl⟩, tw_1, by decide, by decide +kernel, h.1, h.2.1, h.2.2.1, h.2.2.2⟩
theorem c_L_load (l : Launch) (hfl : l.flags = flags0) (g : Gc) (oa : Nat) (ov : Nat → Int64) (ad : Nat → Nat) (wo N : Nat → Nat) (kn : Int32) (fw pp : Nat → Int32) (cI wI mI : Int32) (sz : Nat) (hkn : nt_kn wo N kn fw) : Ct l y_L_load cd_L_load rmL (1, 6) (va_Pc [.ref (ad 0), .int cI, .int wI, .int mI] (qYt g oa ov ad (nF wo) (nF N) kn fw pp sz)) (qRL g oa ad wo N (va_A (wY g oa ov ad (nF wo) (nF N) kn fw pp) sz) cI wI mI) (va_A (wY g oa ov ad (nF wo) (nF N) kn fw pp) sz) := by
  refine Ct.ofWW (by decide) ?_
  intro p e s m args below meth c B hpre
  obtain ⟨rfl, hsz, hP, hK, hD0, hTS⟩ := hpre
  subst hsz
  have hD := hD0.self (sz := s.heap.size)
  generalize hAe : va_A (wY g oa ov ad (nF wo) (nF N) kn fw pp) s.heap.size = A at hD hTS ⊢
  have hA : ∀ q : Nat, s.heap.size ≤ q → A q := fun q h => by rw [← hAe]; exact Or.inr h
  have hS : va_S A s.heap s.heap [] := va_S.rf
  have hP : va_P g.1 cl (wY g oa ov ad (nF wo) (nF N) kn fw pp) s.heap := hP
  obtain ⟨⟨hx, hb, hml, hown, hts⟩, hret, hlk, hnm, hex⟩ := id B
  have hl := lv_entry ([.ref (ad 0), .int cI, .int wI, .int mI]) (n := 5) (Nat.le_of_ble_eq_true rfl)
  rw [lg_entry_eq]
  generalize (lg_sl ([.ref (ad 0), .int cI, .int wI, .int mI]) ++ List.replicate (5 - (lg_sl ([.ref (ad 0), .int cI, .int wI, .int mI])).length) Slot.unset).toArray = ls at hl ⊢
  have hl : lv_has ls 5 [(0, .ref (ad 0)), (1, .int cI), (2, .int wI), (3, .int mI)] := hl
  refine lv_aload_n hx hb d_L_load_0 rfl (lv_at hl 0 rfl) ?_
  refine lv_iload_n hx hb d_L_load_1 rfl (lv_at hl 1 rfl) ?_
  refine lv_iload_n hx hb d_L_load_2 rfl (lv_at hl 2 rfl) ?_
  refine lv_iload_n hx hb d_L_load_3 rfl (lv_at hl 3 rfl) ?_
  have hPc := hP.sub (ws' := wX g ad (nF wo) (nF N) kn fw pp) [1, 2, 3, 4, 5] rfl
  have hDc := hD.sub (ws' := wX g ad (nF wo) (nF N) kn fw pp) [1, 2, 3, 4, 5] (by decide) rfl
  have hFc := va_free (wc := wX g ad (nF wo) (nF N) kn fw pp) hD hS hA [1, 2, 3, 4, 5] rfl
  refine x_calV (C := R_X) (b := ad 0) (As := [.int cI, .int wI, .int mI]) (rest := []) B.1 (c_X_load l hfl g ad wo N kn fw pp cI wI mI _ hkn) (xw_X_load (by decide)) tw_55 tw_56 tw_57 (recX hK hPc) (preXt hPc hK hDc hTS hS hFc) hl.1 (Nat.le_of_ble_eq_true rfl) hS hFc rfl d_L_load_4 (fun rv t H1 locs1 hN => ?_) (fun rx t H1 locs1 hN => ?_)
  · obtain ⟨e1, hal, ⟨st, h0, V, M, kn, fw, pp, hkn, hP1, hD1, hcase⟩, hz1, hk1, hS, -⟩ := hN
    rw [e1] at hP1
    obtain ⟨hP, hD⟩ := va_join (wr := [wO g oa ov]) (w1 := wX g ad (nF V) (nF M) kn fw pp) hP hD [1, 2, 3, 4, 5] [0] rfl rfl (by decide) (by decide) hk1 hFc hP1 hD1
    rcases hcase with ⟨-, -, -, x, hv0, -⟩ | ⟨hok, hld, hv0⟩
    · cases hv0
    · cases hv0
      refine W.eq (g2 := F0 m 7 ls []) rfl ?_
      refine lv_goto hx hb d_L_load_7 rfl ?_
      refine lv_iconst (v := nI 0) hx hb d_L_load_14 (by decide) ?_
      exact x_iret B hS (by decide) (by decide) (fun t ht hW => ⟨V, M, kn, fw, pp, ov, _, hkn, by rw [ht]; exact hP, hD, rfl, Or.inr ⟨hok, hld, rfl⟩⟩) d_L_load_15
  · obtain ⟨e1, hal, ⟨st, h0, V, M, kn, fw, pp, hkn, hP1, hD1, hcase⟩, hz1, hk1, hS, -⟩ := hN
    rw [e1] at hP1
    obtain ⟨hP, hD⟩ := va_join (wr := [wO g oa ov]) (w1 := wX g ad (nF V) (nF M) kn fw pp) hP hD [1, 2, 3, 4, 5] [0] rfl rfl (by decide) (by decide) hk1 hFc hP1 hD1
    rcases hcase with ⟨hno, hVW, hMN, x, hv0, hth⟩ | ⟨-, -, hv0⟩
    · cases hv0
      refine x_catch1 (CN := IAE) (CX := IAE) B (by decide) (by decide) (by decide) tw_54 tw_67 (th_at hth e1 hal) ?_
      refine lv_astore (lv' := [(4, .ref rx), (0, .ref (ad 0)), (1, .int cI), (2, .int wI), (3, .int mI)]) hx hb d_L_load_10 hl (by decide) rfl (fun ls hl => ?_)
      refine lv_iconst (v := nI 1) hx hb d_L_load_12 (by decide) ?_
      exact x_iret B hS (by decide) (by decide) (fun t ht hW => ⟨V, M, kn, fw, pp, ov, _, hkn, by rw [ht]; exact hP, hD, rfl, Or.inl ⟨hno, hVW, hMN, rfl⟩⟩) d_L_load_13
    · cases hv0
theorem c_L_best (l : Launch) (hfl : l.flags = flags0) (g : Gc) (oa : Nat) (ov : Nat → Int64) (ad : Nat → Nat) (wo N : Nat → Nat) (kn : Int32) (fw pp : Nat → Int32) (v : Int32) (sz : Nat) (hG : nt_gd wo N) (hkn : nt_kn wo N kn fw) : Ct l y_L_best cd_L_best rmL (1, 6) (va_Pc [.ref (ad 0), .int v, .ref oa] (qYt g oa ov ad (nF wo) (nF N) kn fw pp sz)) (qR g oa ad wo N (va_A (wY g oa ov ad (nF wo) (nF N) kn fw pp) sz) (bad v 2000) (cF wo N v) (pB wo N v)) (va_A (wY g oa ov ad (nF wo) (nF N) kn fw pp) sz) := by
  refine Ct.ofWW (by decide) ?_
  intro p e s m args below meth c B hpre
  obtain ⟨rfl, hsz, hP, hK, hD0, hTS⟩ := hpre
  subst hsz
  have hD := hD0.self (sz := s.heap.size)
  generalize hAe : va_A (wY g oa ov ad (nF wo) (nF N) kn fw pp) s.heap.size = A at hD hTS ⊢
  have hA : ∀ q : Nat, s.heap.size ≤ q → A q := fun q h => by rw [← hAe]; exact Or.inr h
  have hS : va_S A s.heap s.heap [] := va_S.rf
  have hP : va_P g.1 cl (wY g oa ov ad (nF wo) (nF N) kn fw pp) s.heap := hP
  obtain ⟨⟨hx, hb, hml, hown, hts⟩, hret, hlk, hnm, hex⟩ := id B
  have hl := lv_entry ([.ref (ad 0), .int v, .ref oa]) (n := 4) (Nat.le_of_ble_eq_true rfl)
  rw [lg_entry_eq]
  generalize (lg_sl ([.ref (ad 0), .int v, .ref oa]) ++ List.replicate (4 - (lg_sl ([.ref (ad 0), .int v, .ref oa])).length) Slot.unset).toArray = ls at hl ⊢
  have hl : lv_has ls 4 [(0, .ref (ad 0)), (1, .int v), (2, .ref oa)] := hl
  refine lv_aload_n hx hb d_L_best_0 rfl (lv_at hl 2 rfl) ?_
  refine lv_iconst (v := nI 0) hx hb d_L_best_1 (by decide) ?_
  refine lv_aload_n hx hb d_L_best_2 rfl (lv_at hl 0 rfl) ?_
  refine lv_iload_n hx hb d_L_best_3 rfl (lv_at hl 1 rfl) ?_
  have hPc := hP.sub (ws' := wX g ad (nF wo) (nF N) kn fw pp) [1, 2, 3, 4, 5] rfl
  have hDc := hD.sub (ws' := wX g ad (nF wo) (nF N) kn fw pp) [1, 2, 3, 4, 5] (by decide) rfl
  have hFc := va_free (wc := wX g ad (nF wo) (nF N) kn fw pp) hD hS hA [1, 2, 3, 4, 5] rfl
  refine x_calV (C := R_X) (b := ad 0) (As := [.int v]) (rest := [.int (nI 0), .ref oa]) B.1 (c_X_best l hfl g ad wo N kn fw pp v _ hG hkn) (xw_X_best (by decide)) tw_131 tw_132 tw_133 (recX hK hPc) (preXt hPc hK hDc hTS hS hFc) hl.1 (Nat.le_of_ble_eq_true rfl) hS hFc rfl d_L_best_4 (fun rv t H1 locs1 hN => ?_) (fun rx t H1 locs1 hN => ?_)
  · obtain ⟨e1, hal, ⟨st, h0, kn, fw, pp, hkn, hP1, hD1, hcase⟩, hz1, hk1, hS, -⟩ := hN
    rw [e1] at hP1
    obtain ⟨hP, hD⟩ := va_join (wr := [wO g oa ov]) (w1 := wX g ad (nF wo) (nF N) kn fw pp) hP hD [1, 2, 3, 4, 5] [0] rfl rfl (by decide) (by decide) hk1 hFc hP1 hD1
    rcases hcase with ⟨-, x, hv0, -⟩ | ⟨-, x, hv0, -⟩ | ⟨r, hv0, hpost⟩
    · cases hv0
    · cases hv0
    · cases hv0
      refine W.eq (g2 := F0 m 7 ls [.int (r), .int (nI 0), .ref oa]) rfl ?_
      refine lv_i2l (v := (r).toInt64) hx hb d_L_best_7 rfl ?_
      refine n_last hx hb hK hP hD hS 0 rfl (by omega) (by decide) d_L_best_8 (fun H locs hP hD hS => ?_)
      have hP : va_P g.1 cl (wY g oa (vp_updL ov 0 (r).toInt64) ad (nF wo) (nF N) kn fw pp) H := hP
      have hD : va_D A (wY g oa (vp_updL ov 0 (r).toInt64) ad (nF wo) (nF N) kn fw pp) := hD
      refine lv_goto hx hb d_L_best_9 rfl ?_
      refine lv_iconst (v := nI 0) hx hb d_L_best_18 (by decide) ?_
      exact x_iret B hS (by decide) (by decide) (fun t ht hW => ⟨kn, fw, pp, _, _, hkn, by rw [ht]; exact hP, hD, rfl, Or.inr (Or.inr ⟨rfl, r, (by obtain ⟨n, h1, h2, h3, h4, -⟩ := hpost; exact ⟨n, h1, h2, h3, h4⟩), pk_uLs⟩)⟩) d_L_best_19
  · obtain ⟨e1, hal, ⟨st, h0, kn, fw, pp, hkn, hP1, hD1, hcase⟩, hz1, hk1, hS, -⟩ := hN
    rw [e1] at hP1
    obtain ⟨hP, hD⟩ := va_join (wr := [wO g oa ov]) (w1 := wX g ad (nF wo) (nF N) kn fw pp) hP hD [1, 2, 3, 4, 5] [0] rfl rfl (by decide) (by decide) hk1 hFc hP1 hD1
    rcases hcase with ⟨hc1, x, hv0, hth⟩ | ⟨hc2, x, hv0, hth⟩ | ⟨r, hv0, -⟩
    · cases hv0
      refine x_catch1 (CN := IAE) (CX := IAE) B (by decide) (by decide) (by decide) tw_54 tw_67 (th_at hth e1 hal) ?_
      refine lv_astore_n (lv' := [(3, .ref rx), (0, .ref (ad 0)), (1, .int v), (2, .ref oa)]) hx hb d_L_best_12 rfl hl (by decide) rfl (fun ls hl => ?_)
      refine lv_iconst (v := nI 1) hx hb d_L_best_13 (by decide) ?_
      exact x_iret B hS (by decide) (by decide) (fun t ht hW => ⟨kn, fw, pp, ov, _, hkn, by rw [ht]; exact hP, hD, rfl, Or.inl ⟨hc1, rfl⟩⟩) d_L_best_14
    · cases hv0
      refine x_catch2 (CN := IAE) (CM := NSE) (CX := NSE) B (by decide) (by decide) (by decide) (by decide) (by decide) (by decide) tw_54 tw_130 tn_0 tw_145 (th_at hth e1 hal) ?_
      refine lv_astore_n (lv' := [(3, .ref rx), (0, .ref (ad 0)), (1, .int v), (2, .ref oa)]) hx hb d_L_best_15 rfl hl (by decide) rfl (fun ls hl => ?_)
      refine lv_iconst (v := nI 2) hx hb d_L_best_16 (by decide) ?_
      exact x_iret B hS (by decide) (by decide) (fun t ht hW => ⟨kn, fw, pp, ov, _, hkn, by rw [ht]; exact hP, hD, rfl, Or.inr (Or.inl ⟨hc2, rfl⟩)⟩) d_L_best_17
    · cases hv0
theorem c_L_part (l : Launch) (hfl : l.flags = flags0) (g : Gc) (oa : Nat) (ov : Nat → Int64) (ad : Nat → Nat) (wo N : Nat → Nat) (kn : Int32) (fw pp : Nat → Int32) (v cI : Int32) (sz : Nat) (hG : nt_gd wo N) (hkn : nt_kn wo N kn fw) : Ct l y_L_part cd_L_part rmL (1, 6) (va_Pc [.ref (ad 0), .int v, .int cI, .ref oa] (qYt g oa ov ad (nF wo) (nF N) kn fw pp sz)) (qR g oa ad wo N (va_A (wY g oa ov ad (nF wo) (nF N) kn fw pp) sz) (bad cI 3 ∨ (¬ bad cI 3 ∧ bad v 2000)) (¬ bad cI 3 ∧ cF wo N v) (fun r => pP wo N v cI r (fun _ => 0))) (va_A (wY g oa ov ad (nF wo) (nF N) kn fw pp) sz) := by
  refine Ct.ofWW (by decide) ?_
  intro p e s m args below meth c B hpre
  obtain ⟨rfl, hsz, hP, hK, hD0, hTS⟩ := hpre
  subst hsz
  have hD := hD0.self (sz := s.heap.size)
  generalize hAe : va_A (wY g oa ov ad (nF wo) (nF N) kn fw pp) s.heap.size = A at hD hTS ⊢
  have hA : ∀ q : Nat, s.heap.size ≤ q → A q := fun q h => by rw [← hAe]; exact Or.inr h
  have hS : va_S A s.heap s.heap [] := va_S.rf
  have hP : va_P g.1 cl (wY g oa ov ad (nF wo) (nF N) kn fw pp) s.heap := hP
  obtain ⟨⟨hx, hb, hml, hown, hts⟩, hret, hlk, hnm, hex⟩ := id B
  have hl := lv_entry ([.ref (ad 0), .int v, .int cI, .ref oa]) (n := 5) (Nat.le_of_ble_eq_true rfl)
  rw [lg_entry_eq]
  generalize (lg_sl ([.ref (ad 0), .int v, .int cI, .ref oa]) ++ List.replicate (5 - (lg_sl ([.ref (ad 0), .int v, .int cI, .ref oa])).length) Slot.unset).toArray = ls at hl ⊢
  have hl : lv_has ls 5 [(0, .ref (ad 0)), (1, .int v), (2, .int cI), (3, .ref oa)] := hl
  refine lv_aload_n hx hb d_L_part_0 rfl (lv_at hl 3 rfl) ?_
  refine lv_iconst (v := nI 0) hx hb d_L_part_1 (by decide) ?_
  refine lv_aload_n hx hb d_L_part_2 rfl (lv_at hl 0 rfl) ?_
  refine lv_iload_n hx hb d_L_part_3 rfl (lv_at hl 1 rfl) ?_
  refine lv_iload_n hx hb d_L_part_4 rfl (lv_at hl 2 rfl) ?_
  have hPc := hP.sub (ws' := wX g ad (nF wo) (nF N) kn fw pp) [1, 2, 3, 4, 5] rfl
  have hDc := hD.sub (ws' := wX g ad (nF wo) (nF N) kn fw pp) [1, 2, 3, 4, 5] (by decide) rfl
  have hFc := va_free (wc := wX g ad (nF wo) (nF N) kn fw pp) hD hS hA [1, 2, 3, 4, 5] rfl
  refine x_calV (C := R_X) (b := ad 0) (As := [.int v, .int cI]) (rest := [.int (nI 0), .ref oa]) B.1 (c_X_part l hfl g ad wo N kn fw pp v cI _ hG hkn) (xw_X_part (by decide)) tw_161 tw_162 tw_163 (recX hK hPc) (preXt hPc hK hDc hTS hS hFc) hl.1 (Nat.le_of_ble_eq_true rfl) hS hFc rfl d_L_part_5 (fun rv t H1 locs1 hN => ?_) (fun rx t H1 locs1 hN => ?_)
  · obtain ⟨e1, hal, ⟨st, h0, kn, fw, pp, hkn, hP1, hD1, hcase⟩, hz1, hk1, hS, -⟩ := hN
    rw [e1] at hP1
    obtain ⟨hP, hD⟩ := va_join (wr := [wO g oa ov]) (w1 := wX g ad (nF wo) (nF N) kn fw pp) hP hD [1, 2, 3, 4, 5] [0] rfl rfl (by decide) (by decide) hk1 hFc hP1 hD1
    rcases hcase with ⟨-, x, hv0, -⟩ | ⟨-, x, hv0, -⟩ | ⟨r, hv0, hpost⟩
    · cases hv0
    · cases hv0
    · cases hv0
      refine W.eq (g2 := F0 m 8 ls [.int (r), .int (nI 0), .ref oa]) rfl ?_
      refine lv_i2l (v := (r).toInt64) hx hb d_L_part_8 rfl ?_
      refine n_last hx hb hK hP hD hS 0 rfl (by omega) (by decide) d_L_part_9 (fun H locs hP hD hS => ?_)
      have hP : va_P g.1 cl (wY g oa (vp_updL ov 0 (r).toInt64) ad (nF wo) (nF N) kn fw pp) H := hP
      have hD : va_D A (wY g oa (vp_updL ov 0 (r).toInt64) ad (nF wo) (nF N) kn fw pp) := hD
      refine lv_goto hx hb d_L_part_10 rfl ?_
      refine lv_iconst (v := nI 0) hx hb d_L_part_21 (by decide) ?_
      exact x_iret B hS (by decide) (by decide) (fun t ht hW => ⟨kn, fw, pp, _, _, hkn, by rw [ht]; exact hP, hD, rfl, Or.inr (Or.inr ⟨rfl, r, hpost, pk_uLs⟩)⟩) d_L_part_22
  · obtain ⟨e1, hal, ⟨st, h0, kn, fw, pp, hkn, hP1, hD1, hcase⟩, hz1, hk1, hS, -⟩ := hN
    rw [e1] at hP1
    obtain ⟨hP, hD⟩ := va_join (wr := [wO g oa ov]) (w1 := wX g ad (nF wo) (nF N) kn fw pp) hP hD [1, 2, 3, 4, 5] [0] rfl rfl (by decide) (by decide) hk1 hFc hP1 hD1
    rcases hcase with ⟨hc1, x, hv0, hth⟩ | ⟨hc2, x, hv0, hth⟩ | ⟨r, hv0, -⟩
    · cases hv0
      refine x_catch1 (CN := IAE) (CX := IAE) B (by decide) (by decide) (by decide) tw_54 tw_67 (th_at hth e1 hal) ?_
      refine lv_astore (lv' := [(4, .ref rx), (0, .ref (ad 0)), (1, .int v), (2, .int cI), (3, .ref oa)]) hx hb d_L_part_13 hl (by decide) rfl (fun ls hl => ?_)
      refine lv_iconst (v := nI 1) hx hb d_L_part_15 (by decide) ?_
      exact x_iret B hS (by decide) (by decide) (fun t ht hW => ⟨kn, fw, pp, ov, _, hkn, by rw [ht]; exact hP, hD, rfl, Or.inl ⟨hc1, rfl⟩⟩) d_L_part_16
    · cases hv0
      refine x_catch2 (CN := IAE) (CM := NSE) (CX := NSE) B (by decide) (by decide) (by decide) (by decide) (by decide) (by decide) tw_54 tw_130 tn_0 tw_145 (th_at hth e1 hal) ?_
      refine lv_astore (lv' := [(4, .ref rx), (0, .ref (ad 0)), (1, .int v), (2, .int cI), (3, .ref oa)]) hx hb d_L_part_17 hl (by decide) rfl (fun ls hl => ?_)
      refine lv_iconst (v := nI 2) hx hb d_L_part_19 (by decide) ?_
      exact x_iret B hS (by decide) (by decide) (fun t ht hW => ⟨kn, fw, pp, ov, _, hkn, by rw [ht]; exact hP, hD, rfl, Or.inr (Or.inl ⟨hc2, rfl⟩)⟩) d_L_part_20
    · cases hv0
theorem c_L_ways (l : Launch) (hfl : l.flags = flags0) (g : Gc) (oa : Nat) (ov : Nat → Int64) (ad : Nat → Nat) (wo N : Nat → Nat) (kn : Int32) (fw pp : Nat → Int32) (v : Int32) (sz : Nat) (hG : nt_gd wo N) (hkn : nt_kn wo N kn fw) : Ct l y_L_ways cd_L_ways rmL (1, 6) (va_Pc [.ref (ad 0), .int v, .ref oa] (qYt g oa ov ad (nF wo) (nF N) kn fw pp sz)) (qR g oa ad wo N (va_A (wY g oa ov ad (nF wo) (nF N) kn fw pp) sz) (bad v 2000) False (fun r => pY wo N v r (fun _ => 0))) (va_A (wY g oa ov ad (nF wo) (nF N) kn fw pp) sz) := by
  refine Ct.ofWW (by decide) ?_
  intro p e s m args below meth c B hpre
  obtain ⟨rfl, hsz, hP, hK, hD0, hTS⟩ := hpre
  subst hsz
  have hD := hD0.self (sz := s.heap.size)
  generalize hAe : va_A (wY g oa ov ad (nF wo) (nF N) kn fw pp) s.heap.size = A at hD hTS ⊢
  have hA : ∀ q : Nat, s.heap.size ≤ q → A q := fun q h => by rw [← hAe]; exact Or.inr h
  have hS : va_S A s.heap s.heap [] := va_S.rf
  have hP : va_P g.1 cl (wY g oa ov ad (nF wo) (nF N) kn fw pp) s.heap := hP
  obtain ⟨⟨hx, hb, hml, hown, hts⟩, hret, hlk, hnm, hex⟩ := id B
  have hl := lv_entry ([.ref (ad 0), .int v, .ref oa]) (n := 4) (Nat.le_of_ble_eq_true rfl)
  rw [lg_entry_eq]
  generalize (lg_sl ([.ref (ad 0), .int v, .ref oa]) ++ List.replicate (4 - (lg_sl ([.ref (ad 0), .int v, .ref oa])).length) Slot.unset).toArray = ls at hl ⊢
  have hl : lv_has ls 4 [(0, .ref (ad 0)), (1, .int v), (2, .ref oa)] := hl
  refine lv_aload_n hx hb d_L_ways_0 rfl (lv_at hl 2 rfl) ?_
  refine lv_iconst (v := nI 0) hx hb d_L_ways_1 (by decide) ?_
  refine lv_aload_n hx hb d_L_ways_2 rfl (lv_at hl 0 rfl) ?_
  refine lv_iload_n hx hb d_L_ways_3 rfl (lv_at hl 1 rfl) ?_
  have hPc := hP.sub (ws' := wX g ad (nF wo) (nF N) kn fw pp) [1, 2, 3, 4, 5] rfl
  have hDc := hD.sub (ws' := wX g ad (nF wo) (nF N) kn fw pp) [1, 2, 3, 4, 5] (by decide) rfl
  have hFc := va_free (wc := wX g ad (nF wo) (nF N) kn fw pp) hD hS hA [1, 2, 3, 4, 5] rfl
  refine x_calV (C := R_X) (b := ad 0) (As := [.int v]) (rest := [.int (nI 0), .ref oa]) B.1 (c_X_ways l hfl g ad wo N kn fw pp v _ hG hkn) (xw_X_ways (by decide)) tw_168 tw_169 tw_170 (recX hK hPc) (preXt hPc hK hDc hTS hS hFc) hl.1 (Nat.le_of_ble_eq_true rfl) hS hFc rfl d_L_ways_4 (fun rv t H1 locs1 hN => ?_) (fun rx t H1 locs1 hN => ?_)
  · obtain ⟨e1, hal, ⟨st, h0, kn, fw, pp, hkn, hP1, hD1, hcase⟩, hz1, hk1, hS, -⟩ := hN
    rw [e1] at hP1
    obtain ⟨hP, hD⟩ := va_join (wr := [wO g oa ov]) (w1 := wX g ad (nF wo) (nF N) kn fw pp) hP hD [1, 2, 3, 4, 5] [0] rfl rfl (by decide) (by decide) hk1 hFc hP1 hD1
    rcases hcase with ⟨-, x, hv0, -⟩ | ⟨-, x, hv0, -⟩ | ⟨r, hv0, hpost⟩
    · cases hv0
    · cases hv0
    · cases hv0
      refine W.eq (g2 := F0 m 7 ls [.int (r), .int (nI 0), .ref oa]) rfl ?_
      refine lv_i2l (v := (r).toInt64) hx hb d_L_ways_7 rfl ?_
      refine n_last hx hb hK hP hD hS 0 rfl (by omega) (by decide) d_L_ways_8 (fun H locs hP hD hS => ?_)
      have hP : va_P g.1 cl (wY g oa (vp_updL ov 0 (r).toInt64) ad (nF wo) (nF N) kn fw pp) H := hP
      have hD : va_D A (wY g oa (vp_updL ov 0 (r).toInt64) ad (nF wo) (nF N) kn fw pp) := hD
      refine lv_goto hx hb d_L_ways_9 rfl ?_
      refine lv_iconst (v := nI 0) hx hb d_L_ways_15 (by decide) ?_
      exact x_iret B hS (by decide) (by decide) (fun t ht hW => ⟨kn, fw, pp, _, _, hkn, by rw [ht]; exact hP, hD, rfl, Or.inr (Or.inr ⟨rfl, r, hpost, pk_uLs⟩)⟩) d_L_ways_16
  · obtain ⟨e1, hal, ⟨st, h0, kn, fw, pp, hkn, hP1, hD1, hcase⟩, hz1, hk1, hS, -⟩ := hN
    rw [e1] at hP1
    obtain ⟨hP, hD⟩ := va_join (wr := [wO g oa ov]) (w1 := wX g ad (nF wo) (nF N) kn fw pp) hP hD [1, 2, 3, 4, 5] [0] rfl rfl (by decide) (by decide) hk1 hFc hP1 hD1
    rcases hcase with ⟨hc1, x, hv0, hth⟩ | ⟨hc2, x, hv0, hth⟩ | ⟨r, hv0, -⟩
    · cases hv0
      refine x_catch1 (CN := IAE) (CX := IAE) B (by decide) (by decide) (by decide) tw_54 tw_67 (th_at hth e1 hal) ?_
      refine lv_astore_n (lv' := [(3, .ref rx), (0, .ref (ad 0)), (1, .int v), (2, .ref oa)]) hx hb d_L_ways_12 rfl hl (by decide) rfl (fun ls hl => ?_)
      refine lv_iconst (v := nI 1) hx hb d_L_ways_13 (by decide) ?_
      exact x_iret B hS (by decide) (by decide) (fun t ht hW => ⟨kn, fw, pp, ov, _, hkn, by rw [ht]; exact hP, hD, rfl, Or.inl ⟨hc1, rfl⟩⟩) d_L_ways_14
    · exact hc2.elim
    · cases hv0
theorem c_L_pay (l : Launch) (hfl : l.flags = flags0) (g : Gc) (oa : Nat) (ov : Nat → Int64) (ad : Nat → Nat) (wo N : Nat → Nat) (kn : Int32) (fw pp : Nat → Int32) (v jI : Int32) (sz : Nat) (hG : nt_gd wo N) (hkn : nt_kn wo N kn fw) : Ct l y_L_pay cd_L_pay rmL (1, 6) (va_Pc [.ref (ad 0), .int v, .int jI, .ref oa] (qYt g oa ov ad (nF wo) (nF N) kn fw pp sz)) (qRP g oa ad wo N (va_A (wY g oa ov ad (nF wo) (nF N) kn fw pp) sz) v jI) (va_A (wY g oa ov ad (nF wo) (nF N) kn fw pp) sz) := by
  refine Ct.ofWW (by decide) ?_
  intro p e s m args below meth c B hpre
  obtain ⟨rfl, hsz, hP, hK, hD0, hTS⟩ := hpre
  subst hsz
  have hD := hD0.self (sz := s.heap.size)
  generalize hAe : va_A (wY g oa ov ad (nF wo) (nF N) kn fw pp) s.heap.size = A at hD hTS ⊢
  have hA : ∀ q : Nat, s.heap.size ≤ q → A q := fun q h => by rw [← hAe]; exact Or.inr h
  have hS : va_S A s.heap s.heap [] := va_S.rf
  have hP : va_P g.1 cl (wY g oa ov ad (nF wo) (nF N) kn fw pp) s.heap := hP
  obtain ⟨⟨hx, hb, hml, hown, hts⟩, hret, hlk, hnm, hex⟩ := id B
  have hl := lv_entry ([.ref (ad 0), .int v, .int jI, .ref oa]) (n := 5) (Nat.le_of_ble_eq_true rfl)
  rw [lg_entry_eq]
  generalize (lg_sl ([.ref (ad 0), .int v, .int jI, .ref oa]) ++ List.replicate (5 - (lg_sl ([.ref (ad 0), .int v, .int jI, .ref oa])).length) Slot.unset).toArray = ls at hl ⊢
  have hl : lv_has ls 5 [(0, .ref (ad 0)), (1, .int v), (2, .int jI), (3, .ref oa)] := hl
  refine lv_aload_n hx hb d_L_pay_0 rfl (lv_at hl 3 rfl) ?_
  refine lv_iconst (v := nI 0) hx hb d_L_pay_1 (by decide) ?_
  refine lv_aload_n hx hb d_L_pay_2 rfl (lv_at hl 0 rfl) ?_
  refine lv_iload_n hx hb d_L_pay_3 rfl (lv_at hl 1 rfl) ?_
  refine lv_iload_n hx hb d_L_pay_4 rfl (lv_at hl 2 rfl) ?_
  have hPc := hP.sub (ws' := wX g ad (nF wo) (nF N) kn fw pp) [1, 2, 3, 4, 5] rfl
  have hDc := hD.sub (ws' := wX g ad (nF wo) (nF N) kn fw pp) [1, 2, 3, 4, 5] (by decide) rfl
  have hFc := va_free (wc := wX g ad (nF wo) (nF N) kn fw pp) hD hS hA [1, 2, 3, 4, 5] rfl
  refine x_calV (C := R_X) (b := ad 0) (As := [.int v, .int jI]) (rest := [.int (nI 0), .ref oa]) B.1 (c_X_pay l hfl g ad wo N kn fw pp v jI _ hG hkn) (xw_X_pay (by decide)) tw_179 tw_180 tw_181 (recX hK hPc) (preXt hPc hK hDc hTS hS hFc) hl.1 (Nat.le_of_ble_eq_true rfl) hS hFc rfl d_L_pay_5 (fun rv t H1 locs1 hN => ?_) (fun rx t H1 locs1 hN => ?_)
  · obtain ⟨e1, hal, ⟨st, h0, M, kn, fw, pp, hkn, hG, hP1, hD1, hcase⟩, hz1, hk1, hS, -⟩ := hN
    rw [e1] at hP1
    obtain ⟨hP, hD⟩ := va_join (wr := [wO g oa ov]) (w1 := wX g ad (nF wo) (nF M) kn fw pp) hP hD [1, 2, 3, 4, 5] [0] rfl rfl (by decide) (by decide) hk1 hFc hP1 hD1
    rcases hcase with ⟨-, -, x, hv0, -⟩ | ⟨-, -, x, hv0, -⟩ | ⟨n, j, ch, hn, hvn, hj, hjn, h40, hbst, hM, hv0⟩
    · cases hv0
    · cases hv0
    · cases hv0
      refine W.eq (g2 := F0 m 8 ls [.int (nI (nt_py wo ch 4 N j 0).2), .int (nI 0), .ref oa]) rfl ?_
      refine lv_i2l (v := (nI (nt_py wo ch 4 N j 0).2).toInt64) hx hb d_L_pay_8 rfl ?_
      refine n_last hx hb hK hP hD hS 0 rfl (by omega) (by decide) d_L_pay_9 (fun H locs hP hD hS => ?_)
      have hP : va_P g.1 cl (wY g oa (vp_updL ov 0 (nI (nt_py wo ch 4 N j 0).2).toInt64) ad (nF wo) (nF M) kn fw pp) H := hP
      have hD : va_D A (wY g oa (vp_updL ov 0 (nI (nt_py wo ch 4 N j 0).2).toInt64) ad (nF wo) (nF M) kn fw pp) := hD
      refine lv_goto hx hb d_L_pay_10 rfl ?_
      refine lv_iconst (v := nI 0) hx hb d_L_pay_21 (by decide) ?_
      exact x_iret B hS (by decide) (by decide) (fun t ht hW => ⟨M, kn, fw, pp, _, _, hkn, hG, by rw [ht]; exact hP, hD, rfl, Or.inr (Or.inr ⟨rfl, n, j, ch, hn, hvn, hj, hjn, h40, hbst, hM, pk_uLs⟩)⟩) d_L_pay_22
  · obtain ⟨e1, hal, ⟨st, h0, M, kn, fw, pp, hkn, hG, hP1, hD1, hcase⟩, hz1, hk1, hS, -⟩ := hN
    rw [e1] at hP1
    obtain ⟨hP, hD⟩ := va_join (wr := [wO g oa ov]) (w1 := wX g ad (nF wo) (nF M) kn fw pp) hP hD [1, 2, 3, 4, 5] [0] rfl rfl (by decide) (by decide) hk1 hFc hP1 hD1
    rcases hcase with ⟨hc1, hMN, x, hv0, hth⟩ | ⟨hc2, hMN, x, hv0, hth⟩ | ⟨n, j, ch, -, -, -, -, -, -, -, hv0⟩
    · cases hv0
      refine x_catch1 (CN := IAE) (CX := IAE) B (by decide) (by decide) (by decide) tw_54 tw_67 (th_at hth e1 hal) ?_
      refine lv_astore (lv' := [(4, .ref rx), (0, .ref (ad 0)), (1, .int v), (2, .int jI), (3, .ref oa)]) hx hb d_L_pay_13 hl (by decide) rfl (fun ls hl => ?_)
      refine lv_iconst (v := nI 1) hx hb d_L_pay_15 (by decide) ?_
      exact x_iret B hS (by decide) (by decide) (fun t ht hW => ⟨M, kn, fw, pp, ov, _, hkn, hG, by rw [ht]; exact hP, hD, rfl, Or.inl ⟨hc1, hMN, rfl⟩⟩) d_L_pay_16
    · cases hv0
      refine x_catch2 (CN := IAE) (CM := NSE) (CX := NSE) B (by decide) (by decide) (by decide) (by decide) (by decide) (by decide) tw_54 tw_130 tn_0 tw_145 (th_at hth e1 hal) ?_
      refine lv_astore (lv' := [(4, .ref rx), (0, .ref (ad 0)), (1, .int v), (2, .int jI), (3, .ref oa)]) hx hb d_L_pay_17 hl (by decide) rfl (fun ls hl => ?_)
      refine lv_iconst (v := nI 2) hx hb d_L_pay_19 (by decide) ?_
      exact x_iret B hS (by decide) (by decide) (fun t ht hW => ⟨M, kn, fw, pp, ov, _, hkn, hG, by rw [ht]; exact hP, hD, rfl, Or.inr (Or.inl ⟨hc2, hMN, rfl⟩)⟩) d_L_pay_20
    · cases hv0
theorem c_L_next (l : Launch) (hfl : l.flags = flags0) (g : Gc) (oa : Nat) (ov : Nat → Int64) (ad : Nat → Nat) (wo N : Nat → Nat) (kn : Int32) (fw pp : Nat → Int32) (v : Int32) (sz : Nat) (hG : nt_gd wo N) (hkn : nt_kn wo N kn fw) : Ct l y_L_next cd_L_next rmL (1, 6) (va_Pc [.ref (ad 0), .int v, .ref oa] (qYt g oa ov ad (nF wo) (nF N) kn fw pp sz)) (qR g oa ad wo N (va_A (wY g oa ov ad (nF wo) (nF N) kn fw pp) sz) (bad v 2000) False (fun r => pN wo N v r (fun _ => 0))) (va_A (wY g oa ov ad (nF wo) (nF N) kn fw pp) sz) := by
  refine Ct.ofWW (by decide) ?_
  intro p e s m args below meth c B hpre
  obtain ⟨rfl, hsz, hP, hK, hD0, hTS⟩ := hpre
  subst hsz
  have hD := hD0.self (sz := s.heap.size)
  generalize hAe : va_A (wY g oa ov ad (nF wo) (nF N) kn fw pp) s.heap.size = A at hD hTS ⊢
  have hA : ∀ q : Nat, s.heap.size ≤ q → A q := fun q h => by rw [← hAe]; exact Or.inr h
  have hS : va_S A s.heap s.heap [] := va_S.rf
  have hP : va_P g.1 cl (wY g oa ov ad (nF wo) (nF N) kn fw pp) s.heap := hP
  obtain ⟨⟨hx, hb, hml, hown, hts⟩, hret, hlk, hnm, hex⟩ := id B
  have hl := lv_entry ([.ref (ad 0), .int v, .ref oa]) (n := 4) (Nat.le_of_ble_eq_true rfl)
  rw [lg_entry_eq]
  generalize (lg_sl ([.ref (ad 0), .int v, .ref oa]) ++ List.replicate (4 - (lg_sl ([.ref (ad 0), .int v, .ref oa])).length) Slot.unset).toArray = ls at hl ⊢
  have hl : lv_has ls 4 [(0, .ref (ad 0)), (1, .int v), (2, .ref oa)] := hl
  refine lv_aload_n hx hb d_L_next_0 rfl (lv_at hl 2 rfl) ?_
  refine lv_iconst (v := nI 0) hx hb d_L_next_1 (by decide) ?_
  refine lv_aload_n hx hb d_L_next_2 rfl (lv_at hl 0 rfl) ?_
  refine lv_iload_n hx hb d_L_next_3 rfl (lv_at hl 1 rfl) ?_
  have hPc := hP.sub (ws' := wX g ad (nF wo) (nF N) kn fw pp) [1, 2, 3, 4, 5] rfl
  have hDc := hD.sub (ws' := wX g ad (nF wo) (nF N) kn fw pp) [1, 2, 3, 4, 5] (by decide) rfl
  have hFc := va_free (wc := wX g ad (nF wo) (nF N) kn fw pp) hD hS hA [1, 2, 3, 4, 5] rfl
  refine x_calV (C := R_X) (b := ad 0) (As := [.int v]) (rest := [.int (nI 0), .ref oa]) B.1 (c_X_next l hfl g ad wo N kn fw pp v _ hG hkn) (xw_X_next (by decide)) tw_186 tw_187 tw_188 (recX hK hPc) (preXt hPc hK hDc hTS hS hFc) hl.1 (Nat.le_of_ble_eq_true rfl) hS hFc rfl d_L_next_4 (fun rv t H1 locs1 hN => ?_) (fun rx t H1 locs1 hN => ?_)
  · obtain ⟨e1, hal, ⟨st, h0, kn, fw, pp, hkn, hP1, hD1, hcase⟩, hz1, hk1, hS, -⟩ := hN
    rw [e1] at hP1
    obtain ⟨hP, hD⟩ := va_join (wr := [wO g oa ov]) (w1 := wX g ad (nF wo) (nF N) kn fw pp) hP hD [1, 2, 3, 4, 5] [0] rfl rfl (by decide) (by decide) hk1 hFc hP1 hD1
    rcases hcase with ⟨-, x, hv0, -⟩ | ⟨-, x, hv0, -⟩ | ⟨r, hv0, hpost⟩
    · cases hv0
    · cases hv0
    · cases hv0
      refine W.eq (g2 := F0 m 7 ls [.int (r), .int (nI 0), .ref oa]) rfl ?_
      refine lv_i2l (v := (r).toInt64) hx hb d_L_next_7 rfl ?_
      refine n_last hx hb hK hP hD hS 0 rfl (by omega) (by decide) d_L_next_8 (fun H locs hP hD hS => ?_)
      have hP : va_P g.1 cl (wY g oa (vp_updL ov 0 (r).toInt64) ad (nF wo) (nF N) kn fw pp) H := hP
      have hD : va_D A (wY g oa (vp_updL ov 0 (r).toInt64) ad (nF wo) (nF N) kn fw pp) := hD
      refine lv_goto hx hb d_L_next_9 rfl ?_
      refine lv_iconst (v := nI 0) hx hb d_L_next_15 (by decide) ?_
      exact x_iret B hS (by decide) (by decide) (fun t ht hW => ⟨kn, fw, pp, _, _, hkn, by rw [ht]; exact hP, hD, rfl, Or.inr (Or.inr ⟨rfl, r, hpost, pk_uLs⟩)⟩) d_L_next_16
  · obtain ⟨e1, hal, ⟨st, h0, kn, fw, pp, hkn, hP1, hD1, hcase⟩, hz1, hk1, hS, -⟩ := hN
    rw [e1] at hP1
    obtain ⟨hP, hD⟩ := va_join (wr := [wO g oa ov]) (w1 := wX g ad (nF wo) (nF N) kn fw pp) hP hD [1, 2, 3, 4, 5] [0] rfl rfl (by decide) (by decide) hk1 hFc hP1 hD1
    rcases hcase with ⟨hc1, x, hv0, hth⟩ | ⟨hc2, x, hv0, hth⟩ | ⟨r, hv0, -⟩
    · cases hv0
      refine x_catch1 (CN := IAE) (CX := IAE) B (by decide) (by decide) (by decide) tw_54 tw_67 (th_at hth e1 hal) ?_
      refine lv_astore_n (lv' := [(3, .ref rx), (0, .ref (ad 0)), (1, .int v), (2, .ref oa)]) hx hb d_L_next_12 rfl hl (by decide) rfl (fun ls hl => ?_)
      refine lv_iconst (v := nI 1) hx hb d_L_next_13 (by decide) ?_
      exact x_iret B hS (by decide) (by decide) (fun t ht hW => ⟨kn, fw, pp, ov, _, hkn, by rw [ht]; exact hP, hD, rfl, Or.inl ⟨hc1, rfl⟩⟩) d_L_next_14
    · exact hc2.elim
    · cases hv0
theorem c_L_cassette (l : Launch) (hfl : l.flags = flags0) (g : Gc) (oa : Nat) (ov : Nat → Int64) (ad : Nat → Nat) (wo N : Nat → Nat) (kn : Int32) (fw pp : Nat → Int32) (cI b : Int32) (sz : Nat) (hkn : nt_kn wo N kn fw) : Ct l y_L_cassette cd_L_cassette rmL (1, 6) (va_Pc [.ref (ad 0), .int cI, .int b, .ref oa] (qYt g oa ov ad (nF wo) (nF N) kn fw pp sz)) (qR g oa ad wo N (va_A (wY g oa ov ad (nF wo) (nF N) kn fw pp) sz) (bad cI 3) False (fun r => pC wo N cI b r (fun _ => 0))) (va_A (wY g oa ov ad (nF wo) (nF N) kn fw pp) sz) := by
  refine Ct.ofWW (by decide) ?_
  intro p e s m args below meth c B hpre
  obtain ⟨rfl, hsz, hP, hK, hD0, hTS⟩ := hpre
  subst hsz
  have hD := hD0.self (sz := s.heap.size)
  generalize hAe : va_A (wY g oa ov ad (nF wo) (nF N) kn fw pp) s.heap.size = A at hD hTS ⊢
  have hA : ∀ q : Nat, s.heap.size ≤ q → A q := fun q h => by rw [← hAe]; exact Or.inr h
  have hS : va_S A s.heap s.heap [] := va_S.rf
  have hP : va_P g.1 cl (wY g oa ov ad (nF wo) (nF N) kn fw pp) s.heap := hP
  obtain ⟨⟨hx, hb, hml, hown, hts⟩, hret, hlk, hnm, hex⟩ := id B
  have hl := lv_entry ([.ref (ad 0), .int cI, .int b, .ref oa]) (n := 5) (Nat.le_of_ble_eq_true rfl)
  rw [lg_entry_eq]
  generalize (lg_sl ([.ref (ad 0), .int cI, .int b, .ref oa]) ++ List.replicate (5 - (lg_sl ([.ref (ad 0), .int cI, .int b, .ref oa])).length) Slot.unset).toArray = ls at hl ⊢
  have hl : lv_has ls 5 [(0, .ref (ad 0)), (1, .int cI), (2, .int b), (3, .ref oa)] := hl
  refine lv_aload_n hx hb d_L_cassette_0 rfl (lv_at hl 3 rfl) ?_
  refine lv_iconst (v := nI 0) hx hb d_L_cassette_1 (by decide) ?_
  refine lv_aload_n hx hb d_L_cassette_2 rfl (lv_at hl 0 rfl) ?_
  refine lv_iload_n hx hb d_L_cassette_3 rfl (lv_at hl 1 rfl) ?_
  refine lv_iload_n hx hb d_L_cassette_4 rfl (lv_at hl 2 rfl) ?_
  have hPc := hP.sub (ws' := wX g ad (nF wo) (nF N) kn fw pp) [1, 2, 3, 4, 5] rfl
  have hDc := hD.sub (ws' := wX g ad (nF wo) (nF N) kn fw pp) [1, 2, 3, 4, 5] (by decide) rfl
  have hFc := va_free (wc := wX g ad (nF wo) (nF N) kn fw pp) hD hS hA [1, 2, 3, 4, 5] rfl
  refine x_calV (C := R_X) (b := ad 0) (As := [.int cI, .int b]) (rest := [.int (nI 0), .ref oa]) B.1 (c_X_cassette l hfl g ad wo N kn fw pp cI b _ hkn) (xw_X_cassette (by decide)) tw_193 tw_194 tw_195 (recX hK hPc) (preXt hPc hK hDc hTS hS hFc) hl.1 (Nat.le_of_ble_eq_true rfl) hS hFc rfl d_L_cassette_5 (fun rv t H1 locs1 hN => ?_) (fun rx t H1 locs1 hN => ?_)
  · obtain ⟨e1, hal, ⟨st, h0, kn, fw, pp, hkn, hP1, hD1, hcase⟩, hz1, hk1, hS, -⟩ := hN
    rw [e1] at hP1
    obtain ⟨hP, hD⟩ := va_join (wr := [wO g oa ov]) (w1 := wX g ad (nF wo) (nF N) kn fw pp) hP hD [1, 2, 3, 4, 5] [0] rfl rfl (by decide) (by decide) hk1 hFc hP1 hD1
    rcases hcase with ⟨-, x, hv0, -⟩ | ⟨-, x, hv0, -⟩ | ⟨r, hv0, hpost⟩
    · cases hv0
    · cases hv0
    · cases hv0
      refine W.eq (g2 := F0 m 8 ls [.int (r), .int (nI 0), .ref oa]) rfl ?_
      refine lv_i2l (v := (r).toInt64) hx hb d_L_cassette_8 rfl ?_
      refine n_last hx hb hK hP hD hS 0 rfl (by omega) (by decide) d_L_cassette_9 (fun H locs hP hD hS => ?_)
      have hP : va_P g.1 cl (wY g oa (vp_updL ov 0 (r).toInt64) ad (nF wo) (nF N) kn fw pp) H := hP
      have hD : va_D A (wY g oa (vp_updL ov 0 (r).toInt64) ad (nF wo) (nF N) kn fw pp) := hD
      refine lv_goto hx hb d_L_cassette_10 rfl ?_
      refine lv_iconst (v := nI 0) hx hb d_L_cassette_17 (by decide) ?_
      exact x_iret B hS (by decide) (by decide) (fun t ht hW => ⟨kn, fw, pp, _, _, hkn, by rw [ht]; exact hP, hD, rfl, Or.inr (Or.inr ⟨rfl, r, hpost, pk_uLs⟩)⟩) d_L_cassette_18
  · obtain ⟨e1, hal, ⟨st, h0, kn, fw, pp, hkn, hP1, hD1, hcase⟩, hz1, hk1, hS, -⟩ := hN
    rw [e1] at hP1
    obtain ⟨hP, hD⟩ := va_join (wr := [wO g oa ov]) (w1 := wX g ad (nF wo) (nF N) kn fw pp) hP hD [1, 2, 3, 4, 5] [0] rfl rfl (by decide) (by decide) hk1 hFc hP1 hD1
    rcases hcase with ⟨hc1, x, hv0, hth⟩ | ⟨hc2, x, hv0, hth⟩ | ⟨r, hv0, -⟩
    · cases hv0
      refine x_catch1 (CN := IAE) (CX := IAE) B (by decide) (by decide) (by decide) tw_54 tw_67 (th_at hth e1 hal) ?_
      refine lv_astore (lv' := [(4, .ref rx), (0, .ref (ad 0)), (1, .int cI), (2, .int b), (3, .ref oa)]) hx hb d_L_cassette_13 hl (by decide) rfl (fun ls hl => ?_)
      refine lv_iconst (v := nI 1) hx hb d_L_cassette_15 (by decide) ?_
      exact x_iret B hS (by decide) (by decide) (fun t ht hW => ⟨kn, fw, pp, ov, _, hkn, by rw [ht]; exact hP, hD, rfl, Or.inl ⟨hc1, rfl⟩⟩) d_L_cassette_16
    · exact hc2.elim
    · cases hv0
end
section
/-! both sides agree -/
theorem in3_yes {n b : Nat} (hn : n ≤ b) (hb : b < 2147483648) : in3 (nI n) (nI 0) (nI b) = 1 :=
  in3_in (fun q => by have := (nI_ltI (a := n) (b := 0) (by omega) (by omega)).mp q; omega) (fun q => by have := (nI_ltI (a := b) (b := n) (by omega) (by omega)).mp q; omega)
theorem bad_no {n b : Nat} (h : bad (nI n) b) (hb : b < 2147483648) : ¬ n ≤ b := fun q => by
  have := in3_yes q hb
  rw [show in3 (nI n) (nI 0) (nI b) = 0 from h] at this
  exact absurd this (by decide)
theorem nI_inj {a b : Nat} (h : nI a = nI b) (ha : a < 2147483648) (hb : b < 2147483648) : a = b := (nI_eq ha hb).mp h
theorem ag3 {c1 c2 : Prop} {p1 p2 : Int32 → Prop} {k th b : Int32} {o : Int64} (e12 : c1 → ¬ c2) (e1 : c1 → ∀ r, ¬ p1 r) (e2 : c2 → ∀ r, ¬ p1 r) (f1 : c1 → ∀ r, ¬ p2 r) (f2 : c2 → ∀ r, ¬ p2 r) (hpp : ∀ r r', p1 r → p2 r' → r = r')
    (x1 : (c1 ∧ k = 1) ∨ (c2 ∧ k = 2) ∨ (k = 0 ∧ ∃ r, p1 r ∧ o = r.toInt64)) (x2 : (c1 ∧ th = 1) ∨ (c2 ∧ th = 2) ∨ (p2 b ∧ th = 0)) : th = k ∧ (k = 0 → o = b.toInt64) := by
  rcases x1 with ⟨a1, rfl⟩ | ⟨a2, rfl⟩ | ⟨rfl, r, ar, ho⟩ <;> rcases x2 with ⟨b1, rfl⟩ | ⟨b2, rfl⟩ | ⟨br, rfl⟩
  · exact ⟨rfl, fun h => absurd h (by decide)⟩
  · exact absurd b2 (e12 a1)
  · exact absurd br (f1 a1 _)
  · exact absurd a2 (e12 b1)
  · exact ⟨rfl, fun h => absurd h (by decide)⟩
  · exact absurd br (f2 a2 _)
  · exact absurd ar (e1 b1 _)
  · exact absurd ar (e2 b2 _)
  · refine ⟨rfl, fun _ => ?_⟩
    rw [ho, hpp r b ar br]
theorem bad_cF {W N : Nat → Nat} {v : Int32} (h : bad v 2000) : ¬ cF W N v := by
  rintro ⟨n, hn, rfl, -⟩
  exact bad_no h (by decide) hn
theorem ag_best {W N : Nat → Nat} {v k th b : Int32} {o : Int64} (x1 : (bad v 2000 ∧ k = 1) ∨ (cF W N v ∧ k = 2) ∨ (k = 0 ∧ ∃ r, pB W N v r ∧ o = r.toInt64)) (x2 : (bad v 2000 ∧ th = 1) ∨ (cF W N v ∧ th = 2) ∨ (pB W N v b ∧ th = 0)) : th = k ∧ (k = 0 → o = b.toInt64) := by
  have g1 : bad v 2000 → ∀ r, ¬ pB W N v r := by
    rintro h r ⟨n, hn, rfl, -⟩
    exact bad_no h (by decide) hn
  have g2 : cF W N v → ∀ r, ¬ pB W N v r := by
    rintro ⟨n, hn, rfl, h41⟩ r ⟨n', hn', e, h40, -⟩
    have := nI_inj e (by omega) (by omega)
    subst this
    omega
  refine ag3 bad_cF g1 g2 g1 g2 ?_ x1 x2
  rintro r r' ⟨n, hn, rfl, -, rfl⟩ ⟨n', hn', e, -, rfl⟩
  have := nI_inj e (by omega) (by omega)
  subst this
  rfl
theorem ag_part {W N : Nat → Nat} {v cI k th b : Int32} {o : Int64} (x1 : ((bad cI 3 ∨ (¬ bad cI 3 ∧ bad v 2000)) ∧ k = 1) ∨ ((¬ bad cI 3 ∧ cF W N v) ∧ k = 2) ∨ (k = 0 ∧ ∃ r, pP W N v cI r (fun _ => 0) ∧ o = r.toInt64)) (x2 : ((bad cI 3 ∨ (¬ bad cI 3 ∧ bad v 2000)) ∧ th = 1) ∨ ((¬ bad cI 3 ∧ cF W N v) ∧ th = 2) ∨ (pP W N v cI b (fun _ => 0) ∧ th = 0)) : th = k ∧ (k = 0 → o = b.toInt64) := by
  have g1 : (bad cI 3 ∨ (¬ bad cI 3 ∧ bad v 2000)) → ∀ r, ¬ pP W N v cI r (fun _ => 0) := by
    rintro h r ⟨n, j, ch, hn, rfl, hj, rfl, -⟩
    rcases h with h | ⟨-, h⟩
    · exact bad_no h (by decide) (by omega)
    · exact bad_no h (by decide) hn
  have g2 : (¬ bad cI 3 ∧ cF W N v) → ∀ r, ¬ pP W N v cI r (fun _ => 0) := by
    rintro ⟨-, n, hn, rfl, h41⟩ r ⟨n', j, ch, hn', e, -, -, h40, -⟩
    have := nI_inj e (by omega) (by omega)
    subst this
    omega
  refine ag3 ?_ g1 g2 g1 g2 ?_ x1 x2
  · rintro h ⟨h1, h2⟩
    rcases h with h | ⟨-, h⟩
    · exact h1 h
    · exact bad_cF h h2
  · rintro r r' ⟨n, j, ch, hn, rfl, hj, rfl, h40, hb, rfl⟩ ⟨n', j', ch', hn', e, hj', e', -, hb', rfl⟩
    have q1 := nI_inj e (by omega) (by omega)
    have q2 := nI_inj e' (by omega) (by omega)
    subst q1
    subst q2
    obtain ⟨a3, a2, a1, a0⟩ := nt_bst_ch hb hb' h40
    rcases (show j = 0 ∨ j = 1 ∨ j = 2 ∨ j = 3 by omega) with rfl | rfl | rfl | rfl
    · rw [a0]
    · rw [a1]
    · rw [a2]
    · rw [a3]
theorem ag_F {c1 : Prop} {p1 : Int32 → Prop} {k th b : Int32} {o : Int64} (e1 : c1 → ∀ r, ¬ p1 r) (hpp : ∀ r r', p1 r → p1 r' → r = r')
    (x1 : (c1 ∧ k = 1) ∨ (False ∧ k = 2) ∨ (k = 0 ∧ ∃ r, p1 r ∧ o = r.toInt64)) (x2 : (c1 ∧ th = 1) ∨ (False ∧ th = 2) ∨ (p1 b ∧ th = 0)) : th = k ∧ (k = 0 → o = b.toInt64) :=
  ag3 (fun _ h => h) e1 (fun h => h.elim) e1 (fun h => h.elim) hpp x1 x2
theorem ag_ways {W N : Nat → Nat} {v k th b : Int32} {o : Int64} (x1 : (bad v 2000 ∧ k = 1) ∨ (False ∧ k = 2) ∨ (k = 0 ∧ ∃ r, pY W N v r (fun _ => 0) ∧ o = r.toInt64)) (x2 : (bad v 2000 ∧ th = 1) ∨ (False ∧ th = 2) ∨ (pY W N v b (fun _ => 0) ∧ th = 0)) : th = k ∧ (k = 0 → o = b.toInt64) := by
  refine ag_F ?_ ?_ x1 x2
  · rintro h r ⟨n, hn, rfl, -⟩
    exact bad_no h (by decide) hn
  · rintro r r' ⟨n, hn, rfl, rfl⟩ ⟨n', hn', e, rfl⟩
    have := nI_inj e (by omega) (by omega)
    subst this
    rfl
theorem nxp_uq {W N : Nat → Nat} {n : Nat} {r r' : Int32} (h : nxp W N n r) (h' : nxp W N n r') : r = r' := by
  rcases h with ⟨k, h1, h2, h3, h4, rfl⟩ | ⟨h1, rfl⟩ <;> rcases h' with ⟨j, g1, g2, g3, g4, rfl⟩ | ⟨g1, rfl⟩
  · have e : k = j := by
      rcases Nat.lt_trichotomy k j with q | q | q
      · have := g4 k h1 q; omega
      · exact q
      · have := h4 j g1 q; omega
    rw [e]
  · have := g1 k h1 h2; omega
  · have := h1 j g1 g2; omega
  · rfl
theorem ag_next {W N : Nat → Nat} {v k th b : Int32} {o : Int64} (x1 : (bad v 2000 ∧ k = 1) ∨ (False ∧ k = 2) ∨ (k = 0 ∧ ∃ r, pN W N v r (fun _ => 0) ∧ o = r.toInt64)) (x2 : (bad v 2000 ∧ th = 1) ∨ (False ∧ th = 2) ∨ (pN W N v b (fun _ => 0) ∧ th = 0)) : th = k ∧ (k = 0 → o = b.toInt64) := by
  refine ag_F ?_ ?_ x1 x2
  · rintro h r ⟨n, hn, rfl, -⟩
    exact bad_no h (by decide) hn
  · rintro r r' ⟨n, hn, rfl, h1⟩ ⟨n', hn', e, h2⟩
    have := nI_inj e (by omega) (by omega)
    subst this
    exact nxp_uq h1 h2
theorem ag_cassette {W N : Nat → Nat} {cI bI k th b : Int32} {o : Int64} (x1 : (bad cI 3 ∧ k = 1) ∨ (False ∧ k = 2) ∨ (k = 0 ∧ ∃ r, pC W N cI bI r (fun _ => 0) ∧ o = r.toInt64)) (x2 : (bad cI 3 ∧ th = 1) ∨ (False ∧ th = 2) ∨ (pC W N cI bI b (fun _ => 0) ∧ th = 0)) : th = k ∧ (k = 0 → o = b.toInt64) := by
  refine ag_F ?_ ?_ x1 x2
  · rintro h r ⟨n, hn, rfl, -⟩
    exact bad_no h (by decide) (by omega)
  · rintro r r' ⟨n, hn, rfl, rfl⟩ ⟨n', hn', e, rfl⟩
    have := nI_inj e (by omega) (by omega)
    subst this
    rfl
theorem ag_load {W N V M V' M' : Nat → Nat} {cI wI mI k th : Int32} (x1 : (¬ okL cI wI mI ∧ V = W ∧ M = N ∧ k = 1) ∨ (okL cI wI mI ∧ ldR W N V M cI wI mI ∧ k = 0)) (x2 : (¬ okL cI wI mI ∧ V' = W ∧ M' = N ∧ th = 1) ∨ (okL cI wI mI ∧ ldR W N V' M' cI wI mI ∧ th = 0)) : th = k ∧ V' = V ∧ M' = M := by
  rcases x1 with ⟨a1, rfl, rfl, rfl⟩ | ⟨a1, a2, rfl⟩ <;> rcases x2 with ⟨b1, rfl, rfl, rfl⟩ | ⟨b1, b2, rfl⟩
  · exact ⟨rfl, rfl, rfl⟩
  · exact absurd b1 a1
  · exact absurd a1 b1
  · obtain ⟨j, a, b, h1, rfl, -, h2, rfl, h3, rfl, rfl, rfl⟩ := a2
    obtain ⟨j', a', b', g1, e1, -, g2, e2, g3, e3, rfl, rfl⟩ := b2
    have q1 := nI_inj e1 (by omega) (by omega)
    have q2 := nI_inj e2 (by omega) (by omega)
    have q3 := nI_inj e3 (by omega) (by omega)
    subst q1
    subst q2
    subst q3
    exact ⟨rfl, rfl, rfl⟩
theorem ag_pay {W N M M' : Nat → Nat} {v jI k th r : Int32} {o : Int64}
    (x1 : ((bad jI 40 ∨ (¬ bad jI 40 ∧ bad v 2000)) ∧ M = N ∧ k = 1) ∨ ((¬ bad jI 40 ∧ cF W N v) ∧ M = N ∧ k = 2) ∨ (k = 0 ∧ ∃ n j ch, n ≤ 2000 ∧ v = nI n ∧ j ≤ 40 ∧ jI = nI j ∧ nt_rw W N 4 n ≤ 40 ∧ nt_bst W N n (nt_rw W N 4 n) ch ∧ M = (nt_py W ch 4 N j 0).1 ∧ o = (nI (nt_py W ch 4 N j 0).2).toInt64))
    (x2 : ((bad jI 40 ∨ (¬ bad jI 40 ∧ bad v 2000)) ∧ M' = N ∧ th = 1) ∨ ((¬ bad jI 40 ∧ cF W N v) ∧ M' = N ∧ th = 2) ∨ ((∃ n j k, n ≤ 2000 ∧ v = nI n ∧ j ≤ 40 ∧ jI = nI j ∧ nt_rw W N 4 n ≤ 40 ∧ nt_bst W N n (nt_rw W N 4 n) k ∧ M' = (nt_py W k 4 N j 0).1 ∧ r = nI (nt_py W k 4 N j 0).2) ∧ th = 0)) : th = k ∧ M' = M ∧ (k = 0 → o = r.toInt64) := by
  have no1 : (bad jI 40 ∨ (¬ bad jI 40 ∧ bad v 2000)) → ∀ n j : Nat, n ≤ 2000 → v = nI n → j ≤ 40 → jI = nI j → False := by
    rintro h n j hn rfl hj rfl
    rcases h with h | ⟨-, h⟩
    · exact bad_no h (by decide) hj
    · exact bad_no h (by decide) hn
  have no2 : cF W N v → ∀ n : Nat, n ≤ 2000 → v = nI n → nt_rw W N 4 n ≤ 40 → False := by
    rintro ⟨n, hn, rfl, h41⟩ n' hn' e h40
    have := nI_inj e (by omega) (by omega)
    subst this
    omega
  have no3 : (bad jI 40 ∨ (¬ bad jI 40 ∧ bad v 2000)) → ¬ (¬ bad jI 40 ∧ cF W N v) := by
    rintro h ⟨h1, h2⟩
    rcases h with h | ⟨-, h⟩
    · exact h1 h
    · exact bad_cF h h2
  rcases x1 with ⟨a1, rfl, rfl⟩ | ⟨a1, rfl, rfl⟩ | ⟨rfl, n, j, ch, h1, h2, h3, h4, h5, h6, h7, h8⟩ <;> rcases x2 with ⟨b1, rfl, rfl⟩ | ⟨b1, rfl, rfl⟩ | ⟨⟨n', j', ch', g1, g2, g3, g4, g5, g6, g7, g8⟩, rfl⟩
  · exact ⟨rfl, rfl, fun h => absurd h (by decide)⟩
  · exact absurd b1 (no3 a1)
  · exact (no1 a1 n' j' g1 g2 g3 g4).elim
  · exact absurd a1 (no3 b1)
  · exact ⟨rfl, rfl, fun h => absurd h (by decide)⟩
  · exact (no2 a1.2 n' g1 g2 g5).elim
  · exact (no1 b1 n j h1 h2 h3 h4).elim
  · exact (no2 b1.2 n h1 h2 h5).elim
  · subst h2
    subst h4
    have q1 := nI_inj g2 (by omega) (by omega)
    have q2 := nI_inj g4 (by omega) (by omega)
    subst q1
    subst q2
    obtain ⟨a3, a2, a1, a0⟩ := nt_bst_ch h6 g6 h5
    have e := nt_py_eq (W := W) (ch := ch) (cg := ch') 4 N j 0 (fun i hi => by
      rcases (show i = 0 ∨ i = 1 ∨ i = 2 ∨ i = 3 by omega) with rfl | rfl | rfl | rfl <;> assumption)
    rw [e] at h7 h8
    exact ⟨rfl, by rw [g7, h7], fun _ => by rw [h8, g8]⟩
end
section
/-! the law: its turns -/
section SLD
variable {p : Program} {l : Launch} {e : Env} {R : Room} {s : State} {m : MethodId} {args : Array Value} {below : List Frame} {meth : Method} {c : Code} {H : Heap} {locs : List Loc} {cells slots : Nat} {Q : State → Prop}
variable {g : Gc} {ad : Nat → Nat} {A : Nat → Prop} {ls : Array Slot}
variable {cc : ByteArray} {pc : Nat} {rest : List Value}
theorem n_sld (hexec : p.tables.exec = Jvm.exec) (hb : c.code = cc) {b L j : Nat} {xs : Nat → Int32} (hX : va_X b L xs s s.heap) (hbl : b < s.heap.size) (hbA : ¬ A b) (hS : va_S A s.heap H locs) (hj : j < L) (hL : L < 2147483648) (hdg : decode cc pc = .ok (.iaload, 1))
    (kk : W p l e R s m args below meth c H locs cells slots Q (F0 m (pc + 1) ls (.int (xs j) :: rest))) : W p l e R s m args below meth c H locs cells slots Q (F0 m pc ls (.int (nI j) :: .ref b :: rest)) :=
  va_sld hexec hb hX hbl hbA hS (vp_in_nI hj hL) hdg (by rw [nI_clamp (show j < 2 ^ 31 by omega)]; exact kk)
end SLD
theorem preYt {s : State} {H : Heap} {A : Nat → Prop} {g : Gc} {oa : Nat} {ov : Nat → Int64} {ad : Nat → Nat} {wv nv : Nat → Int32} {kn : Int32} {fw pp : Nat → Int32} {As : List Value} {locs : List Loc} (hP : va_P g.1 cl (wY g oa ov ad wv nv kn fw pp) H) (hK : gK g s) (hD : va_D A (wY g oa ov ad wv nv kn fw pp)) (hTS : TS A s s.heap) (hS : va_S A s.heap H locs) (hFc : ∀ q, va_A (wY g oa ov ad wv nv kn fw pp) H.size q → A q) : PreS s H (va_Pc As (qYt g oa ov ad wv nv kn fw pp H.size)) As :=
  ⟨fun a U g1 mk q => by obtain ⟨q0, q1, qP, qK, qD, qT⟩ := q; exact ⟨q0, q1, qP, va_K.moved (u := U) (U := U.calling g1 mk a) (Vm.Alike.refl U.vm) qK, qD, TS.moved (u := U) (U := U.calling g1 mk a) (Vm.Alike.refl U.vm) qT⟩, fun U hU hW => ⟨rfl, by rw [hU], by rw [hU]; exact hP, va_K.moved hW.alike hK, hD.weaken (fun _ _ _ _ => trivial), by
    have h1 := (hTS.kept hS.2.1).narrow hFc
    rw [hU]
    exact h1.moved hW.alike⟩⟩
theorem rmk {cells slots : Nat} {rm : Room} {maxL : Nat} (h1 : rm.frames ≤ 11) (h2 : maxL + rm.locals ≤ 400) (h3 : cells + rm.cells ≤ 1037) (h4 : slots + rm.slots ≤ 18246) : xw_R room_1 cells slots rm maxL :=
  ⟨by show _ ≤ 12; omega, by show _ ≤ 426; omega, h3, h4⟩
theorem xw_L_load {R : Room} {cells slots : Nat} (h : xw_R R cells slots rmL 5) : xk_W R cells slots y_L_load cd_L_load rmL 5 4 := ⟨kc_L_load, Or.inr ⟨_, _, _, rfl⟩, tw_0, by decide, by decide +kernel, h.1, h.2.1, h.2.2.1, h.2.2.2⟩
theorem xw_L_best {R : Room} {cells slots : Nat} (h : xw_R R cells slots rmL 4) : xk_W R cells slots y_L_best cd_L_best rmL 4 3 := ⟨kc_L_best, Or.inr ⟨_, _, _, rfl⟩, tw_0, by decide, by decide +kernel, h.1, h.2.1, h.2.2.1, h.2.2.2⟩
theorem xw_L_part {R : Room} {cells slots : Nat} (h : xw_R R cells slots rmL 5) : xk_W R cells slots y_L_part cd_L_part rmL 5 4 := ⟨kc_L_part, Or.inr ⟨_, _, _, rfl⟩, tw_0, by decide, by decide +kernel, h.1, h.2.1, h.2.2.1, h.2.2.2⟩
theorem xw_L_ways {R : Room} {cells slots : Nat} (h : xw_R R cells slots rmL 4) : xk_W R cells slots y_L_ways cd_L_ways rmL 4 3 := ⟨kc_L_ways, Or.inr ⟨_, _, _, rfl⟩, tw_0, by decide, by decide +kernel, h.1, h.2.1, h.2.2.1, h.2.2.2⟩
theorem xw_L_pay {R : Room} {cells slots : Nat} (h : xw_R R cells slots rmL 5) : xk_W R cells slots y_L_pay cd_L_pay rmL 5 4 := ⟨kc_L_pay, Or.inr ⟨_, _, _, rfl⟩, tw_0, by decide, by decide +kernel, h.1, h.2.1, h.2.2.1, h.2.2.2⟩
theorem xw_L_next {R : Room} {cells slots : Nat} (h : xw_R R cells slots rmL 4) : xk_W R cells slots y_L_next cd_L_next rmL 4 3 := ⟨kc_L_next, Or.inr ⟨_, _, _, rfl⟩, tw_0, by decide, by decide +kernel, h.1, h.2.1, h.2.2.1, h.2.2.2⟩
theorem xw_L_cassette {R : Room} {cells slots : Nat} (h : xw_R R cells slots rmL 5) : xk_W R cells slots y_L_cassette cd_L_cassette rmL 5 4 := ⟨kc_L_cassette, Or.inr ⟨_, _, _, rfl⟩, tw_0, by decide, by decide +kernel, h.1, h.2.1, h.2.2.1, h.2.2.2⟩
theorem xw_M_load {R : Room} {cells slots : Nat} (h : xw_R R cells slots rmM1 4) : xk_W R cells slots y_M_load cd_M_load rmM1 4 3 := ⟨kc_M_load, Or.inl ⟨_, _, rfl⟩, tw_2, by decide, by decide +kernel, h.1, h.2.1, h.2.2.1, h.2.2.2⟩
theorem xw_M_best {R : Room} {cells slots : Nat} (h : xw_R R cells slots rmM3 2) : xk_W R cells slots y_M_best cd_M_best rmM3 2 1 := ⟨kc_M_best, Or.inl ⟨_, _, rfl⟩, tw_2, by decide, by decide +kernel, h.1, h.2.1, h.2.2.1, h.2.2.2⟩
theorem xw_M_part {R : Room} {cells slots : Nat} (h : xw_R R cells slots rmM3 3) : xk_W R cells slots y_M_part cd_M_part rmM3 3 2 := ⟨kc_M_part, Or.inl ⟨_, _, rfl⟩, tw_2, by decide, by decide +kernel, h.1, h.2.1, h.2.2.1, h.2.2.2⟩
theorem xw_M_ways {R : Room} {cells slots : Nat} (h : xw_R R cells slots rmM2 2) : xk_W R cells slots y_M_ways cd_M_ways rmM2 2 1 := ⟨kc_M_ways, Or.inl ⟨_, _, rfl⟩, tw_2, by decide, by decide +kernel, h.1, h.2.1, h.2.2.1, h.2.2.2⟩
theorem xw_M_pay {R : Room} {cells slots : Nat} (h : xw_R R cells slots rmM3 7) : xk_W R cells slots y_M_pay cd_M_pay rmM3 7 2 := ⟨kc_M_pay, Or.inl ⟨_, _, rfl⟩, tw_2, by decide, by decide +kernel, h.1, h.2.1, h.2.2.1, h.2.2.2⟩
theorem xw_M_next {R : Room} {cells slots : Nat} (h : xw_R R cells slots rmM2 3) : xk_W R cells slots y_M_next cd_M_next rmM2 3 1 := ⟨kc_M_next, Or.inl ⟨_, _, rfl⟩, tw_2, by decide, by decide +kernel, h.1, h.2.1, h.2.2.1, h.2.2.2⟩
theorem xw_M_reach {R : Room} {cells slots : Nat} (h : xw_R R cells slots rmM2 3) : xk_W R cells slots y_M_reach cd_M_reach rmM2 3 0 := ⟨kc_M_reach, Or.inl ⟨_, _, rfl⟩, tw_2, by decide, by decide +kernel, h.1, h.2.1, h.2.2.1, h.2.2.2⟩
theorem xw_M_cassette {R : Room} {cells slots : Nat} (h : xw_R R cells slots rmM1 3) : xk_W R cells slots y_M_cassette cd_M_cassette rmM1 3 2 := ⟨kc_M_cassette, Or.inl ⟨_, _, rfl⟩, tw_2, by decide, by decide +kernel, h.1, h.2.1, h.2.2.1, h.2.2.2⟩
theorem xw_M_value {R : Room} {cells slots : Nat} (h : xw_R R cells slots rm0 3) : xk_W R cells slots y_M_value cd_M_value rm0 3 0 := ⟨kc_M_value, Or.inl ⟨_, _, rfl⟩, tw_2, by decide, by decide +kernel, h.1, h.2.1, h.2.2.1, h.2.2.2⟩
theorem xw_M_thrown {R : Room} {cells slots : Nat} (h : xw_R R cells slots rm0 1) : xk_W R cells slots y_M_thrown cd_M_thrown rm0 1 0 := ⟨kc_M_thrown, Or.inl ⟨_, _, rfl⟩, tw_2, by decide, by decide +kernel, h.1, h.2.1, h.2.2.1, h.2.2.2⟩
theorem xw_X_reach {R : Room} {cells slots : Nat} (h : xw_R R cells slots rmX 3) : xk_W R cells slots y_X_reach cd_X_reach rmX 3 0 := ⟨kc_X_reach, Or.inl ⟨_, _, rfl⟩, tw_1, by decide, by decide +kernel, h.1, h.2.1, h.2.2.1, h.2.2.2⟩
theorem xw_X_value {R : Room} {cells slots : Nat} (h : xw_R R cells slots rm0 3) : xk_W R cells slots y_X_value cd_X_value rm0 3 0 := ⟨kc_X_value, Or.inl ⟨_, _, rfl⟩, tw_1, by decide, by decide +kernel, h.1, h.2.1, h.2.2.1, h.2.2.2⟩
/-- the law's world at a place of its own: both objects with the same cassettes, the array, the script's place -/
abbrev lwG (p : Program) (l : Launch) (e : Env) (s : State) (m : MethodId) (args : Array Value) (below : List Frame) (meth : Method) (c : Code) (g : Gc) (am ax : Nat → Nat) (oa : Nat) (A : Nat → Prop) (cells slots : Nat) (Q : State → Prop) (b i pc : Nat) : Prop :=
  ∀ (wo N : Nat → Nat) (kn : Int32) (fw pp : Nat → Int32) (ov : Nat → Int64) (ch cn : Nat → Int32) (f mx th : Int32) (H : Heap) (locs : List Loc) (ls : Array Slot), nt_gd wo N → nt_kn wo N kn fw → va_P g.1 cl (wM g am (nF wo) (nF N) ch cn f mx th ++ wY g oa ov ax (nF wo) (nF N) kn fw pp) H → va_D A (wM g am (nF wo) (nF N) ch cn f mx th ++ wY g oa ov ax (nF wo) (nF N) kn fw pp) → va_S A s.heap H locs → lv_has ls 7 [(0, .ref b), (1, .ref (ax 0)), (2, .ref (am 0)), (3, .ref oa), (4, .int (nI i))] → W p l e room_1 s m args below meth c H locs cells slots Q (F0 m pc ls [])
section LCS
variable {p : Program} {l : Launch} {e : Env} {s : State} {m : MethodId} {args : Array Value} {below : List Frame} {meth : Method} {c : Code} {H : Heap} {locs : List Loc} {cells slots : Nat} {Q : State → Prop}
variable {g : Gc} {A : Nat → Prop} {ls : Array Slot}
variable {am ax : Nat → Nat} {oa b L i : Nat} {xs : Nat → Int32} {wo N : Nat → Nat} {kn : Int32} {fw pp : Nat → Int32} {ov : Nat → Int64} {ch cn : Nat → Int32} {f mx th : Int32}
theorem lc_best (B : CallFix p m c code 7 s args tb R_L ∧ l.flags = flags0) (hK : gK g s) (hTS : TS A s s.heap) (hA : ∀ q : Nat, s.heap.size ≤ q → A q) (hX : va_X b L xs s s.heap) (hbl : b < s.heap.size) (hbA : ¬ A b) (hL : L ≤ 2048) (hi : i + 4 ≤ L) (hc : cells + 1 ≤ 1037) (hs : slots + 6 ≤ 18246) (hG : nt_gd wo N) (hkn : nt_kn wo N kn fw) (hP : va_P g.1 cl (wM g am (nF wo) (nF N) ch cn f mx th ++ wY g oa ov ax (nF wo) (nF N) kn fw pp) H) (hD : va_D A (wM g am (nF wo) (nF N) ch cn f mx th ++ wY g oa ov ax (nF wo) (nF N) kn fw pp)) (hS : va_S A s.heap H locs) (hl : lv_has ls 7 [(0, .ref b), (1, .ref (ax 0)), (2, .ref (am 0)), (3, .ref oa), (4, .int (nI i))])
    (kk : lwG p l e s m args below meth c g am ax oa A (cells + 1) (slots + 6) Q b i 562) : W p l e room_1 s m args below meth c H locs cells slots Q (F0 m 148 ls []) := by
  obtain ⟨hx, hb, hml, hown, hts⟩ := B.1
  refine lv_aload_n hx hb d_L_law_148 rfl (lv_at hl 1 rfl) ?_
  refine lv_aload_n hx hb d_L_law_149 rfl (lv_at hl 0 rfl) ?_
  refine lv_iload hx hb d_L_law_150 (lv_at hl 4 rfl) ?_
  refine lv_iconst (v := nI 1) hx hb d_L_law_152 (by decide) ?_
  refine n_add hx hb d_L_law_153 ?_
  refine n_sld hx hb hX hbl hbA hS (j := i + 1) (by omega) (by omega) d_L_law_154 ?_
  refine lv_aload_n hx hb d_L_law_155 rfl (lv_at hl 3 rfl) ?_
  have hPc := hP.sub (ws' := wY g oa ov ax (nF wo) (nF N) kn fw pp) [5, 6, 7, 8, 9, 10] rfl
  have hDc := hD.sub (ws' := wY g oa ov ax (nF wo) (nF N) kn fw pp) [5, 6, 7, 8, 9, 10] (by decide) rfl
  have hFc := va_free (wc := wY g oa ov ax (nF wo) (nF N) kn fw pp) hD hS hA [5, 6, 7, 8, 9, 10] rfl
  refine x_calS (As := [.ref (ax 0), .int (xs (i + 1)), .ref oa]) (rest := []) B.1 (c_L_best l B.2 g oa ov ax wo N kn fw pp (xs (i + 1)) _ hG hkn) (xw_L_best (rmk (by decide) (by decide) (by show cells + 1 ≤ 1037; omega) (by show slots + 6 ≤ 18246; omega))) tw_127 tw_128 (preYt hPc hK hDc hTS hS hFc) hl.1 (Nat.le_of_ble_eq_true rfl) hS hFc rfl d_L_law_156 (fun rv t H1 locs1 hN => ?_) (fun rx t H1 locs1 hN => ?_)
  · obtain ⟨e1, hal, ⟨st, h0, kn, fw, pp, ov, k, hkn, hP1, hD1, hv0, x1⟩, hz1, hk1, hS, -⟩ := hN
    cases hv0
    rw [e1] at hP1
    obtain ⟨hP, hD⟩ := va_join (wr := wM g am (nF wo) (nF N) ch cn f mx th) (w1 := wY g oa ov ax (nF wo) (nF N) kn fw pp) hP hD [5, 6, 7, 8, 9, 10] [0, 1, 2, 3, 4] rfl rfl (by decide) (by decide) hk1 hFc hP1 hD1
    refine W.eq (g2 := F0 m 159 ls [.int k]) rfl ?_
    refine lv_istore (lv' := [(5, .int k), (0, .ref b), (1, .ref (ax 0)), (2, .ref (am 0)), (3, .ref oa), (4, .int (nI i))]) hx hb d_L_law_159 hl (by decide) rfl (fun ls hl => ?_)
    refine lv_aload_n hx hb d_L_law_161 rfl (lv_at hl 3 rfl) ?_
    refine lv_aload_n hx hb d_L_law_162 rfl (lv_at hl 1 rfl) ?_
    refine lv_iload hx hb d_L_law_163 (lv_at hl 5 rfl) ?_
    refine lv_iconst (v := nI 1) hx hb d_L_law_165 (by decide) ?_
    refine n_add hx hb d_L_law_166 ?_
    refine n_sld hx hb hX hbl hbA hS (j := i + 1) (by omega) (by omega) d_L_law_167 ?_
    have hPc := hP.sub (ws' := wM g am (nF wo) (nF N) ch cn f mx th) [0, 1, 2, 3, 4] rfl
    have hDc := hD.sub (ws' := wM g am (nF wo) (nF N) ch cn f mx th) [0, 1, 2, 3, 4] (by decide) rfl
    have hFc := va_free (wc := wM g am (nF wo) (nF N) ch cn f mx th) hD hS hA [0, 1, 2, 3, 4] rfl
    refine x_calV (C := R_M) (b := am 0) (As := [.int (xs (i + 1))]) (rest := []) B.1 (c_M_best l g am wo N ch cn f mx th (xs (i + 1)) _ hG) (xw_M_best (rmk (by decide) (by decide) (by show cells + 1 + 0 ≤ 1037; omega) (by show slots + 6 + 0 ≤ 18246; omega))) tw_237 tw_238 tw_239 (recM hK hPc) (preM hPc hK hDc) hl.1 (Nat.le_of_ble_eq_true rfl) hS hFc rfl d_L_law_168 (fun rv t H1 locs1 hN => ?_) (fun rx t H1 locs1 hN => ?_)
    · obtain ⟨e1, hal, ⟨st, h0, ch, cn, f, mx, th, r, hP1, hD1, hv0, x2⟩, hz1, hk1, hS, -⟩ := hN
      cases hv0
      rw [e1] at hP1
      obtain ⟨hP, hD⟩ := va_join (wr := wY g oa ov ax (nF wo) (nF N) kn fw pp) (w1 := wM g am (nF wo) (nF N) ch cn f mx th) hP hD [0, 1, 2, 3, 4] [5, 6, 7, 8, 9, 10] rfl rfl (by decide) (by decide) hk1 hFc hP1 hD1
      have hP := hP.sub (ws' := wM g am (nF wo) (nF N) ch cn f mx th ++ wY g oa ov ax (nF wo) (nF N) kn fw pp) [6, 7, 8, 9, 10, 0, 1, 2, 3, 4, 5] rfl
      have hD := hD.sub (ws' := wM g am (nF wo) (nF N) ch cn f mx th ++ wY g oa ov ax (nF wo) (nF N) kn fw pp) [6, 7, 8, 9, 10, 0, 1, 2, 3, 4, 5] (by decide) rfl
      refine W.eq (g2 := F0 m 171 ls [.int r]) rfl ?_
      have hag := ag_best x1 x2
      refine lv_istore (lv' := [(6, .int r), (5, .int k), (0, .ref b), (1, .ref (ax 0)), (2, .ref (am 0)), (3, .ref oa), (4, .int (nI i))]) hx hb d_L_law_171 hl (by decide) rfl (fun ls hl => ?_)
      refine lv_aload_n hx hb d_L_law_173 rfl (lv_at hl 4 rfl) ?_
      have hPc := hP.sub (ws' := wM g am (nF wo) (nF N) ch cn f mx th) [0, 1, 2, 3, 4] rfl
      have hDc := hD.sub (ws' := wM g am (nF wo) (nF N) ch cn f mx th) [0, 1, 2, 3, 4] (by decide) rfl
      refine x_pV (C := R_M) (b := am 0) (As := []) (rest := []) B.1 (c_M_thrown l g am (nF wo) (nF N) ch cn f mx th _) (xw_M_thrown (rmk (by decide) (by decide) (by show cells + 1 + 0 ≤ 1037; omega) (by show slots + 6 + 0 ≤ 18246; omega))) tw_226 tw_227 tw_228 (recM hK hPc) (preM hPc hK hDc) hl.1 (Nat.le_of_ble_eq_true rfl) hS rfl d_L_law_174 ?_
      refine lv_iload hx hb d_L_law_177 (lv_at hl 1 rfl) ?_
      refine lv_icmp_eq hx hb d_L_law_179 rfl (fun h1 => ?_) (fun h1 => ?_)
      · refine lv_iload hx hb d_L_law_184 (lv_at hl 1 rfl) ?_
        refine lv_if_ne hx hb d_L_law_186 rfl (fun h2 => ?_) (fun h2 => ?_)
        · refine lv_goto hx hb d_L_law_201 rfl ?_
          have hl := lv_sub (l' := [(0, .ref b), (1, .ref (ax 0)), (2, .ref (am 0)), (3, .ref oa), (4, .int (nI i))]) hl [2, 3, 4, 5, 6] rfl
          exact kk wo N kn fw pp ov ch cn f mx th H1 locs1 ls hG hkn hP hD hS hl
        · refine lv_aload_n hx hb d_L_law_189 rfl (lv_at hl 5 rfl) ?_
          refine lv_iconst (v := nI 0) hx hb d_L_law_190 (by decide) ?_
          refine n_lald hx hb hK hP 5 rfl (by omega) (by decide) d_L_law_191 ?_
          refine lv_iload hx hb d_L_law_192 (lv_at hl 0 rfl) ?_
          refine lv_i2l (v := r.toInt64) hx hb d_L_law_194 rfl ?_
          refine W.lcmp hx hb d_L_law_195 ?_
          refine lv_if_eq hx hb d_L_law_196 rfl (fun h3 => ?_) (fun h3 => ?_)
          · refine lv_goto hx hb d_L_law_201 rfl ?_
            have hl := lv_sub (l' := [(0, .ref b), (1, .ref (ax 0)), (2, .ref (am 0)), (3, .ref oa), (4, .int (nI i))]) hl [2, 3, 4, 5, 6] rfl
            exact kk wo N kn fw pp ov ch cn f mx th H1 locs1 ls hG hkn hP hD hS hl
          · exact absurd ((lg_cmp_eq _ _).mpr (hag.2 h2)) h3
      · exact absurd hag.1 h1
    · obtain ⟨-, -, ⟨st, h0, ch, cn, f, mx, th, r, hP1, hD1, hv0, x2⟩, -⟩ := hN
      cases hv0
  · obtain ⟨-, -, ⟨st, h0, kn, fw, pp, ov, k, hkn, hP1, hD1, hv0, x1⟩, -⟩ := hN
    cases hv0
theorem lc_part (B : CallFix p m c code 7 s args tb R_L ∧ l.flags = flags0) (hK : gK g s) (hTS : TS A s s.heap) (hA : ∀ q : Nat, s.heap.size ≤ q → A q) (hX : va_X b L xs s s.heap) (hbl : b < s.heap.size) (hbA : ¬ A b) (hL : L ≤ 2048) (hi : i + 4 ≤ L) (hc : cells + 1 ≤ 1037) (hs : slots + 6 ≤ 18246) (hG : nt_gd wo N) (hkn : nt_kn wo N kn fw) (hP : va_P g.1 cl (wM g am (nF wo) (nF N) ch cn f mx th ++ wY g oa ov ax (nF wo) (nF N) kn fw pp) H) (hD : va_D A (wM g am (nF wo) (nF N) ch cn f mx th ++ wY g oa ov ax (nF wo) (nF N) kn fw pp)) (hS : va_S A s.heap H locs) (hl : lv_has ls 7 [(0, .ref b), (1, .ref (ax 0)), (2, .ref (am 0)), (3, .ref oa), (4, .int (nI i))])
    (kk : lwG p l e s m args below meth c g am ax oa A (cells + 1) (slots + 6) Q b i 562) : W p l e room_1 s m args below meth c H locs cells slots Q (F0 m 204 ls []) := by
  obtain ⟨hx, hb, hml, hown, hts⟩ := B.1
  refine lv_aload_n hx hb d_L_law_204 rfl (lv_at hl 1 rfl) ?_
  refine lv_aload_n hx hb d_L_law_205 rfl (lv_at hl 0 rfl) ?_
  refine lv_iload hx hb d_L_law_206 (lv_at hl 4 rfl) ?_
  refine lv_iconst (v := nI 1) hx hb d_L_law_208 (by decide) ?_
  refine n_add hx hb d_L_law_209 ?_
  refine n_sld hx hb hX hbl hbA hS (j := i + 1) (by omega) (by omega) d_L_law_210 ?_
  refine lv_aload_n hx hb d_L_law_211 rfl (lv_at hl 0 rfl) ?_
  refine lv_iload hx hb d_L_law_212 (lv_at hl 4 rfl) ?_
  refine lv_iconst (v := nI 2) hx hb d_L_law_214 (by decide) ?_
  refine n_add hx hb d_L_law_215 ?_
  refine n_sld hx hb hX hbl hbA hS (j := i + 2) (by omega) (by omega) d_L_law_216 ?_
  refine lv_aload_n hx hb d_L_law_217 rfl (lv_at hl 3 rfl) ?_
  have hPc := hP.sub (ws' := wY g oa ov ax (nF wo) (nF N) kn fw pp) [5, 6, 7, 8, 9, 10] rfl
  have hDc := hD.sub (ws' := wY g oa ov ax (nF wo) (nF N) kn fw pp) [5, 6, 7, 8, 9, 10] (by decide) rfl
  have hFc := va_free (wc := wY g oa ov ax (nF wo) (nF N) kn fw pp) hD hS hA [5, 6, 7, 8, 9, 10] rfl
  refine x_calS (As := [.ref (ax 0), .int (xs (i + 1)), .int (xs (i + 2)), .ref oa]) (rest := []) B.1 (c_L_part l B.2 g oa ov ax wo N kn fw pp (xs (i + 1)) (xs (i + 2)) _ hG hkn) (xw_L_part (rmk (by decide) (by decide) (by show cells + 1 ≤ 1037; omega) (by show slots + 6 ≤ 18246; omega))) tw_158 tw_159 (preYt hPc hK hDc hTS hS hFc) hl.1 (Nat.le_of_ble_eq_true rfl) hS hFc rfl d_L_law_218 (fun rv t H1 locs1 hN => ?_) (fun rx t H1 locs1 hN => ?_)
  · obtain ⟨e1, hal, ⟨st, h0, kn, fw, pp, ov, k, hkn, hP1, hD1, hv0, x1⟩, hz1, hk1, hS, -⟩ := hN
    cases hv0
    rw [e1] at hP1
    obtain ⟨hP, hD⟩ := va_join (wr := wM g am (nF wo) (nF N) ch cn f mx th) (w1 := wY g oa ov ax (nF wo) (nF N) kn fw pp) hP hD [5, 6, 7, 8, 9, 10] [0, 1, 2, 3, 4] rfl rfl (by decide) (by decide) hk1 hFc hP1 hD1
    refine W.eq (g2 := F0 m 221 ls [.int k]) rfl ?_
    refine lv_istore (lv' := [(5, .int k), (0, .ref b), (1, .ref (ax 0)), (2, .ref (am 0)), (3, .ref oa), (4, .int (nI i))]) hx hb d_L_law_221 hl (by decide) rfl (fun ls hl => ?_)
    refine lv_aload_n hx hb d_L_law_223 rfl (lv_at hl 3 rfl) ?_
    refine lv_aload_n hx hb d_L_law_224 rfl (lv_at hl 1 rfl) ?_
    refine lv_iload hx hb d_L_law_225 (lv_at hl 5 rfl) ?_
    refine lv_iconst (v := nI 1) hx hb d_L_law_227 (by decide) ?_
    refine n_add hx hb d_L_law_228 ?_
    refine n_sld hx hb hX hbl hbA hS (j := i + 1) (by omega) (by omega) d_L_law_229 ?_
    refine lv_aload_n hx hb d_L_law_230 rfl (lv_at hl 1 rfl) ?_
    refine lv_iload hx hb d_L_law_231 (lv_at hl 5 rfl) ?_
    refine lv_iconst (v := nI 2) hx hb d_L_law_233 (by decide) ?_
    refine n_add hx hb d_L_law_234 ?_
    refine n_sld hx hb hX hbl hbA hS (j := i + 2) (by omega) (by omega) d_L_law_235 ?_
    have hPc := hP.sub (ws' := wM g am (nF wo) (nF N) ch cn f mx th) [0, 1, 2, 3, 4] rfl
    have hDc := hD.sub (ws' := wM g am (nF wo) (nF N) ch cn f mx th) [0, 1, 2, 3, 4] (by decide) rfl
    have hFc := va_free (wc := wM g am (nF wo) (nF N) ch cn f mx th) hD hS hA [0, 1, 2, 3, 4] rfl
    refine x_calV (C := R_M) (b := am 0) (As := [.int (xs (i + 1)), .int (xs (i + 2))]) (rest := []) B.1 (c_M_part l g am wo N ch cn f mx th (xs (i + 1)) (xs (i + 2)) _ hG) (xw_M_part (rmk (by decide) (by decide) (by show cells + 1 + 0 ≤ 1037; omega) (by show slots + 6 + 0 ≤ 18246; omega))) tw_252 tw_253 tw_254 (recM hK hPc) (preM hPc hK hDc) hl.1 (Nat.le_of_ble_eq_true rfl) hS hFc rfl d_L_law_236 (fun rv t H1 locs1 hN => ?_) (fun rx t H1 locs1 hN => ?_)
    · obtain ⟨e1, hal, ⟨st, h0, ch, cn, f, mx, th, r, hP1, hD1, hv0, x2⟩, hz1, hk1, hS, -⟩ := hN
      cases hv0
      rw [e1] at hP1
      obtain ⟨hP, hD⟩ := va_join (wr := wY g oa ov ax (nF wo) (nF N) kn fw pp) (w1 := wM g am (nF wo) (nF N) ch cn f mx th) hP hD [0, 1, 2, 3, 4] [5, 6, 7, 8, 9, 10] rfl rfl (by decide) (by decide) hk1 hFc hP1 hD1
      have hP := hP.sub (ws' := wM g am (nF wo) (nF N) ch cn f mx th ++ wY g oa ov ax (nF wo) (nF N) kn fw pp) [6, 7, 8, 9, 10, 0, 1, 2, 3, 4, 5] rfl
      have hD := hD.sub (ws' := wM g am (nF wo) (nF N) ch cn f mx th ++ wY g oa ov ax (nF wo) (nF N) kn fw pp) [6, 7, 8, 9, 10, 0, 1, 2, 3, 4, 5] (by decide) rfl
      refine W.eq (g2 := F0 m 239 ls [.int r]) rfl ?_
      have hag := ag_part x1 x2
      refine lv_istore (lv' := [(6, .int r), (5, .int k), (0, .ref b), (1, .ref (ax 0)), (2, .ref (am 0)), (3, .ref oa), (4, .int (nI i))]) hx hb d_L_law_239 hl (by decide) rfl (fun ls hl => ?_)
      refine lv_aload_n hx hb d_L_law_241 rfl (lv_at hl 4 rfl) ?_
      have hPc := hP.sub (ws' := wM g am (nF wo) (nF N) ch cn f mx th) [0, 1, 2, 3, 4] rfl
      have hDc := hD.sub (ws' := wM g am (nF wo) (nF N) ch cn f mx th) [0, 1, 2, 3, 4] (by decide) rfl
      refine x_pV (C := R_M) (b := am 0) (As := []) (rest := []) B.1 (c_M_thrown l g am (nF wo) (nF N) ch cn f mx th _) (xw_M_thrown (rmk (by decide) (by decide) (by show cells + 1 + 0 ≤ 1037; omega) (by show slots + 6 + 0 ≤ 18246; omega))) tw_226 tw_227 tw_228 (recM hK hPc) (preM hPc hK hDc) hl.1 (Nat.le_of_ble_eq_true rfl) hS rfl d_L_law_242 ?_
      refine lv_iload hx hb d_L_law_245 (lv_at hl 1 rfl) ?_
      refine lv_icmp_eq hx hb d_L_law_247 rfl (fun h1 => ?_) (fun h1 => ?_)
      · refine lv_iload hx hb d_L_law_252 (lv_at hl 1 rfl) ?_
        refine lv_if_ne hx hb d_L_law_254 rfl (fun h2 => ?_) (fun h2 => ?_)
        · refine lv_goto hx hb d_L_law_269 rfl ?_
          have hl := lv_sub (l' := [(0, .ref b), (1, .ref (ax 0)), (2, .ref (am 0)), (3, .ref oa), (4, .int (nI i))]) hl [2, 3, 4, 5, 6] rfl
          exact kk wo N kn fw pp ov ch cn f mx th H1 locs1 ls hG hkn hP hD hS hl
        · refine lv_aload_n hx hb d_L_law_257 rfl (lv_at hl 5 rfl) ?_
          refine lv_iconst (v := nI 0) hx hb d_L_law_258 (by decide) ?_
          refine n_lald hx hb hK hP 5 rfl (by omega) (by decide) d_L_law_259 ?_
          refine lv_iload hx hb d_L_law_260 (lv_at hl 0 rfl) ?_
          refine lv_i2l (v := r.toInt64) hx hb d_L_law_262 rfl ?_
          refine W.lcmp hx hb d_L_law_263 ?_
          refine lv_if_eq hx hb d_L_law_264 rfl (fun h3 => ?_) (fun h3 => ?_)
          · refine lv_goto hx hb d_L_law_269 rfl ?_
            have hl := lv_sub (l' := [(0, .ref b), (1, .ref (ax 0)), (2, .ref (am 0)), (3, .ref oa), (4, .int (nI i))]) hl [2, 3, 4, 5, 6] rfl
            exact kk wo N kn fw pp ov ch cn f mx th H1 locs1 ls hG hkn hP hD hS hl
          · exact absurd ((lg_cmp_eq _ _).mpr (hag.2 h2)) h3
      · exact absurd hag.1 h1
    · obtain ⟨-, -, ⟨st, h0, ch, cn, f, mx, th, r, hP1, hD1, hv0, x2⟩, -⟩ := hN
      cases hv0
  · obtain ⟨-, -, ⟨st, h0, kn, fw, pp, ov, k, hkn, hP1, hD1, hv0, x1⟩, -⟩ := hN
    cases hv0
theorem lc_ways (B : CallFix p m c code 7 s args tb R_L ∧ l.flags = flags0) (hK : gK g s) (hTS : TS A s s.heap) (hA : ∀ q : Nat, s.heap.size ≤ q → A q) (hX : va_X b L xs s s.heap) (hbl : b < s.heap.size) (hbA : ¬ A b) (hL : L ≤ 2048) (hi : i + 4 ≤ L) (hc : cells + 1 ≤ 1037) (hs : slots + 6 ≤ 18246) (hG : nt_gd wo N) (hkn : nt_kn wo N kn fw) (hP : va_P g.1 cl (wM g am (nF wo) (nF N) ch cn f mx th ++ wY g oa ov ax (nF wo) (nF N) kn fw pp) H) (hD : va_D A (wM g am (nF wo) (nF N) ch cn f mx th ++ wY g oa ov ax (nF wo) (nF N) kn fw pp)) (hS : va_S A s.heap H locs) (hl : lv_has ls 7 [(0, .ref b), (1, .ref (ax 0)), (2, .ref (am 0)), (3, .ref oa), (4, .int (nI i))])
    (kk : lwG p l e s m args below meth c g am ax oa A (cells + 1) (slots + 6) Q b i 562) : W p l e room_1 s m args below meth c H locs cells slots Q (F0 m 272 ls []) := by
  obtain ⟨hx, hb, hml, hown, hts⟩ := B.1
  refine lv_aload_n hx hb d_L_law_272 rfl (lv_at hl 1 rfl) ?_
  refine lv_aload_n hx hb d_L_law_273 rfl (lv_at hl 0 rfl) ?_
  refine lv_iload hx hb d_L_law_274 (lv_at hl 4 rfl) ?_
  refine lv_iconst (v := nI 1) hx hb d_L_law_276 (by decide) ?_
  refine n_add hx hb d_L_law_277 ?_
  refine n_sld hx hb hX hbl hbA hS (j := i + 1) (by omega) (by omega) d_L_law_278 ?_
  refine lv_aload_n hx hb d_L_law_279 rfl (lv_at hl 3 rfl) ?_
  have hPc := hP.sub (ws' := wY g oa ov ax (nF wo) (nF N) kn fw pp) [5, 6, 7, 8, 9, 10] rfl
  have hDc := hD.sub (ws' := wY g oa ov ax (nF wo) (nF N) kn fw pp) [5, 6, 7, 8, 9, 10] (by decide) rfl
  have hFc := va_free (wc := wY g oa ov ax (nF wo) (nF N) kn fw pp) hD hS hA [5, 6, 7, 8, 9, 10] rfl
  refine x_calS (As := [.ref (ax 0), .int (xs (i + 1)), .ref oa]) (rest := []) B.1 (c_L_ways l B.2 g oa ov ax wo N kn fw pp (xs (i + 1)) _ hG hkn) (xw_L_ways (rmk (by decide) (by decide) (by show cells + 1 ≤ 1037; omega) (by show slots + 6 ≤ 18246; omega))) tw_165 tw_166 (preYt hPc hK hDc hTS hS hFc) hl.1 (Nat.le_of_ble_eq_true rfl) hS hFc rfl d_L_law_280 (fun rv t H1 locs1 hN => ?_) (fun rx t H1 locs1 hN => ?_)
  · obtain ⟨e1, hal, ⟨st, h0, kn, fw, pp, ov, k, hkn, hP1, hD1, hv0, x1⟩, hz1, hk1, hS, -⟩ := hN
    cases hv0
    rw [e1] at hP1
    obtain ⟨hP, hD⟩ := va_join (wr := wM g am (nF wo) (nF N) ch cn f mx th) (w1 := wY g oa ov ax (nF wo) (nF N) kn fw pp) hP hD [5, 6, 7, 8, 9, 10] [0, 1, 2, 3, 4] rfl rfl (by decide) (by decide) hk1 hFc hP1 hD1
    refine W.eq (g2 := F0 m 283 ls [.int k]) rfl ?_
    refine lv_istore (lv' := [(5, .int k), (0, .ref b), (1, .ref (ax 0)), (2, .ref (am 0)), (3, .ref oa), (4, .int (nI i))]) hx hb d_L_law_283 hl (by decide) rfl (fun ls hl => ?_)
    refine lv_aload_n hx hb d_L_law_285 rfl (lv_at hl 3 rfl) ?_
    refine lv_aload_n hx hb d_L_law_286 rfl (lv_at hl 1 rfl) ?_
    refine lv_iload hx hb d_L_law_287 (lv_at hl 5 rfl) ?_
    refine lv_iconst (v := nI 1) hx hb d_L_law_289 (by decide) ?_
    refine n_add hx hb d_L_law_290 ?_
    refine n_sld hx hb hX hbl hbA hS (j := i + 1) (by omega) (by omega) d_L_law_291 ?_
    have hPc := hP.sub (ws' := wM g am (nF wo) (nF N) ch cn f mx th) [0, 1, 2, 3, 4] rfl
    have hDc := hD.sub (ws' := wM g am (nF wo) (nF N) ch cn f mx th) [0, 1, 2, 3, 4] (by decide) rfl
    have hFc := va_free (wc := wM g am (nF wo) (nF N) ch cn f mx th) hD hS hA [0, 1, 2, 3, 4] rfl
    refine x_calV (C := R_M) (b := am 0) (As := [.int (xs (i + 1))]) (rest := []) B.1 (c_M_ways l g am wo N ch cn f mx th (xs (i + 1)) _ hG) (xw_M_ways (rmk (by decide) (by decide) (by show cells + 1 + 0 ≤ 1037; omega) (by show slots + 6 + 0 ≤ 18246; omega))) tw_256 tw_257 tw_258 (recM hK hPc) (preM hPc hK hDc) hl.1 (Nat.le_of_ble_eq_true rfl) hS hFc rfl d_L_law_292 (fun rv t H1 locs1 hN => ?_) (fun rx t H1 locs1 hN => ?_)
    · obtain ⟨e1, hal, ⟨st, h0, ch, cn, f, mx, th, r, hP1, hD1, hv0, x2⟩, hz1, hk1, hS, -⟩ := hN
      cases hv0
      rw [e1] at hP1
      obtain ⟨hP, hD⟩ := va_join (wr := wY g oa ov ax (nF wo) (nF N) kn fw pp) (w1 := wM g am (nF wo) (nF N) ch cn f mx th) hP hD [0, 1, 2, 3, 4] [5, 6, 7, 8, 9, 10] rfl rfl (by decide) (by decide) hk1 hFc hP1 hD1
      have hP := hP.sub (ws' := wM g am (nF wo) (nF N) ch cn f mx th ++ wY g oa ov ax (nF wo) (nF N) kn fw pp) [6, 7, 8, 9, 10, 0, 1, 2, 3, 4, 5] rfl
      have hD := hD.sub (ws' := wM g am (nF wo) (nF N) ch cn f mx th ++ wY g oa ov ax (nF wo) (nF N) kn fw pp) [6, 7, 8, 9, 10, 0, 1, 2, 3, 4, 5] (by decide) rfl
      refine W.eq (g2 := F0 m 295 ls [.int r]) rfl ?_
      have hag := ag_ways x1 x2
      refine lv_istore (lv' := [(6, .int r), (5, .int k), (0, .ref b), (1, .ref (ax 0)), (2, .ref (am 0)), (3, .ref oa), (4, .int (nI i))]) hx hb d_L_law_295 hl (by decide) rfl (fun ls hl => ?_)
      refine lv_aload_n hx hb d_L_law_297 rfl (lv_at hl 4 rfl) ?_
      have hPc := hP.sub (ws' := wM g am (nF wo) (nF N) ch cn f mx th) [0, 1, 2, 3, 4] rfl
      have hDc := hD.sub (ws' := wM g am (nF wo) (nF N) ch cn f mx th) [0, 1, 2, 3, 4] (by decide) rfl
      refine x_pV (C := R_M) (b := am 0) (As := []) (rest := []) B.1 (c_M_thrown l g am (nF wo) (nF N) ch cn f mx th _) (xw_M_thrown (rmk (by decide) (by decide) (by show cells + 1 + 0 ≤ 1037; omega) (by show slots + 6 + 0 ≤ 18246; omega))) tw_226 tw_227 tw_228 (recM hK hPc) (preM hPc hK hDc) hl.1 (Nat.le_of_ble_eq_true rfl) hS rfl d_L_law_298 ?_
      refine lv_iload hx hb d_L_law_301 (lv_at hl 1 rfl) ?_
      refine lv_icmp_eq hx hb d_L_law_303 rfl (fun h1 => ?_) (fun h1 => ?_)
      · refine lv_iload hx hb d_L_law_308 (lv_at hl 1 rfl) ?_
        refine lv_if_ne hx hb d_L_law_310 rfl (fun h2 => ?_) (fun h2 => ?_)
        · refine lv_goto hx hb d_L_law_325 rfl ?_
          have hl := lv_sub (l' := [(0, .ref b), (1, .ref (ax 0)), (2, .ref (am 0)), (3, .ref oa), (4, .int (nI i))]) hl [2, 3, 4, 5, 6] rfl
          exact kk wo N kn fw pp ov ch cn f mx th H1 locs1 ls hG hkn hP hD hS hl
        · refine lv_aload_n hx hb d_L_law_313 rfl (lv_at hl 5 rfl) ?_
          refine lv_iconst (v := nI 0) hx hb d_L_law_314 (by decide) ?_
          refine n_lald hx hb hK hP 5 rfl (by omega) (by decide) d_L_law_315 ?_
          refine lv_iload hx hb d_L_law_316 (lv_at hl 0 rfl) ?_
          refine lv_i2l (v := r.toInt64) hx hb d_L_law_318 rfl ?_
          refine W.lcmp hx hb d_L_law_319 ?_
          refine lv_if_eq hx hb d_L_law_320 rfl (fun h3 => ?_) (fun h3 => ?_)
          · refine lv_goto hx hb d_L_law_325 rfl ?_
            have hl := lv_sub (l' := [(0, .ref b), (1, .ref (ax 0)), (2, .ref (am 0)), (3, .ref oa), (4, .int (nI i))]) hl [2, 3, 4, 5, 6] rfl
            exact kk wo N kn fw pp ov ch cn f mx th H1 locs1 ls hG hkn hP hD hS hl
          · exact absurd ((lg_cmp_eq _ _).mpr (hag.2 h2)) h3
      · exact absurd hag.1 h1
    · obtain ⟨-, -, ⟨st, h0, ch, cn, f, mx, th, r, hP1, hD1, hv0, x2⟩, -⟩ := hN
      cases hv0
  · obtain ⟨-, -, ⟨st, h0, kn, fw, pp, ov, k, hkn, hP1, hD1, hv0, x1⟩, -⟩ := hN
    cases hv0
theorem lc_next (B : CallFix p m c code 7 s args tb R_L ∧ l.flags = flags0) (hK : gK g s) (hTS : TS A s s.heap) (hA : ∀ q : Nat, s.heap.size ≤ q → A q) (hX : va_X b L xs s s.heap) (hbl : b < s.heap.size) (hbA : ¬ A b) (hL : L ≤ 2048) (hi : i + 4 ≤ L) (hc : cells + 1 ≤ 1037) (hs : slots + 6 ≤ 18246) (hG : nt_gd wo N) (hkn : nt_kn wo N kn fw) (hP : va_P g.1 cl (wM g am (nF wo) (nF N) ch cn f mx th ++ wY g oa ov ax (nF wo) (nF N) kn fw pp) H) (hD : va_D A (wM g am (nF wo) (nF N) ch cn f mx th ++ wY g oa ov ax (nF wo) (nF N) kn fw pp)) (hS : va_S A s.heap H locs) (hl : lv_has ls 7 [(0, .ref b), (1, .ref (ax 0)), (2, .ref (am 0)), (3, .ref oa), (4, .int (nI i))])
    (kk : lwG p l e s m args below meth c g am ax oa A (cells + 1) (slots + 6) Q b i 562) : W p l e room_1 s m args below meth c H locs cells slots Q (F0 m 396 ls []) := by
  obtain ⟨hx, hb, hml, hown, hts⟩ := B.1
  refine lv_aload_n hx hb d_L_law_396 rfl (lv_at hl 1 rfl) ?_
  refine lv_aload_n hx hb d_L_law_397 rfl (lv_at hl 0 rfl) ?_
  refine lv_iload hx hb d_L_law_398 (lv_at hl 4 rfl) ?_
  refine lv_iconst (v := nI 1) hx hb d_L_law_400 (by decide) ?_
  refine n_add hx hb d_L_law_401 ?_
  refine n_sld hx hb hX hbl hbA hS (j := i + 1) (by omega) (by omega) d_L_law_402 ?_
  refine lv_aload_n hx hb d_L_law_403 rfl (lv_at hl 3 rfl) ?_
  have hPc := hP.sub (ws' := wY g oa ov ax (nF wo) (nF N) kn fw pp) [5, 6, 7, 8, 9, 10] rfl
  have hDc := hD.sub (ws' := wY g oa ov ax (nF wo) (nF N) kn fw pp) [5, 6, 7, 8, 9, 10] (by decide) rfl
  have hFc := va_free (wc := wY g oa ov ax (nF wo) (nF N) kn fw pp) hD hS hA [5, 6, 7, 8, 9, 10] rfl
  refine x_calS (As := [.ref (ax 0), .int (xs (i + 1)), .ref oa]) (rest := []) B.1 (c_L_next l B.2 g oa ov ax wo N kn fw pp (xs (i + 1)) _ hG hkn) (xw_L_next (rmk (by decide) (by decide) (by show cells + 1 ≤ 1037; omega) (by show slots + 6 ≤ 18246; omega))) tw_183 tw_184 (preYt hPc hK hDc hTS hS hFc) hl.1 (Nat.le_of_ble_eq_true rfl) hS hFc rfl d_L_law_404 (fun rv t H1 locs1 hN => ?_) (fun rx t H1 locs1 hN => ?_)
  · obtain ⟨e1, hal, ⟨st, h0, kn, fw, pp, ov, k, hkn, hP1, hD1, hv0, x1⟩, hz1, hk1, hS, -⟩ := hN
    cases hv0
    rw [e1] at hP1
    obtain ⟨hP, hD⟩ := va_join (wr := wM g am (nF wo) (nF N) ch cn f mx th) (w1 := wY g oa ov ax (nF wo) (nF N) kn fw pp) hP hD [5, 6, 7, 8, 9, 10] [0, 1, 2, 3, 4] rfl rfl (by decide) (by decide) hk1 hFc hP1 hD1
    refine W.eq (g2 := F0 m 407 ls [.int k]) rfl ?_
    refine lv_istore (lv' := [(5, .int k), (0, .ref b), (1, .ref (ax 0)), (2, .ref (am 0)), (3, .ref oa), (4, .int (nI i))]) hx hb d_L_law_407 hl (by decide) rfl (fun ls hl => ?_)
    refine lv_aload_n hx hb d_L_law_409 rfl (lv_at hl 3 rfl) ?_
    refine lv_aload_n hx hb d_L_law_410 rfl (lv_at hl 1 rfl) ?_
    refine lv_iload hx hb d_L_law_411 (lv_at hl 5 rfl) ?_
    refine lv_iconst (v := nI 1) hx hb d_L_law_413 (by decide) ?_
    refine n_add hx hb d_L_law_414 ?_
    refine n_sld hx hb hX hbl hbA hS (j := i + 1) (by omega) (by omega) d_L_law_415 ?_
    have hPc := hP.sub (ws' := wM g am (nF wo) (nF N) ch cn f mx th) [0, 1, 2, 3, 4] rfl
    have hDc := hD.sub (ws' := wM g am (nF wo) (nF N) ch cn f mx th) [0, 1, 2, 3, 4] (by decide) rfl
    have hFc := va_free (wc := wM g am (nF wo) (nF N) ch cn f mx th) hD hS hA [0, 1, 2, 3, 4] rfl
    refine x_calV (C := R_M) (b := am 0) (As := [.int (xs (i + 1))]) (rest := []) B.1 (c_M_next l g am wo N ch cn f mx th (xs (i + 1)) _ hG) (xw_M_next (rmk (by decide) (by decide) (by show cells + 1 + 0 ≤ 1037; omega) (by show slots + 6 + 0 ≤ 18246; omega))) tw_264 tw_265 tw_266 (recM hK hPc) (preM hPc hK hDc) hl.1 (Nat.le_of_ble_eq_true rfl) hS hFc rfl d_L_law_416 (fun rv t H1 locs1 hN => ?_) (fun rx t H1 locs1 hN => ?_)
    · obtain ⟨e1, hal, ⟨st, h0, ch, cn, f, mx, th, r, hP1, hD1, hv0, x2⟩, hz1, hk1, hS, -⟩ := hN
      cases hv0
      rw [e1] at hP1
      obtain ⟨hP, hD⟩ := va_join (wr := wY g oa ov ax (nF wo) (nF N) kn fw pp) (w1 := wM g am (nF wo) (nF N) ch cn f mx th) hP hD [0, 1, 2, 3, 4] [5, 6, 7, 8, 9, 10] rfl rfl (by decide) (by decide) hk1 hFc hP1 hD1
      have hP := hP.sub (ws' := wM g am (nF wo) (nF N) ch cn f mx th ++ wY g oa ov ax (nF wo) (nF N) kn fw pp) [6, 7, 8, 9, 10, 0, 1, 2, 3, 4, 5] rfl
      have hD := hD.sub (ws' := wM g am (nF wo) (nF N) ch cn f mx th ++ wY g oa ov ax (nF wo) (nF N) kn fw pp) [6, 7, 8, 9, 10, 0, 1, 2, 3, 4, 5] (by decide) rfl
      refine W.eq (g2 := F0 m 419 ls [.int r]) rfl ?_
      have hag := ag_next x1 x2
      refine lv_istore (lv' := [(6, .int r), (5, .int k), (0, .ref b), (1, .ref (ax 0)), (2, .ref (am 0)), (3, .ref oa), (4, .int (nI i))]) hx hb d_L_law_419 hl (by decide) rfl (fun ls hl => ?_)
      refine lv_aload_n hx hb d_L_law_421 rfl (lv_at hl 4 rfl) ?_
      have hPc := hP.sub (ws' := wM g am (nF wo) (nF N) ch cn f mx th) [0, 1, 2, 3, 4] rfl
      have hDc := hD.sub (ws' := wM g am (nF wo) (nF N) ch cn f mx th) [0, 1, 2, 3, 4] (by decide) rfl
      refine x_pV (C := R_M) (b := am 0) (As := []) (rest := []) B.1 (c_M_thrown l g am (nF wo) (nF N) ch cn f mx th _) (xw_M_thrown (rmk (by decide) (by decide) (by show cells + 1 + 0 ≤ 1037; omega) (by show slots + 6 + 0 ≤ 18246; omega))) tw_226 tw_227 tw_228 (recM hK hPc) (preM hPc hK hDc) hl.1 (Nat.le_of_ble_eq_true rfl) hS rfl d_L_law_422 ?_
      refine lv_iload hx hb d_L_law_425 (lv_at hl 1 rfl) ?_
      refine lv_icmp_eq hx hb d_L_law_427 rfl (fun h1 => ?_) (fun h1 => ?_)
      · refine lv_iload hx hb d_L_law_432 (lv_at hl 1 rfl) ?_
        refine lv_if_ne hx hb d_L_law_434 rfl (fun h2 => ?_) (fun h2 => ?_)
        · refine lv_goto hx hb d_L_law_449 rfl ?_
          have hl := lv_sub (l' := [(0, .ref b), (1, .ref (ax 0)), (2, .ref (am 0)), (3, .ref oa), (4, .int (nI i))]) hl [2, 3, 4, 5, 6] rfl
          exact kk wo N kn fw pp ov ch cn f mx th H1 locs1 ls hG hkn hP hD hS hl
        · refine lv_aload_n hx hb d_L_law_437 rfl (lv_at hl 5 rfl) ?_
          refine lv_iconst (v := nI 0) hx hb d_L_law_438 (by decide) ?_
          refine n_lald hx hb hK hP 5 rfl (by omega) (by decide) d_L_law_439 ?_
          refine lv_iload hx hb d_L_law_440 (lv_at hl 0 rfl) ?_
          refine lv_i2l (v := r.toInt64) hx hb d_L_law_442 rfl ?_
          refine W.lcmp hx hb d_L_law_443 ?_
          refine lv_if_eq hx hb d_L_law_444 rfl (fun h3 => ?_) (fun h3 => ?_)
          · refine lv_goto hx hb d_L_law_449 rfl ?_
            have hl := lv_sub (l' := [(0, .ref b), (1, .ref (ax 0)), (2, .ref (am 0)), (3, .ref oa), (4, .int (nI i))]) hl [2, 3, 4, 5, 6] rfl
            exact kk wo N kn fw pp ov ch cn f mx th H1 locs1 ls hG hkn hP hD hS hl
          · exact absurd ((lg_cmp_eq _ _).mpr (hag.2 h2)) h3
      · exact absurd hag.1 h1
    · obtain ⟨-, -, ⟨st, h0, ch, cn, f, mx, th, r, hP1, hD1, hv0, x2⟩, -⟩ := hN
      cases hv0
  · obtain ⟨-, -, ⟨st, h0, kn, fw, pp, ov, k, hkn, hP1, hD1, hv0, x1⟩, -⟩ := hN
    cases hv0
theorem lc_load (B : CallFix p m c code 7 s args tb R_L ∧ l.flags = flags0) (hK : gK g s) (hTS : TS A s s.heap) (hA : ∀ q : Nat, s.heap.size ≤ q → A q) (hX : va_X b L xs s s.heap) (hbl : b < s.heap.size) (hbA : ¬ A b) (hL : L ≤ 2048) (hi : i + 4 ≤ L) (hc : cells + 1 ≤ 1037) (hs : slots + 6 ≤ 18246) (hG : nt_gd wo N) (hkn : nt_kn wo N kn fw) (hP : va_P g.1 cl (wM g am (nF wo) (nF N) ch cn f mx th ++ wY g oa ov ax (nF wo) (nF N) kn fw pp) H) (hD : va_D A (wM g am (nF wo) (nF N) ch cn f mx th ++ wY g oa ov ax (nF wo) (nF N) kn fw pp)) (hS : va_S A s.heap H locs) (hl : lv_has ls 7 [(0, .ref b), (1, .ref (ax 0)), (2, .ref (am 0)), (3, .ref oa), (4, .int (nI i))])
    (kk : lwG p l e s m args below meth c g am ax oa A (cells + 1) (slots + 6) Q b i 562) : W p l e room_1 s m args below meth c H locs cells slots Q (F0 m 88 ls []) := by
  obtain ⟨hx, hb, hml, hown, hts⟩ := B.1
  refine lv_aload_n hx hb d_L_law_88 rfl (lv_at hl 1 rfl) ?_
  refine lv_aload_n hx hb d_L_law_89 rfl (lv_at hl 0 rfl) ?_
  refine lv_iload hx hb d_L_law_90 (lv_at hl 4 rfl) ?_
  refine lv_iconst (v := nI 1) hx hb d_L_law_92 (by decide) ?_
  refine n_add hx hb d_L_law_93 ?_
  refine n_sld hx hb hX hbl hbA hS (j := i + 1) (by omega) (by omega) d_L_law_94 ?_
  refine lv_aload_n hx hb d_L_law_95 rfl (lv_at hl 0 rfl) ?_
  refine lv_iload hx hb d_L_law_96 (lv_at hl 4 rfl) ?_
  refine lv_iconst (v := nI 2) hx hb d_L_law_98 (by decide) ?_
  refine n_add hx hb d_L_law_99 ?_
  refine n_sld hx hb hX hbl hbA hS (j := i + 2) (by omega) (by omega) d_L_law_100 ?_
  refine lv_aload_n hx hb d_L_law_101 rfl (lv_at hl 0 rfl) ?_
  refine lv_iload hx hb d_L_law_102 (lv_at hl 4 rfl) ?_
  refine lv_iconst (v := nI 3) hx hb d_L_law_104 (by decide) ?_
  refine n_add hx hb d_L_law_105 ?_
  refine n_sld hx hb hX hbl hbA hS (j := i + 3) (by omega) (by omega) d_L_law_106 ?_
  have hPc := hP.sub (ws' := wY g oa ov ax (nF wo) (nF N) kn fw pp) [5, 6, 7, 8, 9, 10] rfl
  have hDc := hD.sub (ws' := wY g oa ov ax (nF wo) (nF N) kn fw pp) [5, 6, 7, 8, 9, 10] (by decide) rfl
  have hFc := va_free (wc := wY g oa ov ax (nF wo) (nF N) kn fw pp) hD hS hA [5, 6, 7, 8, 9, 10] rfl
  refine x_calS (As := [.ref (ax 0), .int (xs (i + 1)), .int (xs (i + 2)), .int (xs (i + 3))]) (rest := []) B.1 (c_L_load l B.2 g oa ov ax wo N kn fw pp (xs (i + 1)) (xs (i + 2)) (xs (i + 3)) _ hkn) (xw_L_load (rmk (by decide) (by decide) (by show cells + 1 ≤ 1037; omega) (by show slots + 6 ≤ 18246; omega))) tw_51 tw_52 (preYt hPc hK hDc hTS hS hFc) hl.1 (Nat.le_of_ble_eq_true rfl) hS hFc rfl d_L_law_107 (fun rv t H1 locs1 hN => ?_) (fun rx t H1 locs1 hN => ?_)
  · obtain ⟨e1, hal, ⟨st, h0, V, M, kn, fw, pp, ov, k, hkn, hP1, hD1, hv0, x1⟩, hz1, hk1, hS, -⟩ := hN
    cases hv0
    rw [e1] at hP1
    obtain ⟨hP, hD⟩ := va_join (wr := wM g am (nF wo) (nF N) ch cn f mx th) (w1 := wY g oa ov ax (nF V) (nF M) kn fw pp) hP hD [5, 6, 7, 8, 9, 10] [0, 1, 2, 3, 4] rfl rfl (by decide) (by decide) hk1 hFc hP1 hD1
    refine W.eq (g2 := F0 m 110 ls [.int k]) rfl ?_
    refine lv_istore (lv' := [(5, .int k), (0, .ref b), (1, .ref (ax 0)), (2, .ref (am 0)), (3, .ref oa), (4, .int (nI i))]) hx hb d_L_law_110 hl (by decide) rfl (fun ls hl => ?_)
    refine lv_aload_n hx hb d_L_law_112 rfl (lv_at hl 3 rfl) ?_
    refine lv_aload_n hx hb d_L_law_113 rfl (lv_at hl 1 rfl) ?_
    refine lv_iload hx hb d_L_law_114 (lv_at hl 5 rfl) ?_
    refine lv_iconst (v := nI 1) hx hb d_L_law_116 (by decide) ?_
    refine n_add hx hb d_L_law_117 ?_
    refine n_sld hx hb hX hbl hbA hS (j := i + 1) (by omega) (by omega) d_L_law_118 ?_
    refine lv_aload_n hx hb d_L_law_119 rfl (lv_at hl 1 rfl) ?_
    refine lv_iload hx hb d_L_law_120 (lv_at hl 5 rfl) ?_
    refine lv_iconst (v := nI 2) hx hb d_L_law_122 (by decide) ?_
    refine n_add hx hb d_L_law_123 ?_
    refine n_sld hx hb hX hbl hbA hS (j := i + 2) (by omega) (by omega) d_L_law_124 ?_
    refine lv_aload_n hx hb d_L_law_125 rfl (lv_at hl 1 rfl) ?_
    refine lv_iload hx hb d_L_law_126 (lv_at hl 5 rfl) ?_
    refine lv_iconst (v := nI 3) hx hb d_L_law_128 (by decide) ?_
    refine n_add hx hb d_L_law_129 ?_
    refine n_sld hx hb hX hbl hbA hS (j := i + 3) (by omega) (by omega) d_L_law_130 ?_
    have hPc := hP.sub (ws' := wM g am (nF wo) (nF N) ch cn f mx th) [0, 1, 2, 3, 4] rfl
    have hDc := hD.sub (ws' := wM g am (nF wo) (nF N) ch cn f mx th) [0, 1, 2, 3, 4] (by decide) rfl
    have hFc := va_free (wc := wM g am (nF wo) (nF N) ch cn f mx th) hD hS hA [0, 1, 2, 3, 4] rfl
    refine x_calV (C := R_M) (b := am 0) (As := [.int (xs (i + 1)), .int (xs (i + 2)), .int (xs (i + 3))]) (rest := []) B.1 (c_M_load l g am wo N ch cn f mx th (xs (i + 1)) (xs (i + 2)) (xs (i + 3)) _ ) (xw_M_load (rmk (by decide) (by decide) (by show cells + 1 + 0 ≤ 1037; omega) (by show slots + 6 + 0 ≤ 18246; omega))) tw_230 tw_231 tw_232 (recM hK hPc) (preM hPc hK hDc) hl.1 (Nat.le_of_ble_eq_true rfl) hS hFc rfl d_L_law_131 (fun rv t H1 locs1 hN => ?_) (fun rx t H1 locs1 hN => ?_)
    · obtain ⟨e1, hal, ⟨st, h0, V', M', ch, cn, f, mx, th, hP1, hD1, hv0, x2⟩, hz1, hk1, hS, -⟩ := hN
      cases hv0
      rw [e1] at hP1
      obtain ⟨hP, hD⟩ := va_join (wr := wY g oa ov ax (nF V) (nF M) kn fw pp) (w1 := wM g am (nF V') (nF M') ch cn f mx th) hP hD [0, 1, 2, 3, 4] [5, 6, 7, 8, 9, 10] rfl rfl (by decide) (by decide) hk1 hFc hP1 hD1
      have hP := hP.sub (ws' := wM g am (nF V') (nF M') ch cn f mx th ++ wY g oa ov ax (nF V) (nF M) kn fw pp) [6, 7, 8, 9, 10, 0, 1, 2, 3, 4, 5] rfl
      have hD := hD.sub (ws' := wM g am (nF V') (nF M') ch cn f mx th ++ wY g oa ov ax (nF V) (nF M) kn fw pp) [6, 7, 8, 9, 10, 0, 1, 2, 3, 4, 5] (by decide) rfl
      refine W.eq (g2 := F0 m 134 ls []) rfl ?_
      have hag := ag_load x1 x2
      obtain ⟨hk0, rfl, rfl⟩ := hag
      have hGV : nt_gd V' M' := by
        rcases x1 with ⟨-, rfl, rfl, -⟩ | ⟨-, hld, -⟩
        · exact hG
        · exact hld.gd hG
      refine lv_aload_n hx hb d_L_law_134 rfl (lv_at hl 3 rfl) ?_
      have hPc := hP.sub (ws' := wM g am (nF V') (nF M') ch cn f mx th) [0, 1, 2, 3, 4] rfl
      have hDc := hD.sub (ws' := wM g am (nF V') (nF M') ch cn f mx th) [0, 1, 2, 3, 4] (by decide) rfl
      refine x_pV (C := R_M) (b := am 0) (As := []) (rest := []) B.1 (c_M_thrown l g am (nF V') (nF M') ch cn f mx th _) (xw_M_thrown (rmk (by decide) (by decide) (by show cells + 1 + 0 ≤ 1037; omega) (by show slots + 6 + 0 ≤ 18246; omega))) tw_226 tw_227 tw_228 (recM hK hPc) (preM hPc hK hDc) hl.1 (Nat.le_of_ble_eq_true rfl) hS rfl d_L_law_135 ?_
      refine lv_iload hx hb d_L_law_138 (lv_at hl 0 rfl) ?_
      refine lv_icmp_eq hx hb d_L_law_140 rfl (fun h1 => ?_) (fun h1 => ?_)
      · refine lv_goto hx hb d_L_law_145 rfl ?_
        have hl := lv_sub (l' := [(0, .ref b), (1, .ref (ax 0)), (2, .ref (am 0)), (3, .ref oa), (4, .int (nI i))]) hl [1, 2, 3, 4, 5] rfl
        exact kk V' M' kn fw pp ov ch cn f mx th H1 locs1 ls hGV hkn hP hD hS hl
      · exact absurd hk0 h1
    · obtain ⟨-, -, ⟨st, h0, V', M', ch, cn, f, mx, th, hP1, hD1, hv0, x2⟩, -⟩ := hN
      cases hv0
  · obtain ⟨-, -, ⟨st, h0, V, M, kn, fw, pp, ov, k, hkn, hP1, hD1, hv0, x1⟩, -⟩ := hN
    cases hv0
theorem lc_pay (B : CallFix p m c code 7 s args tb R_L ∧ l.flags = flags0) (hK : gK g s) (hTS : TS A s s.heap) (hA : ∀ q : Nat, s.heap.size ≤ q → A q) (hX : va_X b L xs s s.heap) (hbl : b < s.heap.size) (hbA : ¬ A b) (hL : L ≤ 2048) (hi : i + 4 ≤ L) (hc : cells + 1 ≤ 1037) (hs : slots + 6 ≤ 18246) (hG : nt_gd wo N) (hkn : nt_kn wo N kn fw) (hP : va_P g.1 cl (wM g am (nF wo) (nF N) ch cn f mx th ++ wY g oa ov ax (nF wo) (nF N) kn fw pp) H) (hD : va_D A (wM g am (nF wo) (nF N) ch cn f mx th ++ wY g oa ov ax (nF wo) (nF N) kn fw pp)) (hS : va_S A s.heap H locs) (hl : lv_has ls 7 [(0, .ref b), (1, .ref (ax 0)), (2, .ref (am 0)), (3, .ref oa), (4, .int (nI i))])
    (kk : lwG p l e s m args below meth c g am ax oa A (cells + 1) (slots + 6) Q b i 562) : W p l e room_1 s m args below meth c H locs cells slots Q (F0 m 328 ls []) := by
  obtain ⟨hx, hb, hml, hown, hts⟩ := B.1
  refine lv_aload_n hx hb d_L_law_328 rfl (lv_at hl 1 rfl) ?_
  refine lv_aload_n hx hb d_L_law_329 rfl (lv_at hl 0 rfl) ?_
  refine lv_iload hx hb d_L_law_330 (lv_at hl 4 rfl) ?_
  refine lv_iconst (v := nI 1) hx hb d_L_law_332 (by decide) ?_
  refine n_add hx hb d_L_law_333 ?_
  refine n_sld hx hb hX hbl hbA hS (j := i + 1) (by omega) (by omega) d_L_law_334 ?_
  refine lv_aload_n hx hb d_L_law_335 rfl (lv_at hl 0 rfl) ?_
  refine lv_iload hx hb d_L_law_336 (lv_at hl 4 rfl) ?_
  refine lv_iconst (v := nI 2) hx hb d_L_law_338 (by decide) ?_
  refine n_add hx hb d_L_law_339 ?_
  refine n_sld hx hb hX hbl hbA hS (j := i + 2) (by omega) (by omega) d_L_law_340 ?_
  refine lv_aload_n hx hb d_L_law_341 rfl (lv_at hl 3 rfl) ?_
  have hPc := hP.sub (ws' := wY g oa ov ax (nF wo) (nF N) kn fw pp) [5, 6, 7, 8, 9, 10] rfl
  have hDc := hD.sub (ws' := wY g oa ov ax (nF wo) (nF N) kn fw pp) [5, 6, 7, 8, 9, 10] (by decide) rfl
  have hFc := va_free (wc := wY g oa ov ax (nF wo) (nF N) kn fw pp) hD hS hA [5, 6, 7, 8, 9, 10] rfl
  refine x_calS (As := [.ref (ax 0), .int (xs (i + 1)), .int (xs (i + 2)), .ref oa]) (rest := []) B.1 (c_L_pay l B.2 g oa ov ax wo N kn fw pp (xs (i + 1)) (xs (i + 2)) _ hG hkn) (xw_L_pay (rmk (by decide) (by decide) (by show cells + 1 ≤ 1037; omega) (by show slots + 6 ≤ 18246; omega))) tw_176 tw_177 (preYt hPc hK hDc hTS hS hFc) hl.1 (Nat.le_of_ble_eq_true rfl) hS hFc rfl d_L_law_342 (fun rv t H1 locs1 hN => ?_) (fun rx t H1 locs1 hN => ?_)
  · obtain ⟨e1, hal, ⟨st, h0, M, kn, fw, pp, ov, k, hkn, hGM, hP1, hD1, hv0, x1⟩, hz1, hk1, hS, -⟩ := hN
    cases hv0
    rw [e1] at hP1
    obtain ⟨hP, hD⟩ := va_join (wr := wM g am (nF wo) (nF N) ch cn f mx th) (w1 := wY g oa ov ax (nF wo) (nF M) kn fw pp) hP hD [5, 6, 7, 8, 9, 10] [0, 1, 2, 3, 4] rfl rfl (by decide) (by decide) hk1 hFc hP1 hD1
    refine W.eq (g2 := F0 m 345 ls [.int k]) rfl ?_
    refine lv_istore (lv' := [(5, .int k), (0, .ref b), (1, .ref (ax 0)), (2, .ref (am 0)), (3, .ref oa), (4, .int (nI i))]) hx hb d_L_law_345 hl (by decide) rfl (fun ls hl => ?_)
    refine lv_aload_n hx hb d_L_law_347 rfl (lv_at hl 3 rfl) ?_
    refine lv_aload_n hx hb d_L_law_348 rfl (lv_at hl 1 rfl) ?_
    refine lv_iload hx hb d_L_law_349 (lv_at hl 5 rfl) ?_
    refine lv_iconst (v := nI 1) hx hb d_L_law_351 (by decide) ?_
    refine n_add hx hb d_L_law_352 ?_
    refine n_sld hx hb hX hbl hbA hS (j := i + 1) (by omega) (by omega) d_L_law_353 ?_
    refine lv_aload_n hx hb d_L_law_354 rfl (lv_at hl 1 rfl) ?_
    refine lv_iload hx hb d_L_law_355 (lv_at hl 5 rfl) ?_
    refine lv_iconst (v := nI 2) hx hb d_L_law_357 (by decide) ?_
    refine n_add hx hb d_L_law_358 ?_
    refine n_sld hx hb hX hbl hbA hS (j := i + 2) (by omega) (by omega) d_L_law_359 ?_
    have hPc := hP.sub (ws' := wM g am (nF wo) (nF N) ch cn f mx th) [0, 1, 2, 3, 4] rfl
    have hDc := hD.sub (ws' := wM g am (nF wo) (nF N) ch cn f mx th) [0, 1, 2, 3, 4] (by decide) rfl
    have hFc := va_free (wc := wM g am (nF wo) (nF N) ch cn f mx th) hD hS hA [0, 1, 2, 3, 4] rfl
    refine x_calV (C := R_M) (b := am 0) (As := [.int (xs (i + 1)), .int (xs (i + 2))]) (rest := []) B.1 (c_M_pay l g am wo N ch cn f mx th (xs (i + 1)) (xs (i + 2)) _ hG) (xw_M_pay (rmk (by decide) (by decide) (by show cells + 1 + 0 ≤ 1037; omega) (by show slots + 6 + 0 ≤ 18246; omega))) tw_260 tw_261 tw_262 (recM hK hPc) (preM hPc hK hDc) hl.1 (Nat.le_of_ble_eq_true rfl) hS hFc rfl d_L_law_360 (fun rv t H1 locs1 hN => ?_) (fun rx t H1 locs1 hN => ?_)
    · obtain ⟨e1, hal, ⟨st, h0, M', ch, cn, f, mx, th, r, hP1, hD1, hv0, x2⟩, hz1, hk1, hS, -⟩ := hN
      cases hv0
      rw [e1] at hP1
      obtain ⟨hP, hD⟩ := va_join (wr := wY g oa ov ax (nF wo) (nF M) kn fw pp) (w1 := wM g am (nF wo) (nF M') ch cn f mx th) hP hD [0, 1, 2, 3, 4] [5, 6, 7, 8, 9, 10] rfl rfl (by decide) (by decide) hk1 hFc hP1 hD1
      have hP := hP.sub (ws' := wM g am (nF wo) (nF M') ch cn f mx th ++ wY g oa ov ax (nF wo) (nF M) kn fw pp) [6, 7, 8, 9, 10, 0, 1, 2, 3, 4, 5] rfl
      have hD := hD.sub (ws' := wM g am (nF wo) (nF M') ch cn f mx th ++ wY g oa ov ax (nF wo) (nF M) kn fw pp) [6, 7, 8, 9, 10, 0, 1, 2, 3, 4, 5] (by decide) rfl
      refine W.eq (g2 := F0 m 363 ls [.int r]) rfl ?_
      have hag := ag_pay x1 x2
      obtain ⟨hk0, rfl, hov⟩ := hag
      have hag : th = k ∧ (k = 0 → ov 0 = r.toInt64) := ⟨hk0, hov⟩
      refine lv_istore (lv' := [(6, .int r), (5, .int k), (0, .ref b), (1, .ref (ax 0)), (2, .ref (am 0)), (3, .ref oa), (4, .int (nI i))]) hx hb d_L_law_363 hl (by decide) rfl (fun ls hl => ?_)
      refine lv_aload_n hx hb d_L_law_365 rfl (lv_at hl 4 rfl) ?_
      have hPc := hP.sub (ws' := wM g am (nF wo) (nF M') ch cn f mx th) [0, 1, 2, 3, 4] rfl
      have hDc := hD.sub (ws' := wM g am (nF wo) (nF M') ch cn f mx th) [0, 1, 2, 3, 4] (by decide) rfl
      refine x_pV (C := R_M) (b := am 0) (As := []) (rest := []) B.1 (c_M_thrown l g am (nF wo) (nF M') ch cn f mx th _) (xw_M_thrown (rmk (by decide) (by decide) (by show cells + 1 + 0 ≤ 1037; omega) (by show slots + 6 + 0 ≤ 18246; omega))) tw_226 tw_227 tw_228 (recM hK hPc) (preM hPc hK hDc) hl.1 (Nat.le_of_ble_eq_true rfl) hS rfl d_L_law_366 ?_
      refine lv_iload hx hb d_L_law_369 (lv_at hl 1 rfl) ?_
      refine lv_icmp_eq hx hb d_L_law_371 rfl (fun h1 => ?_) (fun h1 => ?_)
      · refine lv_iload hx hb d_L_law_376 (lv_at hl 1 rfl) ?_
        refine lv_if_ne hx hb d_L_law_378 rfl (fun h2 => ?_) (fun h2 => ?_)
        · refine lv_goto hx hb d_L_law_393 rfl ?_
          have hl := lv_sub (l' := [(0, .ref b), (1, .ref (ax 0)), (2, .ref (am 0)), (3, .ref oa), (4, .int (nI i))]) hl [2, 3, 4, 5, 6] rfl
          exact kk wo M' kn fw pp ov ch cn f mx th H1 locs1 ls hGM hkn hP hD hS hl
        · refine lv_aload_n hx hb d_L_law_381 rfl (lv_at hl 5 rfl) ?_
          refine lv_iconst (v := nI 0) hx hb d_L_law_382 (by decide) ?_
          refine n_lald hx hb hK hP 5 rfl (by omega) (by decide) d_L_law_383 ?_
          refine lv_iload hx hb d_L_law_384 (lv_at hl 0 rfl) ?_
          refine lv_i2l (v := r.toInt64) hx hb d_L_law_386 rfl ?_
          refine W.lcmp hx hb d_L_law_387 ?_
          refine lv_if_eq hx hb d_L_law_388 rfl (fun h3 => ?_) (fun h3 => ?_)
          · refine lv_goto hx hb d_L_law_393 rfl ?_
            have hl := lv_sub (l' := [(0, .ref b), (1, .ref (ax 0)), (2, .ref (am 0)), (3, .ref oa), (4, .int (nI i))]) hl [2, 3, 4, 5, 6] rfl
            exact kk wo M' kn fw pp ov ch cn f mx th H1 locs1 ls hGM hkn hP hD hS hl
          · exact absurd ((lg_cmp_eq _ _).mpr (hag.2 h2)) h3
      · exact absurd hag.1 h1
    · obtain ⟨-, -, ⟨st, h0, M', ch, cn, f, mx, th, r, hP1, hD1, hv0, x2⟩, -⟩ := hN
      cases hv0
  · obtain ⟨-, -, ⟨st, h0, M, kn, fw, pp, ov, k, hkn, hGM, hP1, hD1, hv0, x1⟩, -⟩ := hN
    cases hv0
theorem lc_cassette (B : CallFix p m c code 7 s args tb R_L ∧ l.flags = flags0) (hK : gK g s) (hTS : TS A s s.heap) (hA : ∀ q : Nat, s.heap.size ≤ q → A q) (hX : va_X b L xs s s.heap) (hbl : b < s.heap.size) (hbA : ¬ A b) (hL : L ≤ 2048) (hi : i + 4 ≤ L) (hc : cells + 1 ≤ 1037) (hs : slots + 6 ≤ 18246) (hG : nt_gd wo N) (hkn : nt_kn wo N kn fw) (hP : va_P g.1 cl (wM g am (nF wo) (nF N) ch cn f mx th ++ wY g oa ov ax (nF wo) (nF N) kn fw pp) H) (hD : va_D A (wM g am (nF wo) (nF N) ch cn f mx th ++ wY g oa ov ax (nF wo) (nF N) kn fw pp)) (hS : va_S A s.heap H locs) (hl : lv_has ls 7 [(0, .ref b), (1, .ref (ax 0)), (2, .ref (am 0)), (3, .ref oa), (4, .int (nI i))])
    (kk : lwG p l e s m args below meth c g am ax oa A (cells + 1) (slots + 6) Q b i 562) : W p l e room_1 s m args below meth c H locs cells slots Q (F0 m 465 ls []) := by
  obtain ⟨hx, hb, hml, hown, hts⟩ := B.1
  refine lv_aload_n hx hb d_L_law_465 rfl (lv_at hl 1 rfl) ?_
  refine lv_aload_n hx hb d_L_law_466 rfl (lv_at hl 0 rfl) ?_
  refine lv_iload hx hb d_L_law_467 (lv_at hl 4 rfl) ?_
  refine lv_iconst (v := nI 1) hx hb d_L_law_469 (by decide) ?_
  refine n_add hx hb d_L_law_470 ?_
  refine n_sld hx hb hX hbl hbA hS (j := i + 1) (by omega) (by omega) d_L_law_471 ?_
  refine lv_aload_n hx hb d_L_law_472 rfl (lv_at hl 0 rfl) ?_
  refine lv_iload hx hb d_L_law_473 (lv_at hl 4 rfl) ?_
  refine lv_iconst (v := nI 2) hx hb d_L_law_475 (by decide) ?_
  refine n_add hx hb d_L_law_476 ?_
  refine n_sld hx hb hX hbl hbA hS (j := i + 2) (by omega) (by omega) d_L_law_477 ?_
  refine lv_if_eq hx hb d_L_law_478 rfl (fun hz0 => ?_) (fun hz0 => ?_)
  · refine lv_iconst (v := nI 0) hx hb d_L_law_485 (by decide) ?_
    refine lv_aload_n hx hb d_L_law_486 rfl (lv_at hl 3 rfl) ?_
    have hPc := hP.sub (ws' := wY g oa ov ax (nF wo) (nF N) kn fw pp) [5, 6, 7, 8, 9, 10] rfl
    have hDc := hD.sub (ws' := wY g oa ov ax (nF wo) (nF N) kn fw pp) [5, 6, 7, 8, 9, 10] (by decide) rfl
    have hFc := va_free (wc := wY g oa ov ax (nF wo) (nF N) kn fw pp) hD hS hA [5, 6, 7, 8, 9, 10] rfl
    refine x_calS (As := [.ref (ax 0), .int (xs (i + 1)), .int (nI 0), .ref oa]) (rest := []) B.1 (c_L_cassette l B.2 g oa ov ax wo N kn fw pp (xs (i + 1)) (nI 0) _ hkn) (xw_L_cassette (rmk (by decide) (by decide) (by show cells + 1 ≤ 1037; omega) (by show slots + 6 ≤ 18246; omega))) tw_190 tw_191 (preYt hPc hK hDc hTS hS hFc) hl.1 (Nat.le_of_ble_eq_true rfl) hS hFc rfl d_L_law_487 (fun rv t H1 locs1 hN => ?_) (fun rx t H1 locs1 hN => ?_)
    · obtain ⟨e1, hal, ⟨st, h0, kn, fw, pp, ov, k, hkn, hP1, hD1, hv0, x1⟩, hz1, hk1, hS, -⟩ := hN
      cases hv0
      rw [e1] at hP1
      obtain ⟨hP, hD⟩ := va_join (wr := wM g am (nF wo) (nF N) ch cn f mx th) (w1 := wY g oa ov ax (nF wo) (nF N) kn fw pp) hP hD [5, 6, 7, 8, 9, 10] [0, 1, 2, 3, 4] rfl rfl (by decide) (by decide) hk1 hFc hP1 hD1
      refine W.eq (g2 := F0 m 490 ls [.int k]) rfl ?_
      refine lv_istore (lv' := [(5, .int k), (0, .ref b), (1, .ref (ax 0)), (2, .ref (am 0)), (3, .ref oa), (4, .int (nI i))]) hx hb d_L_law_490 hl (by decide) rfl (fun ls hl => ?_)
      refine lv_aload_n hx hb d_L_law_492 rfl (lv_at hl 3 rfl) ?_
      refine lv_aload_n hx hb d_L_law_493 rfl (lv_at hl 1 rfl) ?_
      refine lv_iload hx hb d_L_law_494 (lv_at hl 5 rfl) ?_
      refine lv_iconst (v := nI 1) hx hb d_L_law_496 (by decide) ?_
      refine n_add hx hb d_L_law_497 ?_
      refine n_sld hx hb hX hbl hbA hS (j := i + 1) (by omega) (by omega) d_L_law_498 ?_
      refine lv_aload_n hx hb d_L_law_499 rfl (lv_at hl 1 rfl) ?_
      refine lv_iload hx hb d_L_law_500 (lv_at hl 5 rfl) ?_
      refine lv_iconst (v := nI 2) hx hb d_L_law_502 (by decide) ?_
      refine n_add hx hb d_L_law_503 ?_
      refine n_sld hx hb hX hbl hbA hS (j := i + 2) (by omega) (by omega) d_L_law_504 ?_
      refine lv_if_eq hx hb d_L_law_505 rfl (fun h00 => ?_) (fun h00 => ?_)
      · refine lv_iconst (v := nI 0) hx hb d_L_law_512 (by decide) ?_
        have hPc := hP.sub (ws' := wM g am (nF wo) (nF N) ch cn f mx th) [0, 1, 2, 3, 4] rfl
        have hDc := hD.sub (ws' := wM g am (nF wo) (nF N) ch cn f mx th) [0, 1, 2, 3, 4] (by decide) rfl
        have hFc := va_free (wc := wM g am (nF wo) (nF N) ch cn f mx th) hD hS hA [0, 1, 2, 3, 4] rfl
        refine x_calV (C := R_M) (b := am 0) (As := [.int (xs (i + 1)), .int (nI 0)]) (rest := []) B.1 (c_M_cassette l g am wo N ch cn f mx th (xs (i + 1)) (nI 0) _ ) (xw_M_cassette (rmk (by decide) (by decide) (by show cells + 1 + 0 ≤ 1037; omega) (by show slots + 6 + 0 ≤ 18246; omega))) tw_276 tw_277 tw_278 (recM hK hPc) (preM hPc hK hDc) hl.1 (Nat.le_of_ble_eq_true rfl) hS hFc rfl d_L_law_513 (fun rv t H1 locs1 hN => ?_) (fun rx t H1 locs1 hN => ?_)
        · obtain ⟨e1, hal, ⟨st, h0, ch, cn, f, mx, th, r, hP1, hD1, hv0, x2⟩, hz1, hk1, hS, -⟩ := hN
          cases hv0
          rw [e1] at hP1
          obtain ⟨hP, hD⟩ := va_join (wr := wY g oa ov ax (nF wo) (nF N) kn fw pp) (w1 := wM g am (nF wo) (nF N) ch cn f mx th) hP hD [0, 1, 2, 3, 4] [5, 6, 7, 8, 9, 10] rfl rfl (by decide) (by decide) hk1 hFc hP1 hD1
          have hP := hP.sub (ws' := wM g am (nF wo) (nF N) ch cn f mx th ++ wY g oa ov ax (nF wo) (nF N) kn fw pp) [6, 7, 8, 9, 10, 0, 1, 2, 3, 4, 5] rfl
          have hD := hD.sub (ws' := wM g am (nF wo) (nF N) ch cn f mx th ++ wY g oa ov ax (nF wo) (nF N) kn fw pp) [6, 7, 8, 9, 10, 0, 1, 2, 3, 4, 5] (by decide) rfl
          refine W.eq (g2 := F0 m 516 ls [.int r]) rfl ?_
          have hag := ag_cassette x1 x2
          refine lv_istore (lv' := [(6, .int r), (5, .int k), (0, .ref b), (1, .ref (ax 0)), (2, .ref (am 0)), (3, .ref oa), (4, .int (nI i))]) hx hb d_L_law_516 hl (by decide) rfl (fun ls hl => ?_)
          refine lv_aload_n hx hb d_L_law_518 rfl (lv_at hl 4 rfl) ?_
          have hPc := hP.sub (ws' := wM g am (nF wo) (nF N) ch cn f mx th) [0, 1, 2, 3, 4] rfl
          have hDc := hD.sub (ws' := wM g am (nF wo) (nF N) ch cn f mx th) [0, 1, 2, 3, 4] (by decide) rfl
          refine x_pV (C := R_M) (b := am 0) (As := []) (rest := []) B.1 (c_M_thrown l g am (nF wo) (nF N) ch cn f mx th _) (xw_M_thrown (rmk (by decide) (by decide) (by show cells + 1 + 0 ≤ 1037; omega) (by show slots + 6 + 0 ≤ 18246; omega))) tw_226 tw_227 tw_228 (recM hK hPc) (preM hPc hK hDc) hl.1 (Nat.le_of_ble_eq_true rfl) hS rfl d_L_law_519 ?_
          refine lv_iload hx hb d_L_law_522 (lv_at hl 1 rfl) ?_
          refine lv_icmp_eq hx hb d_L_law_524 rfl (fun h1 => ?_) (fun h1 => ?_)
          · refine lv_iload hx hb d_L_law_529 (lv_at hl 1 rfl) ?_
            refine lv_if_ne hx hb d_L_law_531 rfl (fun h2 => ?_) (fun h2 => ?_)
            · refine lv_goto hx hb d_L_law_546 rfl ?_
              have hl := lv_sub (l' := [(0, .ref b), (1, .ref (ax 0)), (2, .ref (am 0)), (3, .ref oa), (4, .int (nI i))]) hl [2, 3, 4, 5, 6] rfl
              exact kk wo N kn fw pp ov ch cn f mx th H1 locs1 ls hG hkn hP hD hS hl
            · refine lv_aload_n hx hb d_L_law_534 rfl (lv_at hl 5 rfl) ?_
              refine lv_iconst (v := nI 0) hx hb d_L_law_535 (by decide) ?_
              refine n_lald hx hb hK hP 5 rfl (by omega) (by decide) d_L_law_536 ?_
              refine lv_iload hx hb d_L_law_537 (lv_at hl 0 rfl) ?_
              refine lv_i2l (v := r.toInt64) hx hb d_L_law_539 rfl ?_
              refine W.lcmp hx hb d_L_law_540 ?_
              refine lv_if_eq hx hb d_L_law_541 rfl (fun h3 => ?_) (fun h3 => ?_)
              · refine lv_goto hx hb d_L_law_546 rfl ?_
                have hl := lv_sub (l' := [(0, .ref b), (1, .ref (ax 0)), (2, .ref (am 0)), (3, .ref oa), (4, .int (nI i))]) hl [2, 3, 4, 5, 6] rfl
                exact kk wo N kn fw pp ov ch cn f mx th H1 locs1 ls hG hkn hP hD hS hl
              · exact absurd ((lg_cmp_eq _ _).mpr (hag.2 h2)) h3
          · exact absurd hag.1 h1
        · obtain ⟨-, -, ⟨st, h0, ch, cn, f, mx, th, r, hP1, hD1, hv0, x2⟩, -⟩ := hN
          cases hv0
      · exact absurd hz0 h00
    · obtain ⟨-, -, ⟨st, h0, kn, fw, pp, ov, k, hkn, hP1, hD1, hv0, x1⟩, -⟩ := hN
      cases hv0
  · refine lv_iconst (v := nI 1) hx hb d_L_law_481 (by decide) ?_
    refine lv_goto hx hb d_L_law_482 rfl ?_
    refine lv_aload_n hx hb d_L_law_486 rfl (lv_at hl 3 rfl) ?_
    have hPc := hP.sub (ws' := wY g oa ov ax (nF wo) (nF N) kn fw pp) [5, 6, 7, 8, 9, 10] rfl
    have hDc := hD.sub (ws' := wY g oa ov ax (nF wo) (nF N) kn fw pp) [5, 6, 7, 8, 9, 10] (by decide) rfl
    have hFc := va_free (wc := wY g oa ov ax (nF wo) (nF N) kn fw pp) hD hS hA [5, 6, 7, 8, 9, 10] rfl
    refine x_calS (As := [.ref (ax 0), .int (xs (i + 1)), .int (nI 1), .ref oa]) (rest := []) B.1 (c_L_cassette l B.2 g oa ov ax wo N kn fw pp (xs (i + 1)) (nI 1) _ hkn) (xw_L_cassette (rmk (by decide) (by decide) (by show cells + 1 ≤ 1037; omega) (by show slots + 6 ≤ 18246; omega))) tw_190 tw_191 (preYt hPc hK hDc hTS hS hFc) hl.1 (Nat.le_of_ble_eq_true rfl) hS hFc rfl d_L_law_487 (fun rv t H1 locs1 hN => ?_) (fun rx t H1 locs1 hN => ?_)
    · obtain ⟨e1, hal, ⟨st, h0, kn, fw, pp, ov, k, hkn, hP1, hD1, hv0, x1⟩, hz1, hk1, hS, -⟩ := hN
      cases hv0
      rw [e1] at hP1
      obtain ⟨hP, hD⟩ := va_join (wr := wM g am (nF wo) (nF N) ch cn f mx th) (w1 := wY g oa ov ax (nF wo) (nF N) kn fw pp) hP hD [5, 6, 7, 8, 9, 10] [0, 1, 2, 3, 4] rfl rfl (by decide) (by decide) hk1 hFc hP1 hD1
      refine W.eq (g2 := F0 m 490 ls [.int k]) rfl ?_
      refine lv_istore (lv' := [(5, .int k), (0, .ref b), (1, .ref (ax 0)), (2, .ref (am 0)), (3, .ref oa), (4, .int (nI i))]) hx hb d_L_law_490 hl (by decide) rfl (fun ls hl => ?_)
      refine lv_aload_n hx hb d_L_law_492 rfl (lv_at hl 3 rfl) ?_
      refine lv_aload_n hx hb d_L_law_493 rfl (lv_at hl 1 rfl) ?_
      refine lv_iload hx hb d_L_law_494 (lv_at hl 5 rfl) ?_
      refine lv_iconst (v := nI 1) hx hb d_L_law_496 (by decide) ?_
      refine n_add hx hb d_L_law_497 ?_
      refine n_sld hx hb hX hbl hbA hS (j := i + 1) (by omega) (by omega) d_L_law_498 ?_
      refine lv_aload_n hx hb d_L_law_499 rfl (lv_at hl 1 rfl) ?_
      refine lv_iload hx hb d_L_law_500 (lv_at hl 5 rfl) ?_
      refine lv_iconst (v := nI 2) hx hb d_L_law_502 (by decide) ?_
      refine n_add hx hb d_L_law_503 ?_
      refine n_sld hx hb hX hbl hbA hS (j := i + 2) (by omega) (by omega) d_L_law_504 ?_
      refine lv_if_eq hx hb d_L_law_505 rfl (fun h00 => ?_) (fun h00 => ?_)
      · exact absurd h00 hz0
      · refine lv_iconst (v := nI 1) hx hb d_L_law_508 (by decide) ?_
        refine lv_goto hx hb d_L_law_509 rfl ?_
        have hPc := hP.sub (ws' := wM g am (nF wo) (nF N) ch cn f mx th) [0, 1, 2, 3, 4] rfl
        have hDc := hD.sub (ws' := wM g am (nF wo) (nF N) ch cn f mx th) [0, 1, 2, 3, 4] (by decide) rfl
        have hFc := va_free (wc := wM g am (nF wo) (nF N) ch cn f mx th) hD hS hA [0, 1, 2, 3, 4] rfl
        refine x_calV (C := R_M) (b := am 0) (As := [.int (xs (i + 1)), .int (nI 1)]) (rest := []) B.1 (c_M_cassette l g am wo N ch cn f mx th (xs (i + 1)) (nI 1) _ ) (xw_M_cassette (rmk (by decide) (by decide) (by show cells + 1 + 0 ≤ 1037; omega) (by show slots + 6 + 0 ≤ 18246; omega))) tw_276 tw_277 tw_278 (recM hK hPc) (preM hPc hK hDc) hl.1 (Nat.le_of_ble_eq_true rfl) hS hFc rfl d_L_law_513 (fun rv t H1 locs1 hN => ?_) (fun rx t H1 locs1 hN => ?_)
        · obtain ⟨e1, hal, ⟨st, h0, ch, cn, f, mx, th, r, hP1, hD1, hv0, x2⟩, hz1, hk1, hS, -⟩ := hN
          cases hv0
          rw [e1] at hP1
          obtain ⟨hP, hD⟩ := va_join (wr := wY g oa ov ax (nF wo) (nF N) kn fw pp) (w1 := wM g am (nF wo) (nF N) ch cn f mx th) hP hD [0, 1, 2, 3, 4] [5, 6, 7, 8, 9, 10] rfl rfl (by decide) (by decide) hk1 hFc hP1 hD1
          have hP := hP.sub (ws' := wM g am (nF wo) (nF N) ch cn f mx th ++ wY g oa ov ax (nF wo) (nF N) kn fw pp) [6, 7, 8, 9, 10, 0, 1, 2, 3, 4, 5] rfl
          have hD := hD.sub (ws' := wM g am (nF wo) (nF N) ch cn f mx th ++ wY g oa ov ax (nF wo) (nF N) kn fw pp) [6, 7, 8, 9, 10, 0, 1, 2, 3, 4, 5] (by decide) rfl
          refine W.eq (g2 := F0 m 516 ls [.int r]) rfl ?_
          have hag := ag_cassette x1 x2
          refine lv_istore (lv' := [(6, .int r), (5, .int k), (0, .ref b), (1, .ref (ax 0)), (2, .ref (am 0)), (3, .ref oa), (4, .int (nI i))]) hx hb d_L_law_516 hl (by decide) rfl (fun ls hl => ?_)
          refine lv_aload_n hx hb d_L_law_518 rfl (lv_at hl 4 rfl) ?_
          have hPc := hP.sub (ws' := wM g am (nF wo) (nF N) ch cn f mx th) [0, 1, 2, 3, 4] rfl
          have hDc := hD.sub (ws' := wM g am (nF wo) (nF N) ch cn f mx th) [0, 1, 2, 3, 4] (by decide) rfl
          refine x_pV (C := R_M) (b := am 0) (As := []) (rest := []) B.1 (c_M_thrown l g am (nF wo) (nF N) ch cn f mx th _) (xw_M_thrown (rmk (by decide) (by decide) (by show cells + 1 + 0 ≤ 1037; omega) (by show slots + 6 + 0 ≤ 18246; omega))) tw_226 tw_227 tw_228 (recM hK hPc) (preM hPc hK hDc) hl.1 (Nat.le_of_ble_eq_true rfl) hS rfl d_L_law_519 ?_
          refine lv_iload hx hb d_L_law_522 (lv_at hl 1 rfl) ?_
          refine lv_icmp_eq hx hb d_L_law_524 rfl (fun h1 => ?_) (fun h1 => ?_)
          · refine lv_iload hx hb d_L_law_529 (lv_at hl 1 rfl) ?_
            refine lv_if_ne hx hb d_L_law_531 rfl (fun h2 => ?_) (fun h2 => ?_)
            · refine lv_goto hx hb d_L_law_546 rfl ?_
              have hl := lv_sub (l' := [(0, .ref b), (1, .ref (ax 0)), (2, .ref (am 0)), (3, .ref oa), (4, .int (nI i))]) hl [2, 3, 4, 5, 6] rfl
              exact kk wo N kn fw pp ov ch cn f mx th H1 locs1 ls hG hkn hP hD hS hl
            · refine lv_aload_n hx hb d_L_law_534 rfl (lv_at hl 5 rfl) ?_
              refine lv_iconst (v := nI 0) hx hb d_L_law_535 (by decide) ?_
              refine n_lald hx hb hK hP 5 rfl (by omega) (by decide) d_L_law_536 ?_
              refine lv_iload hx hb d_L_law_537 (lv_at hl 0 rfl) ?_
              refine lv_i2l (v := r.toInt64) hx hb d_L_law_539 rfl ?_
              refine W.lcmp hx hb d_L_law_540 ?_
              refine lv_if_eq hx hb d_L_law_541 rfl (fun h3 => ?_) (fun h3 => ?_)
              · refine lv_goto hx hb d_L_law_546 rfl ?_
                have hl := lv_sub (l' := [(0, .ref b), (1, .ref (ax 0)), (2, .ref (am 0)), (3, .ref oa), (4, .int (nI i))]) hl [2, 3, 4, 5, 6] rfl
                exact kk wo N kn fw pp ov ch cn f mx th H1 locs1 ls hG hkn hP hD hS hl
              · exact absurd ((lg_cmp_eq _ _).mpr (hag.2 h2)) h3
          · exact absurd hag.1 h1
        · obtain ⟨-, -, ⟨st, h0, ch, cn, f, mx, th, r, hP1, hD1, hv0, x2⟩, -⟩ := hN
          cases hv0
    · obtain ⟨-, -, ⟨st, h0, kn, fw, pp, ov, k, hkn, hP1, hD1, hv0, x1⟩, -⟩ := hN
      cases hv0
theorem lc_reach (B : CallFix p m c code 7 s args tb R_L ∧ l.flags = flags0) (hK : gK g s) (hTS : TS A s s.heap) (hA : ∀ q : Nat, s.heap.size ≤ q → A q) (hX : va_X b L xs s s.heap) (hbl : b < s.heap.size) (hbA : ¬ A b) (hL : L ≤ 2048) (hi : i + 4 ≤ L) (hc : cells + 1 ≤ 1037) (hs : slots + 6 ≤ 18246) (hG : nt_gd wo N) (hkn : nt_kn wo N kn fw) (hP : va_P g.1 cl (wM g am (nF wo) (nF N) ch cn f mx th ++ wY g oa ov ax (nF wo) (nF N) kn fw pp) H) (hD : va_D A (wM g am (nF wo) (nF N) ch cn f mx th ++ wY g oa ov ax (nF wo) (nF N) kn fw pp)) (hS : va_S A s.heap H locs) (hl : lv_has ls 7 [(0, .ref b), (1, .ref (ax 0)), (2, .ref (am 0)), (3, .ref oa), (4, .int (nI i))])
    (kk : lwG p l e s m args below meth c g am ax oa A (cells + 1) (slots + 6) Q b i 562) : W p l e room_1 s m args below meth c H locs cells slots Q (F0 m 452 ls []) := by
  obtain ⟨hx, hb, hml, hown, hts⟩ := B.1
  refine lv_aload_n hx hb d_L_law_452 rfl (lv_at hl 1 rfl) ?_
  have hPc := hP.sub (ws' := wX g ax (nF wo) (nF N) kn fw pp) [6, 7, 8, 9, 10] rfl
  have hDc := hD.sub (ws' := wX g ax (nF wo) (nF N) kn fw pp) [6, 7, 8, 9, 10] (by decide) rfl
  have hFc := va_free (wc := wX g ax (nF wo) (nF N) kn fw pp) hD hS hA [6, 7, 8, 9, 10] rfl
  refine x_calV (C := R_X) (b := ax 0) (As := []) (rest := []) B.1 (c_X_reach l g ax wo N kn fw pp _ hG hkn) (xw_X_reach (rmk (by decide) (by decide) (by show cells + 0 ≤ 1037; omega) (by show slots + 0 ≤ 18246; omega))) tw_35 tw_36 tw_37 (recX hK hPc) (preX hPc hK hDc) hl.1 (Nat.le_of_ble_eq_true rfl) hS hFc rfl d_L_law_453 (fun rv t H1 locs1 hN => ?_) (fun rx t H1 locs1 hN => ?_)
  · obtain ⟨e1, hal, ⟨st, h0, hv0, fw, hkn, hP1, hD1⟩, hz1, hk1, hS, -⟩ := hN
    cases hv0
    rw [e1] at hP1
    obtain ⟨hP, hD⟩ := va_join (wr := wM g am (nF wo) (nF N) ch cn f mx th ++ [wO g oa ov]) (w1 := wX g ax (nF wo) (nF N) 1 fw pp) hP hD [6, 7, 8, 9, 10] [0, 1, 2, 3, 4, 5] rfl rfl (by decide) (by decide) hk1 hFc hP1 hD1
    obtain ⟨kn, hkn1⟩ : ∃ kn, kn = (1 : Int32) := ⟨_, rfl⟩
    rw [← hkn1] at hP hD hkn
    have hP : va_P g.1 cl (wM g am (nF wo) (nF N) ch cn f mx th ++ wY g oa ov ax (nF wo) (nF N) kn fw pp) H1 := hP
    have hD : va_D A (wM g am (nF wo) (nF N) ch cn f mx th ++ wY g oa ov ax (nF wo) (nF N) kn fw pp) := hD
    refine W.eq (g2 := F0 m 456 ls [.int (nI (nt_sm (nt_hs wo N) 2001))]) rfl ?_
    refine lv_aload_n hx hb d_L_law_456 rfl (lv_at hl 2 rfl) ?_
    have hPc := hP.sub (ws' := wM g am (nF wo) (nF N) ch cn f mx th) [0, 1, 2, 3, 4] rfl
    have hDc := hD.sub (ws' := wM g am (nF wo) (nF N) ch cn f mx th) [0, 1, 2, 3, 4] (by decide) rfl
    have hFc := va_free (wc := wM g am (nF wo) (nF N) ch cn f mx th) hD hS hA [0, 1, 2, 3, 4] rfl
    refine x_calV (C := R_M) (b := am 0) (As := []) (rest := [.int (nI (nt_sm (nt_hs wo N) 2001))]) B.1 (c_M_reach l g am wo N ch cn f mx th  _ hG) (xw_M_reach (rmk (by decide) (by decide) (by show cells + 0 + 0 ≤ 1037; omega) (by show slots + 0 + 0 ≤ 18246; omega))) tw_272 tw_273 tw_274 (recM hK hPc) (preM hPc hK hDc) hl.1 (Nat.le_of_ble_eq_true rfl) hS hFc rfl d_L_law_457 (fun rv t H1 locs1 hN => ?_) (fun rx t H1 locs1 hN => ?_)
    · obtain ⟨e1, hal, ⟨st, h0, hv0, ch, cn, f, mx, th, hP1, hD1⟩, hz1, hk1, hS, -⟩ := hN
      cases hv0
      rw [e1] at hP1
      obtain ⟨hP, hD⟩ := va_join (wr := wY g oa ov ax (nF wo) (nF N) kn fw pp) (w1 := wM g am (nF wo) (nF N) ch cn f mx th) hP hD [0, 1, 2, 3, 4] [5, 6, 7, 8, 9, 10] rfl rfl (by decide) (by decide) hk1 hFc hP1 hD1
      have hP := hP.sub (ws' := wM g am (nF wo) (nF N) ch cn f mx th ++ wY g oa ov ax (nF wo) (nF N) kn fw pp) [6, 7, 8, 9, 10, 0, 1, 2, 3, 4, 5] rfl
      have hD := hD.sub (ws' := wM g am (nF wo) (nF N) ch cn f mx th ++ wY g oa ov ax (nF wo) (nF N) kn fw pp) [6, 7, 8, 9, 10, 0, 1, 2, 3, 4, 5] (by decide) rfl
      refine W.eq (g2 := F0 m 460 ls [.int (nI (nt_sm (nt_hs wo N) 2001)), .int (nI (nt_sm (nt_hs wo N) 2001))]) rfl ?_
      refine lv_icmp_eq hx hb d_L_law_460 rfl (fun h1 => ?_) (fun h1 => ?_)
      · refine W.widen (k := cells + 1) (n := slots + 6) (by show cells + 0 + 0 ≤ cells + 1; omega) (by show slots + 0 + 0 ≤ slots + 6; omega) ?_
        have hl := lv_sub (l' := [(0, .ref b), (1, .ref (ax 0)), (2, .ref (am 0)), (3, .ref oa), (4, .int (nI i))]) hl [0, 1, 2, 3, 4] rfl
        exact kk wo N kn fw pp ov ch cn f mx th H1 locs1 ls hG hkn hP hD hS hl
      · exact absurd rfl h1
    · obtain ⟨-, -, ⟨st, h0, hv0, ch, cn, f, mx, th, hP1, hD1⟩, -⟩ := hN
      cases hv0
  · obtain ⟨-, -, ⟨st, h0, hv0, -⟩, -⟩ := hN
    cases hv0
theorem lc_value (B : CallFix p m c code 7 s args tb R_L ∧ l.flags = flags0) (hK : gK g s) (hTS : TS A s s.heap) (hA : ∀ q : Nat, s.heap.size ≤ q → A q) (hX : va_X b L xs s s.heap) (hbl : b < s.heap.size) (hbA : ¬ A b) (hL : L ≤ 2048) (hi : i + 4 ≤ L) (hc : cells + 1 ≤ 1037) (hs : slots + 6 ≤ 18246) (hG : nt_gd wo N) (hkn : nt_kn wo N kn fw) (hP : va_P g.1 cl (wM g am (nF wo) (nF N) ch cn f mx th ++ wY g oa ov ax (nF wo) (nF N) kn fw pp) H) (hD : va_D A (wM g am (nF wo) (nF N) ch cn f mx th ++ wY g oa ov ax (nF wo) (nF N) kn fw pp)) (hS : va_S A s.heap H locs) (hl : lv_has ls 7 [(0, .ref b), (1, .ref (ax 0)), (2, .ref (am 0)), (3, .ref oa), (4, .int (nI i))])
    (kk : lwG p l e s m args below meth c g am ax oa A (cells + 1) (slots + 6) Q b i 562) : W p l e room_1 s m args below meth c H locs cells slots Q (F0 m 549 ls []) := by
  obtain ⟨hx, hb, hml, hown, hts⟩ := B.1
  refine lv_aload_n hx hb d_L_law_549 rfl (lv_at hl 1 rfl) ?_
  have hPc := hP.sub (ws' := wX g ax (nF wo) (nF N) kn fw pp) [6, 7, 8, 9, 10] rfl
  have hDc := hD.sub (ws' := wX g ax (nF wo) (nF N) kn fw pp) [6, 7, 8, 9, 10] (by decide) rfl
  refine x_pV (C := R_X) (b := ax 0) (As := []) (rest := []) B.1 (c_X_value l g ax wo N kn fw pp _) (xw_X_value (rmk (by decide) (by decide) (by show cells + 0 ≤ 1037; omega) (by show slots + 0 ≤ 18246; omega))) tw_47 tw_48 tw_49 (recX hK hPc) (preX hPc hK hDc) hl.1 (Nat.le_of_ble_eq_true rfl) hS rfl d_L_law_550 ?_
  refine lv_aload_n hx hb d_L_law_553 rfl (lv_at hl 2 rfl) ?_
  have hPc := hP.sub (ws' := wM g am (nF wo) (nF N) ch cn f mx th) [0, 1, 2, 3, 4] rfl
  have hDc := hD.sub (ws' := wM g am (nF wo) (nF N) ch cn f mx th) [0, 1, 2, 3, 4] (by decide) rfl
  have hFc := va_free (wc := wM g am (nF wo) (nF N) ch cn f mx th) hD hS hA [0, 1, 2, 3, 4] rfl
  refine x_calV (C := R_M) (b := am 0) (As := []) (rest := [.int (nt_vl wo N 4)]) B.1 (c_M_value l g am wo N ch cn f mx th  _ ) (xw_M_value (rmk (by decide) (by decide) (by show cells + 0 ≤ 1037; omega) (by show slots + 0 ≤ 18246; omega))) tw_280 tw_281 tw_282 (recM hK hPc) (preM hPc hK hDc) hl.1 (Nat.le_of_ble_eq_true rfl) hS hFc rfl d_L_law_554 (fun rv t H1 locs1 hN => ?_) (fun rx t H1 locs1 hN => ?_)
  · obtain ⟨e1, hal, ⟨st, h0, hv0, ch, cn, f, mx, th, hP1, hD1⟩, hz1, hk1, hS, -⟩ := hN
    cases hv0
    rw [e1] at hP1
    obtain ⟨hP, hD⟩ := va_join (wr := wY g oa ov ax (nF wo) (nF N) kn fw pp) (w1 := wM g am (nF wo) (nF N) ch cn f mx th) hP hD [0, 1, 2, 3, 4] [5, 6, 7, 8, 9, 10] rfl rfl (by decide) (by decide) hk1 hFc hP1 hD1
    have hP := hP.sub (ws' := wM g am (nF wo) (nF N) ch cn f mx th ++ wY g oa ov ax (nF wo) (nF N) kn fw pp) [6, 7, 8, 9, 10, 0, 1, 2, 3, 4, 5] rfl
    have hD := hD.sub (ws' := wM g am (nF wo) (nF N) ch cn f mx th ++ wY g oa ov ax (nF wo) (nF N) kn fw pp) [6, 7, 8, 9, 10, 0, 1, 2, 3, 4, 5] (by decide) rfl
    refine W.eq (g2 := F0 m 557 ls [.int (nt_vl wo N 4), .int (nt_vl wo N 4)]) rfl ?_
    refine lv_icmp_eq hx hb d_L_law_557 rfl (fun h1 => ?_) (fun h1 => ?_)
    · refine W.widen (k := cells + 1) (n := slots + 6) (by show cells + 0 ≤ cells + 1; omega) (by show slots + 0 ≤ slots + 6; omega) ?_
      have hl := lv_sub (l' := [(0, .ref b), (1, .ref (ax 0)), (2, .ref (am 0)), (3, .ref oa), (4, .int (nI i))]) hl [0, 1, 2, 3, 4] rfl
      exact kk wo N kn fw pp ov ch cn f mx th H1 locs1 ls hG hkn hP hD hS hl
    · exact absurd rfl h1
  · obtain ⟨-, -, ⟨st, h0, hv0, ch, cn, f, mx, th, hP1, hD1⟩, -⟩ := hN
    cases hv0
end LCS
end
section
/-! the law: its loop -/
theorem lp_go {L i : Nat} (hL : L ≤ 2048) (hi : i ≤ 2048) (h : ¬ nI L - nI 4 < nI i) : i + 4 ≤ L := by
  rw [Int32.lt_iff_toInt_lt, pk_sub_toInt (by omega) (by omega), nI_toInt (by omega)] at h
  omega
section LLP
variable {p : Program} {l : Launch} {e : Env} {s : State} {m : MethodId} {args : Array Value} {below : List Frame} {meth : Method} {c : Code} {H : Heap} {locs : List Loc} {cells slots : Nat} {Q : State → Prop}
variable {g : Gc} {A : Nat → Prop} {ls : Array Slot}
variable {am ax : Nat → Nat} {oa b L : Nat} {xs : Nat → Int32}
theorem lw_loop (B : CallFix p m c code 7 s args tb R_L ∧ l.flags = flags0) (hK : gK g s) (hTS : TS A s s.heap) (hA : ∀ q : Nat, s.heap.size ≤ q → A q) (hX : va_X b L xs s s.heap) (hbl : b < s.heap.size) (hbA : ¬ A b) (hL : L ≤ 2048)
    (hex : ∀ (H : Heap) (locs : List Loc) (ls : Array Slot) (cells slots : Nat), cells ≤ 1037 → slots ≤ 18246 → va_S A s.heap H locs → W p l e room_1 s m args below meth c H locs cells slots Q (F0 m 568 ls [])) :
    ∀ (n j : Nat), 513 - j < n → j ≤ 512 → lwG p l e s m args below meth c g am ax oa A (11 + j) (10042 + 6 * j) Q b (4 * j) 23 := by
  obtain ⟨hx, hb, hml, hown, hts⟩ := B.1
  intro n
  induction n with
  | zero => intro j h1 h2; omega
  | succ n ih =>
    intro j hn hj wo N kn fw pp ov ch cn f mx th H locs ls hG hkn hP hD hS hl
    refine lv_iload hx hb d_L_law_23 (lv_at hl 4 rfl) ?_
    refine lv_aload_n hx hb d_L_law_25 rfl (lv_at hl 0 rfl) ?_
    refine va_slen hx hb hX hbl hbA hS d_L_law_26 ?_
    refine W.eq (g2 := F0 m 27 ls [.int (nI L), .int (nI (4 * j))]) rfl ?_
    refine lv_iconst (v := nI 4) hx hb d_L_law_27 (by decide) ?_
    refine lv_isub hx hb d_L_law_28 ?_
    refine lv_icmp_gt hx hb d_L_law_29 rfl (fun h0 => ?_) (fun h0 => ?_)
    · exact hex H locs ls _ _ (by omega) (by omega) hS
    · have hi := lp_go hL (by omega) h0
      have k562 : lwG p l e s m args below meth c g am ax oa A (11 + j + 1) (10042 + 6 * j + 6) Q b (4 * j) 562 := by
        intro wo N kn fw pp ov ch cn f mx th H locs ls hG hkn hP hD hS hl
        have h := ih (j + 1) (by omega) (by omega)
        rw [show 11 + (j + 1) = 11 + j + 1 by omega, show 10042 + 6 * (j + 1) = 10042 + 6 * j + 6 by omega, show 4 * (j + 1) = 4 * j + 4 by omega] at h
        refine lv_iinc (k := 4) (v := nI ((4 * j) + 4)) (lv' := [(4, .int (nI ((4 * j) + 4))), (0, .ref b), (1, .ref (ax 0)), (2, .ref (am 0)), (3, .ref oa)]) hx hb d_L_law_562 hl rfl (nI_add _ 4) (by decide) rfl (fun ls hl => ?_)
        refine lv_goto hx hb d_L_law_565 rfl ?_
        have hl := lv_sub (l' := [(0, .ref b), (1, .ref (ax 0)), (2, .ref (am 0)), (3, .ref oa), (4, .int (nI ((4 * j) + 4)))]) hl [1, 2, 3, 4, 0] rfl
        exact h wo N kn fw pp ov ch cn f mx th H locs ls hG hkn hP hD hS hl
      refine lv_aload_n hx hb d_L_law_32 rfl (lv_at hl 0 rfl) ?_
      refine lv_iload hx hb d_L_law_33 (lv_at hl 4 rfl) ?_
      refine n_sld hx hb hX hbl hbA hS (j := 4 * j) (by omega) (by omega) d_L_law_35 ?_
      refine lv_bipush (v := nI 15) hx hb d_L_law_36 (by decide) ?_
      refine lv_iand hx hb d_L_law_38 ?_
      obtain ⟨k, hk, ek⟩ := pk_andE (xs (4 * j)) (m := nI 15) 4 (by decide)
      rw [ek]
      rcases (show k = 0 ∨ k = 1 ∨ k = 2 ∨ k = 3 ∨ k = 4 ∨ k = 5 ∨ k = 6 ∨ k = 7 ∨ k = 8 ∨ 9 ≤ k by omega) with rfl | rfl | rfl | rfl | rfl | rfl | rfl | rfl | rfl | hk9
      · refine lv_tableIn (tgt := 88) hx hb d_L_law_39 (by decide) (by decide) rfl rfl ?_
        exact lc_load B hK hTS hA hX hbl hbA hL hi (by omega) (by omega) hG hkn hP hD hS hl k562
      · refine lv_tableIn (tgt := 148) hx hb d_L_law_39 (by decide) (by decide) rfl rfl ?_
        exact lc_best B hK hTS hA hX hbl hbA hL hi (by omega) (by omega) hG hkn hP hD hS hl k562
      · refine lv_tableIn (tgt := 204) hx hb d_L_law_39 (by decide) (by decide) rfl rfl ?_
        exact lc_part B hK hTS hA hX hbl hbA hL hi (by omega) (by omega) hG hkn hP hD hS hl k562
      · refine lv_tableIn (tgt := 272) hx hb d_L_law_39 (by decide) (by decide) rfl rfl ?_
        exact lc_ways B hK hTS hA hX hbl hbA hL hi (by omega) (by omega) hG hkn hP hD hS hl k562
      · refine lv_tableIn (tgt := 328) hx hb d_L_law_39 (by decide) (by decide) rfl rfl ?_
        exact lc_pay B hK hTS hA hX hbl hbA hL hi (by omega) (by omega) hG hkn hP hD hS hl k562
      · refine lv_tableIn (tgt := 396) hx hb d_L_law_39 (by decide) (by decide) rfl rfl ?_
        exact lc_next B hK hTS hA hX hbl hbA hL hi (by omega) (by omega) hG hkn hP hD hS hl k562
      · refine lv_tableIn (tgt := 452) hx hb d_L_law_39 (by decide) (by decide) rfl rfl ?_
        exact lc_reach B hK hTS hA hX hbl hbA hL hi (by omega) (by omega) hG hkn hP hD hS hl k562
      · refine lv_tableIn (tgt := 465) hx hb d_L_law_39 (by decide) (by decide) rfl rfl ?_
        exact lc_cassette B hK hTS hA hX hbl hbA hL hi (by omega) (by omega) hG hkn hP hD hS hl k562
      · refine lv_tableIn (tgt := 549) hx hb d_L_law_39 (by decide) (by decide) rfl rfl ?_
        exact lc_value B hK hTS hA hX hbl hbA hL hi (by omega) (by omega) hG hkn hP hD hS hl k562
      · refine lv_tableOut (tgt := 562) hx hb d_L_law_39 (Or.inr (by rw [nI_toInt (by omega)]; omega)) rfl ?_
        exact W.widen (by omega) (by omega) (k562 wo N kn fw pp ov ch cn f mx th H locs ls hG hkn hP hD hS hl)
end LLP
end
section
/-! the law: its start -/
theorem arK {args : Array Value} {s : State} {ty : FieldType} (h : (Cond.arrayClass ty).before args s = true) : ∃ cA, ArrOfT s cA ty ∧ s.vm.findClass ("[" ++ ty.toString) = some cA := by
  obtain ⟨c, k, comp, h1, h2, h3⟩ := Cond.arrayClass_spec h
  exact ⟨c, fun n z => ⟨fun k h => (by cases h), k, h2, comp, h3⟩, h1⟩
theorem gK_ex {args : Array Value} {s : State} (hts : ∀ w ∈ tb, w.before args s = true) : ∃ g : Gc, gK g s := by
  obtain ⟨cX, iX, kX⟩ := u_known (T := F_X) (N := 5) hts u_X (hts _ tw_10)
  obtain ⟨cM, iM, kM⟩ := u_known (T := F_M) (N := 7) hts u_M (hts _ tw_198)
  obtain ⟨c0, a0, b0⟩ := arK (hts _ tw_33)
  obtain ⟨c1, a1, b1⟩ := arK (hts _ tw_34)
  obtain ⟨c2, a2, b2⟩ := arK (hts _ tw_225)
  obtain ⟨c3, a3, b3⟩ := arK (hts _ tw_284)
  refine ⟨((fun k => if k = 0 then cX else cM, fun k => if k = 0 then iX else iM), ad5 c0 c1 c2 c3 0), fun c q hq => ?_, fun k q hk => ?_⟩
  · rcases c with _ | _ | c
    · cases hq; exact kX
    · cases hq; exact kM
    · exact absurd hq (by simp)
  · rcases k with _ | _ | _ | _ | k
    · cases hk; exact ⟨a0, b0⟩
    · cases hk; exact ⟨a1, b1⟩
    · cases hk; exact ⟨a2, b2⟩
    · cases hk; exact ⟨a3, b3⟩
    · exact absurd hk (by simp)
theorem xw_X_init {R : Room} {cells slots : Nat} (h : xw_R R cells slots rmIX 2) : xk_W R cells slots y_X_init cd_X_init rmIX 2 0 := ⟨kc_X_init, Or.inl ⟨_, _, rfl⟩, tw_1, by decide, by decide +kernel, h.1, h.2.1, h.2.2.1, h.2.2.2⟩
theorem xw_M_init {R : Room} {cells slots : Nat} (h : xw_R R cells slots rmIM 1) : xk_W R cells slots y_M_init cd_M_init rmIM 1 0 := ⟨kc_M_init, Or.inl ⟨_, _, rfl⟩, tw_2, by decide, by decide +kernel, h.1, h.2.1, h.2.2.1, h.2.2.2⟩
theorem preO {s : State} {H : Heap} {A : Nat → Prop} {g : Gc} {ws : va_W} {As : List Value} (hP : va_P g.1 cl ws H) (hK : gK g s) (hD : va_D A ws) : PreS s H (va_Pc As (fun U => U.heap.size = H.size ∧ va_P g.1 cl ws U.heap ∧ gK g U ∧ va_D (fun _ => True) ws)) As :=
  ⟨fun a U g1 mk q => by obtain ⟨q0, q1, qP, qK, qD⟩ := q; exact ⟨q0, q1, qP, va_K.moved (u := U) (U := U.calling g1 mk a) (Vm.Alike.refl U.vm) qK, qD⟩, fun U hU hW => ⟨rfl, by rw [hU], by rw [hU]; exact hP, va_K.moved hW.alike hK, hD.weaken (fun _ _ _ _ => trivial)⟩⟩
-- ===== the skeleton (a starting text), with the launch's flags passed on =====
def R_law : String := "NoteMixLaw"
def lw_P (b : Addr) (xs : List Int32) (args : Array Value) (s : State) : Prop := args = #[.ref b] ∧ s.IntsAt b xs ∧ xs.length ≤ 2048 ∧ (Jvm.Cond.and given_1 narrow_1).before args s = true
def lw_Q (_ : Array Value) (s : State) (o : Outcome) (t : State) : Prop := o = .returned (some (.int 1)) ∧ Framed s o t [] 1037 18246
def lw_Z (below : List Frame) (a : Array Value) (s : State) : State → Prop := fun t => ∃ o, t.status = .running ∧ Ended t below o ∧ lw_Q a s o t
/-- the law's own end, with 1 on the stack, nothing written that was there before, its room as the claim has it -/
theorem lw_ret {p : Program} {l : Launch} {e : Env} {s : State} {m : MethodId} {below : List Frame} {meth : Method} {c : Code} {b : Nat} (hx : p.tables.exec = Jvm.exec) (hb : c.code = code) (hr : meth.sig.returnType = ret) (hlocks : meth.locks = false) {pc : Nat} {H : Heap} {ls : Array Slot} (hdg : decode code pc = .ok (.ireturn, 1)) : W p l e room_1 s m #[Value.ref b] below meth c H [] 1037 18246 (lw_Z below #[Value.ref b] s) (F0 m pc ls [.int 1]) := by
  intro T hT X
  obtain ⟨fs, hret, hrun, hended, hW, hframe⟩ := X.leave (v := some (.int 1)) (hlocks := hlocks) (fun h => by rw [hr] at h; cases h)
  have hmeth' : T.vm.method? m = some meth := X.method'
  refine ⟨T.setFrames fs, ?_, .returned (some (.int 1)), hrun, hended, rfl, ⟨_, rfl⟩, hW, hframe⟩
  jvm_step X.here [X.here.top, hx, hb, hdg, hmeth', hr, ret, narrow_b1]
  (try refine ⟨rfl, ?_⟩); (try refine ⟨rfl, ?_⟩)
  first | (intro acts; rw [hret _ acts rfl rfl rfl]) | rw [hret _ _ rfl rfl rfl]
  exact Steps.refl _
/-- what holds at the law's entry: the machine, the code, the tables' words (any of lw_tbl by 'hts w (by decide +kernel)'), the script of L ints xs at the cell b, what the Statement gives of the start (any of its parts by flat_of_before) -/
def lw_At (p : Program) (s : State) (m : MethodId) (meth : Method) (c : Code) (b L : Nat) (xs : Nat → Int32) : Prop :=
  p.tables.exec = Jvm.exec ∧ c.code = code ∧ meth.sig.returnType = ret ∧ c.maxLocals = 7 ∧ s.vm.findClass R_law = some m.cls ∧ (∀ w ∈ lw_tbl, w.before #[Value.ref b] s = true) ∧ va_X b L xs s s.heap ∧ b < s.heap.size ∧ meth.locks = false ∧ (Jvm.Cond.and given_1 narrow_1).before #[Value.ref b] s = true
/-- from the entry, for every script of at most 2048 ints, the law comes to its end with true -/
theorem whole_start {p : Program} {e : Env} {s : State} {m : MethodId} {below : List Frame} {meth : Method} {c : Code} (l : Launch) (hfl : l.flags = flags0) {b L : Nat} {xs : Nat → Int32} (hL : L ≤ 2048) (C0 : lw_At p s m meth c b L xs) : W p l e room_1 s m #[Value.ref b] below meth c s.heap [] 0 0 (lw_Z below #[Value.ref b] s) (entryFrame m ([Value.ref b] : List Value).toArray 7) := by
  obtain ⟨hx, hb, hr, hml, hown, hts0, hX, hbl, hlk, hgv⟩ := C0
  have hfs := flat_of_before _ hgv
  have hts : ∀ w ∈ tb, w.before #[Value.ref b] s = true := by
    intro w hw
    rcases List.mem_append.mp hw with h | h
    · exact hts0 w (List.mem_filter.mp h).1
    · rw [tb_no, List.mem_singleton] at h
      subst h
      exact hfs _ (by decide +kernel)
  have hTS : TS (fun q => s.heap.size ≤ q) s s.heap :=
    ⟨xk_S1.of (hts0 (.laysStatic tN_ "UNASSIGNED_STACK" "[Ljava/lang/StackTraceElement;") (by decide +kernel)) (hfs (.isRef (.static tN_ "UNASSIGNED_STACK" "[Ljava/lang/StackTraceElement;")) (by decide +kernel)) (fun q h => Nat.not_le.mpr h),
     xk_S1.of (hts0 (.laysStatic tN_ "SUPPRESSED_SENTINEL" "Ljava/util/List;") (by decide +kernel)) (hfs (.isRef (.static tN_ "SUPPRESSED_SENTINEL" "Ljava/util/List;")) (by decide +kernel)) (fun q h => Nat.not_le.mpr h)⟩
  obtain ⟨g, hK⟩ := gK_ex hts
  have B : CallFix p m c code 7 s #[Value.ref b] tb R_L ∧ l.flags = flags0 := ⟨⟨hx, hb, hml, hown, hts⟩, hfl⟩
  obtain ⟨A, hAe⟩ : ∃ A : Nat → Prop, A = fun q => s.heap.size ≤ q := ⟨_, rfl⟩
  have hA : ∀ q : Nat, s.heap.size ≤ q → A q := fun q h => by rw [hAe]; exact h
  have hA2 : ∀ q : Nat, A q → s.heap.size ≤ q := fun q h => by rw [hAe] at h; exact h
  have hbA : ¬ A b := fun h => absurd (hA2 b h) (Nat.not_le.mpr hbl)
  rw [← hAe] at hTS
  have hS : va_S A s.heap s.heap [] := va_S.rf
  have hP : va_P g.1 cl [] s.heap := fun k q h => by simp at h
  have hD : va_D A [] := ⟨fun i j p q h => by simp at h, fun k q h => by simp at h⟩
  have hl := lv_entry ([.ref b]) (n := 7) (Nat.le_of_ble_eq_true rfl)
  rw [lg_entry_eq]
  generalize (lg_sl ([.ref b]) ++ List.replicate (7 - (lg_sl ([.ref b])).length) Slot.unset).toArray = ls at hl ⊢
  have hl : lv_has ls 7 [(0, .ref b)] := hl
  refine va_new (D := g.1) (ci := 0) (fs := [.null, .null, .null, .int 0, .null]) (C := R_X) (T := F_X) (N := 5) hx hb hts u_X t_X t_X_ok hown (hts _ tw_9) (hts _ tw_10) (hts _ tw_1) hK hP hD hS hA rfl (fun j hj => by rcases (show j = 0 ∨ j = 1 ∨ j = 2 ∨ j = 3 ∨ j = 4 by omega) with rfl | rfl | rfl | rfl | rfl <;> rfl) (by decide) (by decide) d_L_law_0 (fun q H hP hD hS => ?_)
  have hP : va_P g.1 cl (oX q) H := hP
  have hD : va_D A (oX q) := hD
  refine lv_dup hx hb d_L_law_3 rfl ?_
  have hFc := va_free (wc := oX q) hD hS hA [0] rfl
  refine x_calI (As := []) (b := q) (rest := [.ref q]) B.1 (c_X_init l g q H.size) (xw_X_init (rmk (by decide) (by decide) (by decide) (by decide))) rfl rfl tw_11 tw_12 (preO hP hK hD) hl.1 (Nat.le_of_ble_eq_true rfl) hS hFc rfl d_L_law_4 (fun rv t H1 locs1 hN => ?_) (fun rx t H1 locs1 hN => ?_)
  · obtain ⟨e1, hal, ⟨st, h0, hv0, ax, hax, hP1, hD1⟩, hz1, hk1, hS, -⟩ := hN
    cases hv0
    subst hax
    rw [e1] at hP1
    have hP := hP1
    have hD := hD1.weaken (fun k q _ h => hFc q.1 h)
    refine W.eq (g2 := F0 m 7 ls [.ref (ax 0)]) rfl ?_
    refine lv_astore_n (lv' := [(1, .ref (ax 0)), (0, .ref b)]) hx hb d_L_law_7 rfl hl (by decide) rfl (fun ls hl => ?_)
    refine va_new (D := g.1) (ci := 1) (fs := [.null, .null, .null, .null, .int 0, .int 0, .int 0]) (C := R_M) (T := F_M) (N := 7) hx hb hts u_M t_M t_M_ok hown (hts _ tw_197) (hts _ tw_198) (hts _ tw_2) hK hP hD hS hA rfl (fun j hj => by rcases (show j = 0 ∨ j = 1 ∨ j = 2 ∨ j = 3 ∨ j = 4 ∨ j = 5 ∨ j = 6 by omega) with rfl | rfl | rfl | rfl | rfl | rfl | rfl <;> rfl) (by decide) (by decide) d_L_law_8 (fun q2 H hP hD hS => ?_)
    have hP : va_P g.1 cl (wX g ax (nF W0) (nF N0) 0 (nF z0) (nF z0) ++ oM q2) H := hP
    have hD : va_D A (wX g ax (nF W0) (nF N0) 0 (nF z0) (nF z0) ++ oM q2) := hD
    refine lv_dup hx hb d_L_law_11 rfl ?_
    have hPo := hP
    have hDo := hD
    have hPc := hP.sub (ws' := oM q2) [5] rfl
    have hDc := hD.sub (ws' := oM q2) [5] (by decide) rfl
    have hFc := va_free (wc := oM q2) hD hS hA [5] rfl
    refine x_calI (As := []) (b := q2) (rest := [.ref q2]) B.1 (c_M_init l g q2 H.size) (xw_M_init (rmk (by decide) (by decide) (by decide) (by decide))) rfl rfl tw_199 tw_200 (preO hPc hK hDc) hl.1 (Nat.le_of_ble_eq_true rfl) hS hFc rfl d_L_law_12 (fun rv t H1 locs1 hN => ?_) (fun rx t H1 locs1 hN => ?_)
    · obtain ⟨e1, hal, ⟨st, h0, hv0, am, ham, hP1, hD1⟩, hz1, hk1, hS, -⟩ := hN
      cases hv0
      subst ham
      rw [e1] at hP1
      obtain ⟨hP, hD⟩ := va_join (wr := wX g ax (nF W0) (nF N0) 0 (nF z0) (nF z0)) (w1 := wM g am (nF W0) (nF N0) (nF z0) (nF z0) 0 0 0) hPo hDo [5] [0, 1, 2, 3, 4] rfl rfl (by decide) (by decide) hk1 hFc hP1 hD1
      refine W.eq (g2 := F0 m 15 ls [.ref (am 0)]) rfl ?_
      refine lv_astore_n (lv' := [(2, .ref (am 0)), (1, .ref (ax 0)), (0, .ref b)]) hx hb d_L_law_15 rfl hl (by decide) rfl (fun ls hl => ?_)
      refine lv_iconst (v := nI 1) hx hb d_L_law_16 (by decide) ?_
      refine n_newJ hx hb hts hK hP hD hS hA (by omega) (by decide) (by decide) d_L_law_17 (fun oa H hP hD hS => ?_)
      refine lv_astore_n (lv' := [(3, .ref oa), (2, .ref (am 0)), (1, .ref (ax 0)), (0, .ref b)]) hx hb d_L_law_19 rfl hl (by decide) rfl (fun ls hl => ?_)
      refine lv_iconst (v := nI 0) hx hb d_L_law_20 (by decide) ?_
      refine lv_istore (lv' := [(4, .int (nI 0)), (3, .ref oa), (2, .ref (am 0)), (1, .ref (ax 0)), (0, .ref b)]) hx hb d_L_law_21 hl (by decide) rfl (fun ls hl => ?_)
      have hP := hP.sub (ws' := wM g am (nF W0) (nF N0) (nF z0) (nF z0) 0 0 0 ++ wY g oa (fun _ => 0) ax (nF W0) (nF N0) 0 (nF z0) (nF z0)) [5, 6, 7, 8, 9, 10, 0, 1, 2, 3, 4] rfl
      have hD := hD.sub (ws' := wM g am (nF W0) (nF N0) (nF z0) (nF z0) 0 0 0 ++ wY g oa (fun _ => 0) ax (nF W0) (nF N0) 0 (nF z0) (nF z0)) [5, 6, 7, 8, 9, 10, 0, 1, 2, 3, 4] (by decide) rfl
      have hl := lv_sub (l' := [(0, .ref b), (1, .ref (ax 0)), (2, .ref (am 0)), (3, .ref oa), (4, .int (nI (4 * 0)))]) hl [4, 3, 2, 1, 0] rfl
      refine W.widen (k := 11 + 0) (n := 10042 + 6 * 0) (by decide) (by decide) ?_
      refine lw_loop B hK hTS hA hX hbl hbA hL (fun H locs ls cells slots hc hs hS => ?_) 514 0 (by omega) (by omega) W0 N0 0 (nF z0) (nF z0) (fun _ => 0) (nF z0) (nF z0) 0 0 0 H locs1 ls gd0 (Or.inl rfl) hP hD hS hl
      refine lv_iconst (v := 1) hx hb d_L_law_568 (by decide) ?_
      refine va_forget (fun q hq => hA2 _ (hS.2.2 q hq)) ?_
      exact W.widen hc hs (lw_ret hx hb hr hlk d_L_law_569)
    · obtain ⟨-, -, ⟨st, h0, hv0, -⟩, -⟩ := hN
      cases hv0
  · obtain ⟨-, -, ⟨st, h0, hv0, -⟩, -⟩ := hN
    cases hv0
set_option maxHeartbeats 4000000 in
theorem lw_walk (l : Launch) (hfl : l.flags = flags0) (b : Addr) (xs : List Int32) : MetFree l x (headSpec (Jvm.Cond.code x code maxLocals ret :: tables_1) room_1) (lw_P b xs) (fun _ _ _ _ _ => True) lw_Q := by
  refine MetFree.of_bodyS (code := code) (maxLocals := maxLocals) (ret := ret) (by decide) ?_ ?_
  · intro args s m h hn
    obtain ⟨meth, c, h1, h2, h3, h4, h5, h6, -, -⟩ := Cond.code_spec hn (atoms_spec (ws := Jvm.Cond.code x code maxLocals ret :: tables_1) h _ List.mem_cons_self)
    exact ⟨meth, c, h1, h2, h3, h4, h5, h6⟩
  · intro p e s m args below meth c s₁ B hml0 hP _
    obtain ⟨rfl, hx, hbd, hgv⟩ := hP
    obtain ⟨scr, harrAt, hlist, hof, hsmall⟩ := hx
    obtain ⟨hcb, hkn, -, -⟩ := State.arrayAt?_spec harrAt
    have hown : s.vm.findClass R_law = some m.cls := findClass_of_methodNamed B.named
    have hts0 : ∀ c ∈ (Jvm.Cond.code x code maxLocals ret :: tables_1), c.before #[Value.ref b] s = true := atoms_spec (ws := Jvm.Cond.code x code maxLocals ret :: tables_1) B.pre
    have hts : ∀ w ∈ lw_tbl, w.before #[Value.ref b] s = true := k2_hts_sels lw_privs (fun w hw => hts0 w (List.mem_cons_of_mem _ hw)) lw_privs_ok
    have hml : c.maxLocals = 7 := B.maxLocals_eq (hts0 _ List.mem_cons_self)
    have X₀ : Stand p l e room_1 s m #[Value.ref b] below meth c s₁ [] 0 0 := Stand.of_body B
    have hh0 : s₁.heap = s.heap := by rw [B.state]; rfl
    have hsz : scr.slots.size = xs.length := by rw [← Array.length_toList, hlist, List.length_map]
    have hval : ∀ j : Nat, j < xs.length → scr.slots[j]? = some (.int (xs.getD j 0)) := fun j hj => by
      rw [← Array.getElem?_toList, hlist]
      simp [hj]
    have hbl : b < s.heap.size := (Array.getElem?_eq_some_iff.mp hcb).1
    have hX : va_X b xs.length (fun j => xs.getD j 0) s s.heap := ⟨scr, hcb, hof, hkn, hsz, hval⟩
    have K : W p l e room_1 s m #[Value.ref b] below meth c s₁.heap [] 0 0 (lw_Z below #[Value.ref b] s) (entryFrame m ([Value.ref b] : List Value).toArray 7) := by
      rw [hh0]
      exact whole_start l hfl hbd ⟨B.exec, B.bytes, B.returns, hml, hown, hts, hX, hbl, B.notSynchronized, hgv⟩
    obtain ⟨t, a1, o, b1, b2, b3⟩ := K s₁ rfl X₀
    exact ⟨t, o, a1, b1, b2, b3⟩
theorem lw_pre_spec {args : Array Value} {s : State} (h : (Jvm.Cond.and given_1 narrow_1).before args s = true) (hr : rest_1_c.before args s = true) : ∃ (b : Addr) (xs : List Int32), lw_P b xs args s := by
  have hs := flat_of_before _ h
  have hq := flat_of_before _ hr
  have hc : (Cond.count 1).before args s = true := hs _ (by decide +kernel)
  have harr : (Cond.arrayOf (.arg 0) .int).before args s = true := hs _ (by decide +kernel)
  have hle : (Cond.le (.length (.arg 0)) (.int 2048)).before args s = true := hs _ (by decide +kernel)
  have hlen : (Cond.isInt (.length (.arg 0))).before args s = true := hq _ (by decide +kernel)
  have hall : (Cond.all (.arg 0) (.isInt (.elem (.arg 0) (.index 0)))).before args s = true := hq _ (by decide +kernel)
  obtain ⟨b, xs, hb, hx⟩ := State.ints_of_pre rfl harr hlen hall
  have hsm : xs.length < 2 ^ 31 := hx.choose_spec.2.2.2
  have hev : (Term.length (.arg 0)).eval args s none [] s = some (.int xs.length.toInt32) := hx.length_eval hb
  have hv := Cond.le_ints hev (show (Term.int 2048).eval args s none [] s = some (.int 2048) from rfl)
  have hd : xs.length.toInt32 ≤ 2048 := by
    simpa [Cond.before, Cond.holds, hv] using hle
  have hN : xs.length ≤ 2048 := (Int32.ofNat_le_ofNat hsm (by decide)).mp (show Int32.ofNat xs.length ≤ Int32.ofNat 2048 from hd)
  exact ⟨b, xs, Cond.one_arg hc (show args[0]? = some (.ref b) from hb), hx, hN, h⟩
theorem lw_comes (l : Launch) (hfl : l.flags = flags0) : Comes l x (Jvm.Cond.code x code maxLocals ret :: tables_1) room_1 (fun tb e args s => Calls_1 tb e args s ∧ rest_1 tb e args s ∧ Pre_1 tb e args s)
    (fun _ _ args s o t => lw_Q args s o t) := by
  intro p e ha hc hk s m args below hf hfit hheap happ hpre
  obtain ⟨b, xs, hP⟩ := lw_pre_spec hpre.2.2 hpre.2.1
  obtain ⟨k, o, h1, h2, h3, hQ⟩ := lw_walk l hfl b xs p e ha hc hk s m args below hf ((Spec.applies_iff_loose hf).mp happ).1 hP trivial
  exact ⟨k, o, h1, h2, h3, hQ⟩
theorem lw_frame {s t : State} {o : Outcome} {args : Array Value} (h : Framed s o t [] 1037 18246) :
    Framed s o t (fieldLocs frame_1_writes args s ++ arrayLocs frame_1_arrays args s ++ staticLocs frame_1_statics s) 1037 18246 := h
theorem lw_limb (L : Cond) (hL : ∀ (args : Array Value) (s t : State), L.after args s (.returned (some (.int 1))) t = true) :
    ArmFor flags0 classFile x code maxLocals ret World_1 tables_1 room_1 Calls_1 rest_1 Pre_1
      (fun tb e a s o t => postC L tb e a s o t ∧ Framed s o t (fieldLocs frame_1_writes a s ++ arrayLocs frame_1_arrays a s ++ staticLocs frame_1_statics s) 1037 18246) := by
  intro l hfl _ _ p e ha hc hk s m args below hf hfit hheap happ hpre
  obtain ⟨k, o, h1, h2, h3, rfl, hF⟩ := lw_comes l hfl p e ha hc hk s m args below hf hfit hheap happ hpre
  exact ⟨k, _, h1, h2, h3, hL args s _, lw_frame hF⟩
theorem i_vc : Claimed_1_1 ∧ Claimed_1_2 := ⟨lw_limb limb_1_1 (fun args s t => by simp [limb_1_1, Cond.after, Cond.holds, Cond.value]), lw_limb limb_1_2 (fun args s t => Cond.after_iff.mpr (by
  first | (rw [show limb_1_2 = Cond.eq .result (.int 1) from rfl, Cond.eq_ints (x := 1) (y := 1) rfl rfl]; simp; done) | (simp [limb_1_2, Cond.value, Term.eval]; done)))⟩
end
