section
-- ===== PART A: goes FIRST, ahead of the names: the tables' words, and 'selects' of the private methods out of them =====
/-- a private method of a class that the tables say can be made, by its rows of tables_1 -/
def lw_okq (q : MethodName × Nat) : Prop := (q.1.cls ≠ "java/lang/invoke/MethodHandle" ∧ q.1.cls ≠ "java/lang/invoke/VarHandle") ∧ Cond.instantiable q.1.cls q.2 ∈ tables_1 ∧ Cond.privateMethod q.1 ∈ tables_1 ∧ Cond.instanceMethod q.1 ∈ tables_1
theorem lw_p0 : lw_okq (⟨"SegmentBox", "window", "()I"⟩, 7) := ⟨⟨by decide +kernel, by decide +kernel⟩, List.mem_of_getElem? (i := 9) (by decide +kernel), List.mem_of_getElem? (i := 48) (by decide +kernel), List.mem_of_getElem? (i := 49) (by decide +kernel)⟩
theorem lw_p1 : lw_okq (⟨"java/lang/Throwable", "fillInStackTrace", "(I)Ljava/lang/Throwable;"⟩, 6) := ⟨⟨by decide +kernel, by decide +kernel⟩, List.mem_of_getElem? (i := 105) (by decide +kernel), List.mem_of_getElem? (i := 103) (by decide +kernel), List.mem_of_getElem? (i := 104) (by decide +kernel)⟩
theorem lw_p2 : lw_okq (⟨"SegmentBox", "isNear", "(I)Z"⟩, 7) := ⟨⟨by decide +kernel, by decide +kernel⟩, List.mem_of_getElem? (i := 9) (by decide +kernel), List.mem_of_getElem? (i := 130) (by decide +kernel), List.mem_of_getElem? (i := 131) (by decide +kernel)⟩
theorem lw_p3 : lw_okq (⟨"SegmentBox", "counted", "()I"⟩, 7) := ⟨⟨by decide +kernel, by decide +kernel⟩, List.mem_of_getElem? (i := 9) (by decide +kernel), List.mem_of_getElem? (i := 141) (by decide +kernel), List.mem_of_getElem? (i := 142) (by decide +kernel)⟩
theorem lw_p4 : lw_okq (⟨"SegmentBox", "blocks", "()I"⟩, 7) := ⟨⟨by decide +kernel, by decide +kernel⟩, List.mem_of_getElem? (i := 9) (by decide +kernel), List.mem_of_getElem? (i := 145) (by decide +kernel), List.mem_of_getElem? (i := 146) (by decide +kernel)⟩
theorem lw_p5 : lw_okq (⟨"SegmentBox", "begins", "()J"⟩, 7) := ⟨⟨by decide +kernel, by decide +kernel⟩, List.mem_of_getElem? (i := 9) (by decide +kernel), List.mem_of_getElem? (i := 149) (by decide +kernel), List.mem_of_getElem? (i := 150) (by decide +kernel)⟩
theorem lw_p6 : lw_okq (⟨"SegmentBoxModel", "up", "()V"⟩, 8) := ⟨⟨by decide +kernel, by decide +kernel⟩, List.mem_of_getElem? (i := 177) (by decide +kernel), List.mem_of_getElem? (i := 222) (by decide +kernel), List.mem_of_getElem? (i := 223) (by decide +kernel)⟩
theorem lw_p7 : lw_okq (⟨"SegmentBoxModel", "from", "(I)I"⟩, 8) := ⟨⟨by decide +kernel, by decide +kernel⟩, List.mem_of_getElem? (i := 177) (by decide +kernel), List.mem_of_getElem? (i := 238) (by decide +kernel), List.mem_of_getElem? (i := 239) (by decide +kernel)⟩
def lw_privs_1 : List (MethodName × Nat) := [(⟨"SegmentBox", "window", "()I"⟩, 7), (⟨"java/lang/Throwable", "fillInStackTrace", "(I)Ljava/lang/Throwable;"⟩, 6), (⟨"SegmentBox", "isNear", "(I)Z"⟩, 7), (⟨"SegmentBox", "counted", "()I"⟩, 7), (⟨"SegmentBox", "blocks", "()I"⟩, 7), (⟨"SegmentBox", "begins", "()J"⟩, 7), (⟨"SegmentBoxModel", "up", "()V"⟩, 8), (⟨"SegmentBoxModel", "from", "(I)I"⟩, 8)]
theorem lw_r1 : ∀ q ∈ lw_privs_1, lw_okq q := List.forall_mem_cons.mpr ⟨lw_p0, List.forall_mem_cons.mpr ⟨lw_p1, List.forall_mem_cons.mpr ⟨lw_p2, List.forall_mem_cons.mpr ⟨lw_p3, List.forall_mem_cons.mpr ⟨lw_p4, List.forall_mem_cons.mpr ⟨lw_p5, List.forall_mem_cons.mpr ⟨lw_p6, List.forall_mem_cons.mpr ⟨lw_p7, fun _ h => absurd h List.not_mem_nil⟩⟩⟩⟩⟩⟩⟩⟩
def lw_privs : List (MethodName × Nat) := lw_privs_1
def lw_tbl : List Cond := k2_sels lw_privs ++ tables_1
theorem lw_privs_ok : ∀ q ∈ lw_privs, lw_okq q := lw_r1
/-! names -/
def R_Box : String := "SegmentBox"
def R_Mod : String := "SegmentBoxModel"
def R_Law : String := "SegmentBoxLaw"
def F_Box : u_T := fun k => match k with
  | 0 => ("SegmentBox", "ring", "[B", true)
  | 1 => ("SegmentBox", "first", "I", false)
  | 2 => ("SegmentBox", "unread", "I", false)
  | 3 => ("SegmentBox", "next", "I", false)
  | 4 => ("SegmentBox", "mask", "J", false)
  | 5 => ("SegmentBox", "ends", "Z", false)
  | _ => ("SegmentBox", "left", "I", false)
def t_Box : Nat → FieldType := fun k => match k with
  | 0 => .array .byte
  | 1 => .int
  | 2 => .int
  | 3 => .int
  | 4 => .long
  | 5 => .boolean
  | _ => .int
def F_Mod : u_T := fun k => match k with
  | 0 => ("SegmentBoxModel", "unread", "[I", true)
  | 1 => ("SegmentBoxModel", "byteAt", "[I", true)
  | 2 => ("SegmentBoxModel", "isHeld", "[Z", true)
  | 3 => ("SegmentBoxModel", "next", "I", false)
  | 4 => ("SegmentBoxModel", "many", "I", false)
  | 5 => ("SegmentBoxModel", "end", "I", false)
  | 6 => ("SegmentBoxModel", "thrown", "I", false)
  | _ => ("SegmentBoxModel", "hasEnd", "Z", false)
def t_Mod : Nat → FieldType := fun k => match k with
  | 0 => .array .int
  | 1 => .array .int
  | 2 => .array .boolean
  | 3 => .int
  | 4 => .int
  | 5 => .int
  | 6 => .int
  | _ => .boolean
theorem n_Box : ∀ a, a < 7 → ∀ b, b < 7 → a ≠ b → (F_Box a).2.1 ≠ (F_Box b).2.1 := by decide +kernel
theorem t_Box_ok : ∀ k, k < 7 → parseFieldDescriptor (F_Box k).2.2.1 = some (t_Box k) := by decide +kernel
theorem n_Mod : ∀ a, a < 8 → ∀ b, b < 8 → a ≠ b → (F_Mod a).2.1 ≠ (F_Mod b).2.1 := by decide +kernel
theorem t_Mod_ok : ∀ k, k < 8 → parseFieldDescriptor (F_Mod k).2.2.1 = some (t_Mod k) := by decide +kernel
abbrev classes : List vw_C := [(R_Box, F_Box, 7), (R_Mod, F_Mod, 8)]
/-! the words that every method uses: those of lw_tbl that stay true under warmer tables -/
def tb : List Cond := lw_tbl.filter goodWord
theorem tb_in {w : Cond} (h : w ∈ tb) : w ∈ lw_tbl := (List.mem_filter.mp h).1
theorem tb_of {w : Cond} (h : w ∈ tables_1) (hg : goodWord w = true) : w ∈ tb := List.mem_filter.mpr ⟨List.mem_append_right _ h, hg⟩
theorem tb_sel {w : Cond} (h : w ∈ k2_sels lw_privs) (hg : goodWord w = true) : w ∈ tb := List.mem_filter.mpr ⟨List.mem_append_left _ h, hg⟩
theorem tb_good {ws : List Cond} (h : ∀ w ∈ ws, w ∈ tb) : GoodIn tb ws := fun w hw => ⟨h w hw, good_of_word (List.mem_filter.mp (h w hw)).2⟩
theorem tb_cons {a : Cond} (h : a ∈ tb) : ∀ w ∈ a :: tb, w ∈ tb := fun w hw => by
  rcases List.mem_cons.mp hw with e | e
  · rw [e]; exact h
  · exact e
theorem tb_wsV {own C : String} {idx : Nat} {y : MethodName} {a : Cond} (h1 : Cond.methodLink own idx y ∈ tb) (h2 : Cond.instanceMethod y ∈ tb) (h3 : Cond.selects C y y ∈ tb) (h4 : Cond.initialized C ∈ tb) (h5 : a ∈ tb) : GoodIn tb (wsV own idx C y (a :: tb)) := tb_good fun w hw => by
  unfold wsV at hw
  rcases List.mem_append.mp hw with e | e
  · simp only [List.mem_cons, List.not_mem_nil, or_false] at e
    rcases e with e | e | e | e <;> rw [e] <;> assumption
  · exact tb_cons h5 w e
theorem tw_0 : (Jvm.Cond.initialized "SegmentBoxLaw") ∈ tb := tb_of (List.mem_of_getElem? (i := 0) rfl) rfl
theorem tw_1 : (Jvm.Cond.initialized "SegmentBox") ∈ tb := tb_of (List.mem_of_getElem? (i := 1) rfl) rfl
theorem tw_2 : (Jvm.Cond.initialized "SegmentBoxModel") ∈ tb := tb_of (List.mem_of_getElem? (i := 2) rfl) rfl
theorem tw_3 : (Jvm.Cond.initialized "java/lang/Throwable") ∈ tb := tb_of (List.mem_of_getElem? (i := 3) rfl) rfl
theorem tw_4 : (Jvm.Cond.initialized "java/lang/Exception") ∈ tb := tb_of (List.mem_of_getElem? (i := 4) rfl) rfl
theorem tw_5 : (Jvm.Cond.initialized "java/lang/RuntimeException") ∈ tb := tb_of (List.mem_of_getElem? (i := 5) rfl) rfl
theorem tw_6 : (Jvm.Cond.initialized "java/lang/IllegalArgumentException") ∈ tb := tb_of (List.mem_of_getElem? (i := 6) rfl) rfl
theorem tw_7 : (Jvm.Cond.initialized "java/lang/IndexOutOfBoundsException") ∈ tb := tb_of (List.mem_of_getElem? (i := 7) rfl) rfl
theorem tw_8 : (Jvm.Cond.classLink "SegmentBoxLaw" (8 : Nat) "SegmentBox") ∈ tb := tb_of (List.mem_of_getElem? (i := 8) rfl) rfl
theorem tw_9 : (Jvm.Cond.instantiable "SegmentBox" (7 : Nat)) ∈ tb := tb_of (List.mem_of_getElem? (i := 9) rfl) rfl
theorem tw_10 : (Jvm.Cond.methodLink "SegmentBoxLaw" (25 : Nat) ({ cls := "SegmentBox", name := "<init>", desc := "()V" } : Jvm.MethodName)) ∈ tb := tb_of (List.mem_of_getElem? (i := 10) rfl) rfl
theorem tw_11 : (Jvm.Cond.instanceMethod ({ cls := "SegmentBox", name := "<init>", desc := "()V" } : Jvm.MethodName)) ∈ tb := tb_of (List.mem_of_getElem? (i := 11) rfl) rfl
theorem tw_12 : (Jvm.Cond.code ({ cls := "SegmentBox", name := "<init>", desc := "()V" } : Jvm.MethodName) prog_1_method_1_code (1 : Nat) (Option.none : Option Jvm.ClassFile.FieldType)) ∈ tb := tb_of (List.mem_of_getElem? (i := 12) rfl) rfl
theorem tw_13 : (Jvm.Cond.methodLink "SegmentBox" (1 : Nat) ({ cls := "java/lang/Object", name := "<init>", desc := "()V" } : Jvm.MethodName)) ∈ tb := tb_of (List.mem_of_getElem? (i := 13) rfl) rfl
theorem tw_14 : (Jvm.Cond.instanceMethod ({ cls := "java/lang/Object", name := "<init>", desc := "()V" } : Jvm.MethodName)) ∈ tb := tb_of (List.mem_of_getElem? (i := 14) rfl) rfl
theorem tw_15 : (Jvm.Cond.code ({ cls := "java/lang/Object", name := "<init>", desc := "()V" } : Jvm.MethodName) object_method_1_code (1 : Nat) (Option.none : Option Jvm.ClassFile.FieldType)) ∈ tb := tb_of (List.mem_of_getElem? (i := 15) rfl) rfl
theorem tw_16 : (Jvm.Cond.fieldLink "SegmentBox" (7 : Nat) "SegmentBox" "ring" "[B") ∈ tb := tb_of (List.mem_of_getElem? (i := 16) rfl) rfl
theorem tw_17 : (Jvm.Cond.fieldLink "SegmentBox" (13 : Nat) "SegmentBox" "first" "I") ∈ tb := tb_of (List.mem_of_getElem? (i := 17) rfl) rfl
theorem tw_18 : (Jvm.Cond.fieldLink "SegmentBox" (17 : Nat) "SegmentBox" "unread" "I") ∈ tb := tb_of (List.mem_of_getElem? (i := 18) rfl) rfl
theorem tw_19 : (Jvm.Cond.fieldLink "SegmentBox" (20 : Nat) "SegmentBox" "next" "I") ∈ tb := tb_of (List.mem_of_getElem? (i := 19) rfl) rfl
theorem tw_20 : (Jvm.Cond.fieldLink "SegmentBox" (23 : Nat) "SegmentBox" "mask" "J") ∈ tb := tb_of (List.mem_of_getElem? (i := 20) rfl) rfl
theorem tw_21 : (Jvm.Cond.fieldLink "SegmentBox" (27 : Nat) "SegmentBox" "ends" "Z") ∈ tb := tb_of (List.mem_of_getElem? (i := 21) rfl) rfl
theorem tw_22 : (Jvm.Cond.fieldLink "SegmentBox" (31 : Nat) "SegmentBox" "left" "I") ∈ tb := tb_of (List.mem_of_getElem? (i := 22) rfl) rfl
theorem tw_23 : (Jvm.Cond.laysFinal "SegmentBox" "SegmentBox" "ring" "[B") ∈ tb := tb_of (List.mem_of_getElem? (i := 23) rfl) rfl
theorem tw_24 : (Jvm.Cond.soleField "SegmentBox" "ring") ∈ tb := tb_of (List.mem_of_getElem? (i := 24) rfl) rfl
theorem tw_25 : (Jvm.Cond.lays "SegmentBox" "SegmentBox" "first" "I") ∈ tb := tb_of (List.mem_of_getElem? (i := 25) rfl) rfl
theorem tw_26 : (Jvm.Cond.soleField "SegmentBox" "first") ∈ tb := tb_of (List.mem_of_getElem? (i := 26) rfl) rfl
theorem tw_27 : (Jvm.Cond.lays "SegmentBox" "SegmentBox" "unread" "I") ∈ tb := tb_of (List.mem_of_getElem? (i := 27) rfl) rfl
theorem tw_28 : (Jvm.Cond.soleField "SegmentBox" "unread") ∈ tb := tb_of (List.mem_of_getElem? (i := 28) rfl) rfl
theorem tw_29 : (Jvm.Cond.lays "SegmentBox" "SegmentBox" "next" "I") ∈ tb := tb_of (List.mem_of_getElem? (i := 29) rfl) rfl
theorem tw_30 : (Jvm.Cond.soleField "SegmentBox" "next") ∈ tb := tb_of (List.mem_of_getElem? (i := 30) rfl) rfl
theorem tw_31 : (Jvm.Cond.lays "SegmentBox" "SegmentBox" "mask" "J") ∈ tb := tb_of (List.mem_of_getElem? (i := 31) rfl) rfl
theorem tw_32 : (Jvm.Cond.soleField "SegmentBox" "mask") ∈ tb := tb_of (List.mem_of_getElem? (i := 32) rfl) rfl
theorem tw_33 : (Jvm.Cond.lays "SegmentBox" "SegmentBox" "ends" "Z") ∈ tb := tb_of (List.mem_of_getElem? (i := 33) rfl) rfl
theorem tw_34 : (Jvm.Cond.soleField "SegmentBox" "ends") ∈ tb := tb_of (List.mem_of_getElem? (i := 34) rfl) rfl
theorem tw_35 : (Jvm.Cond.lays "SegmentBox" "SegmentBox" "left" "I") ∈ tb := tb_of (List.mem_of_getElem? (i := 35) rfl) rfl
theorem tw_36 : (Jvm.Cond.soleField "SegmentBox" "left") ∈ tb := tb_of (List.mem_of_getElem? (i := 36) rfl) rfl
theorem tw_37 : (Jvm.Cond.superclass "SegmentBox" "java/lang/Object") ∈ tb := tb_of (List.mem_of_getElem? (i := 37) rfl) rfl
theorem tw_38 : (Jvm.Cond.arrayClass Jvm.ClassFile.FieldType.byte) ∈ tb := tb_of (List.mem_of_getElem? (i := 38) rfl) rfl
theorem tw_39 : (Jvm.Cond.methodLink "SegmentBoxLaw" (29 : Nat) ({ cls := "SegmentBox", name := "open", desc := "(I)V" } : Jvm.MethodName)) ∈ tb := tb_of (List.mem_of_getElem? (i := 39) rfl) rfl
theorem tw_40 : (Jvm.Cond.instanceMethod ({ cls := "SegmentBox", name := "open", desc := "(I)V" } : Jvm.MethodName)) ∈ tb := tb_of (List.mem_of_getElem? (i := 40) rfl) rfl
theorem tw_41 : (Jvm.Cond.selects "SegmentBox" ({ cls := "SegmentBox", name := "open", desc := "(I)V" } : Jvm.MethodName) ({ cls := "SegmentBox", name := "open", desc := "(I)V" } : Jvm.MethodName)) ∈ tb := tb_of (List.mem_of_getElem? (i := 41) rfl) rfl
theorem tw_42 : (Jvm.Cond.code ({ cls := "SegmentBox", name := "open", desc := "(I)V" } : Jvm.MethodName) prog_1_method_2_code (2 : Nat) (Option.none : Option Jvm.ClassFile.FieldType)) ∈ tb := tb_of (List.mem_of_getElem? (i := 42) rfl) rfl
theorem tw_43 : (Jvm.Cond.methodLink "SegmentBoxLaw" (46 : Nat) ({ cls := "SegmentBox", name := "end", desc := "(I)Z" } : Jvm.MethodName)) ∈ tb := tb_of (List.mem_of_getElem? (i := 43) rfl) rfl
theorem tw_44 : (Jvm.Cond.instanceMethod ({ cls := "SegmentBox", name := "end", desc := "(I)Z" } : Jvm.MethodName)) ∈ tb := tb_of (List.mem_of_getElem? (i := 44) rfl) rfl
theorem tw_45 : (Jvm.Cond.selects "SegmentBox" ({ cls := "SegmentBox", name := "end", desc := "(I)Z" } : Jvm.MethodName) ({ cls := "SegmentBox", name := "end", desc := "(I)Z" } : Jvm.MethodName)) ∈ tb := tb_of (List.mem_of_getElem? (i := 45) rfl) rfl
theorem tw_46 : (Jvm.Cond.code ({ cls := "SegmentBox", name := "end", desc := "(I)Z" } : Jvm.MethodName) prog_1_method_6_code (3 : Nat) (Option.some Jvm.ClassFile.FieldType.boolean)) ∈ tb := tb_of (List.mem_of_getElem? (i := 46) rfl) rfl
theorem tw_47 : (Jvm.Cond.methodLink "SegmentBox" (34 : Nat) ({ cls := "SegmentBox", name := "window", desc := "()I" } : Jvm.MethodName)) ∈ tb := tb_of (List.mem_of_getElem? (i := 47) rfl) rfl
theorem tw_49 : (Jvm.Cond.instanceMethod ({ cls := "SegmentBox", name := "window", desc := "()I" } : Jvm.MethodName)) ∈ tb := tb_of (List.mem_of_getElem? (i := 49) rfl) rfl
theorem tw_50 : (Jvm.Cond.code ({ cls := "SegmentBox", name := "window", desc := "()I" } : Jvm.MethodName) prog_1_method_3_code (1 : Nat) (Option.some Jvm.ClassFile.FieldType.int)) ∈ tb := tb_of (List.mem_of_getElem? (i := 50) rfl) rfl
theorem tw_51 : (Jvm.Cond.methodLink "SegmentBoxLaw" (51 : Nat) ({ cls := "SegmentBox", name := "read", desc := "()I" } : Jvm.MethodName)) ∈ tb := tb_of (List.mem_of_getElem? (i := 51) rfl) rfl
theorem tw_52 : (Jvm.Cond.instanceMethod ({ cls := "SegmentBox", name := "read", desc := "()I" } : Jvm.MethodName)) ∈ tb := tb_of (List.mem_of_getElem? (i := 52) rfl) rfl
theorem tw_53 : (Jvm.Cond.selects "SegmentBox" ({ cls := "SegmentBox", name := "read", desc := "()I" } : Jvm.MethodName) ({ cls := "SegmentBox", name := "read", desc := "()I" } : Jvm.MethodName)) ∈ tb := tb_of (List.mem_of_getElem? (i := 53) rfl) rfl
theorem tw_54 : (Jvm.Cond.code ({ cls := "SegmentBox", name := "read", desc := "()I" } : Jvm.MethodName) prog_1_method_7_code (2 : Nat) (Option.some Jvm.ClassFile.FieldType.int)) ∈ tb := tb_of (List.mem_of_getElem? (i := 54) rfl) rfl
theorem tw_55 : (Jvm.Cond.methodLink "SegmentBoxLaw" (63 : Nat) ({ cls := "SegmentBox", name := "held", desc := "(I)Z" } : Jvm.MethodName)) ∈ tb := tb_of (List.mem_of_getElem? (i := 55) rfl) rfl
theorem tw_56 : (Jvm.Cond.instanceMethod ({ cls := "SegmentBox", name := "held", desc := "(I)Z" } : Jvm.MethodName)) ∈ tb := tb_of (List.mem_of_getElem? (i := 56) rfl) rfl
theorem tw_57 : (Jvm.Cond.selects "SegmentBox" ({ cls := "SegmentBox", name := "held", desc := "(I)Z" } : Jvm.MethodName) ({ cls := "SegmentBox", name := "held", desc := "(I)Z" } : Jvm.MethodName)) ∈ tb := tb_of (List.mem_of_getElem? (i := 57) rfl) rfl
theorem tw_58 : (Jvm.Cond.code ({ cls := "SegmentBox", name := "held", desc := "(I)Z" } : Jvm.MethodName) prog_1_method_13_code (3 : Nat) (Option.some Jvm.ClassFile.FieldType.boolean)) ∈ tb := tb_of (List.mem_of_getElem? (i := 58) rfl) rfl
theorem tw_59 : (Jvm.Cond.methodLink "SegmentBoxLaw" (36 : Nat) ({ cls := "SegmentBoxLaw", name := "segment", desc := "(LSegmentBox;IJI[J)I" } : Jvm.MethodName)) ∈ tb := tb_of (List.mem_of_getElem? (i := 59) rfl) rfl
theorem tw_60 : (Jvm.Cond.static ({ cls := "SegmentBoxLaw", name := "segment", desc := "(LSegmentBox;IJI[J)I" } : Jvm.MethodName)) ∈ tb := tb_of (List.mem_of_getElem? (i := 60) rfl) rfl
theorem tw_61 : (Jvm.Cond.codeWith ({ cls := "SegmentBoxLaw", name := "segment", desc := "(LSegmentBox;IJI[J)I" } : Jvm.MethodName) method_3_code (7 : Nat) (Option.some Jvm.ClassFile.FieldType.int) [((0 : Nat), (13 : Nat), (16 : Nat), (13 : Nat))]) ∈ tb := tb_of (List.mem_of_getElem? (i := 61) rfl) rfl
theorem tw_62 : (Jvm.Cond.classLink "SegmentBoxLaw" (13 : Nat) "java/lang/IllegalArgumentException") ∈ tb := tb_of (List.mem_of_getElem? (i := 62) rfl) rfl
theorem tw_63 : (Jvm.Cond.methodLink "SegmentBoxLaw" (7 : Nat) ({ cls := "SegmentBox", name := "segment", desc := "(IJI)I" } : Jvm.MethodName)) ∈ tb := tb_of (List.mem_of_getElem? (i := 63) rfl) rfl
theorem tw_64 : (Jvm.Cond.instanceMethod ({ cls := "SegmentBox", name := "segment", desc := "(IJI)I" } : Jvm.MethodName)) ∈ tb := tb_of (List.mem_of_getElem? (i := 64) rfl) rfl
theorem tw_65 : (Jvm.Cond.selects "SegmentBox" ({ cls := "SegmentBox", name := "segment", desc := "(IJI)I" } : Jvm.MethodName) ({ cls := "SegmentBox", name := "segment", desc := "(IJI)I" } : Jvm.MethodName)) ∈ tb := tb_of (List.mem_of_getElem? (i := 65) rfl) rfl
theorem tw_66 : (Jvm.Cond.code ({ cls := "SegmentBox", name := "segment", desc := "(IJI)I" } : Jvm.MethodName) prog_1_method_5_code (7 : Nat) (Option.some Jvm.ClassFile.FieldType.int)) ∈ tb := tb_of (List.mem_of_getElem? (i := 66) rfl) rfl
theorem tw_67 : (Jvm.Cond.classLink "SegmentBox" (38 : Nat) "java/lang/IllegalArgumentException") ∈ tb := tb_of (List.mem_of_getElem? (i := 67) rfl) rfl
theorem tw_68 : (Jvm.Cond.instantiable "java/lang/IllegalArgumentException" (6 : Nat)) ∈ tb := tb_of (List.mem_of_getElem? (i := 68) rfl) rfl
theorem tw_76 : (Jvm.Cond.selects "java/lang/IllegalArgumentException" ({ cls := "java/lang/Throwable", name := "fillInStackTrace", desc := "(I)Ljava/lang/Throwable;" } : Jvm.MethodName) ({ cls := "java/lang/Throwable", name := "fillInStackTrace", desc := "(I)Ljava/lang/Throwable;" } : Jvm.MethodName)) ∈ tb := tb_of (List.mem_of_getElem? (i := 76) rfl) rfl
theorem tw_77 : (Jvm.Cond.selects "java/lang/IllegalArgumentException" ({ cls := "java/lang/Throwable", name := "fillInStackTrace", desc := "()Ljava/lang/Throwable;" } : Jvm.MethodName) ({ cls := "java/lang/Throwable", name := "fillInStackTrace", desc := "()Ljava/lang/Throwable;" } : Jvm.MethodName)) ∈ tb := tb_of (List.mem_of_getElem? (i := 77) rfl) rfl
theorem tw_78 : (Jvm.Cond.lays "java/lang/IllegalArgumentException" "java/lang/Throwable" "cause" "Ljava/lang/Throwable;") ∈ tb := tb_of (List.mem_of_getElem? (i := 78) rfl) rfl
theorem tw_79 : (Jvm.Cond.lays "java/lang/Throwable" "java/lang/Throwable" "cause" "Ljava/lang/Throwable;") ∈ tb := tb_of (List.mem_of_getElem? (i := 79) rfl) rfl
theorem tw_80 : (Jvm.Cond.lays "java/lang/IllegalArgumentException" "java/lang/Throwable" "stackTrace" "[Ljava/lang/StackTraceElement;") ∈ tb := tb_of (List.mem_of_getElem? (i := 80) rfl) rfl
theorem tw_81 : (Jvm.Cond.lays "java/lang/Throwable" "java/lang/Throwable" "stackTrace" "[Ljava/lang/StackTraceElement;") ∈ tb := tb_of (List.mem_of_getElem? (i := 81) rfl) rfl
theorem tw_82 : (Jvm.Cond.lays "java/lang/IllegalArgumentException" "java/lang/Throwable" "suppressedExceptions" "Ljava/util/List;") ∈ tb := tb_of (List.mem_of_getElem? (i := 82) rfl) rfl
theorem tw_83 : (Jvm.Cond.lays "java/lang/Throwable" "java/lang/Throwable" "suppressedExceptions" "Ljava/util/List;") ∈ tb := tb_of (List.mem_of_getElem? (i := 83) rfl) rfl
theorem tw_84 : (Jvm.Cond.lays "java/lang/IllegalArgumentException" "java/lang/Throwable" "detailMessage" "Ljava/lang/String;") ∈ tb := tb_of (List.mem_of_getElem? (i := 84) rfl) rfl
theorem tw_85 : (Jvm.Cond.lays "java/lang/Throwable" "java/lang/Throwable" "detailMessage" "Ljava/lang/String;") ∈ tb := tb_of (List.mem_of_getElem? (i := 85) rfl) rfl
theorem tw_86 : (Jvm.Cond.lays "java/lang/IllegalArgumentException" "java/lang/Throwable" "backtrace" "Ljava/lang/Object;") ∈ tb := tb_of (List.mem_of_getElem? (i := 86) rfl) rfl
theorem tw_87 : (Jvm.Cond.lays "java/lang/Throwable" "java/lang/Throwable" "backtrace" "Ljava/lang/Object;") ∈ tb := tb_of (List.mem_of_getElem? (i := 87) rfl) rfl
theorem tw_88 : (Jvm.Cond.fieldLink "java/lang/Throwable" (198 : Nat) "java/lang/Throwable" "backtrace" "Ljava/lang/Object;") ∈ tb := tb_of (List.mem_of_getElem? (i := 88) rfl) rfl
theorem tw_89 : (Jvm.Cond.superclass "java/lang/Throwable" "java/lang/Object") ∈ tb := tb_of (List.mem_of_getElem? (i := 89) rfl) rfl
theorem tw_90 : (Jvm.Cond.instanceMethod ({ cls := "java/lang/Throwable", name := "<init>", desc := "()V" } : Jvm.MethodName)) ∈ tb := tb_of (List.mem_of_getElem? (i := 90) rfl) rfl
theorem tw_91 : (Jvm.Cond.code ({ cls := "java/lang/Throwable", name := "<init>", desc := "()V" } : Jvm.MethodName) prog_8_method_1_code (1 : Nat) (Option.none : Option Jvm.ClassFile.FieldType)) ∈ tb := tb_of (List.mem_of_getElem? (i := 91) rfl) rfl
theorem tw_92 : (Jvm.Cond.methodLink "java/lang/Throwable" (1 : Nat) ({ cls := "java/lang/Object", name := "<init>", desc := "()V" } : Jvm.MethodName)) ∈ tb := tb_of (List.mem_of_getElem? (i := 92) rfl) rfl
theorem tw_93 : (Jvm.Cond.fieldLink "java/lang/Throwable" (13 : Nat) "java/lang/Throwable" "UNASSIGNED_STACK" "[Ljava/lang/StackTraceElement;") ∈ tb := tb_of (List.mem_of_getElem? (i := 93) rfl) rfl
theorem tw_95 : (Jvm.Cond.fieldLink "java/lang/Throwable" (20 : Nat) "java/lang/Throwable" "SUPPRESSED_SENTINEL" "Ljava/util/List;") ∈ tb := tb_of (List.mem_of_getElem? (i := 95) rfl) rfl
theorem tw_97 : (Jvm.Cond.methodLink "java/lang/Throwable" (27 : Nat) ({ cls := "java/lang/Throwable", name := "fillInStackTrace", desc := "()Ljava/lang/Throwable;" } : Jvm.MethodName)) ∈ tb := tb_of (List.mem_of_getElem? (i := 97) rfl) rfl
theorem tw_98 : (Jvm.Cond.instanceMethod ({ cls := "java/lang/Throwable", name := "fillInStackTrace", desc := "()Ljava/lang/Throwable;" } : Jvm.MethodName)) ∈ tb := tb_of (List.mem_of_getElem? (i := 98) rfl) rfl
theorem tw_99 : (Jvm.Cond.sameMethod "java/lang/Throwable" "java/lang/Throwable" "fillInStackTrace" "()Ljava/lang/Throwable;") ∈ tb := tb_of (List.mem_of_getElem? (i := 99) rfl) rfl
theorem tw_100 : (Jvm.Cond.selects "java/lang/IndexOutOfBoundsException" ({ cls := "java/lang/Throwable", name := "fillInStackTrace", desc := "()Ljava/lang/Throwable;" } : Jvm.MethodName) ({ cls := "java/lang/Throwable", name := "fillInStackTrace", desc := "()Ljava/lang/Throwable;" } : Jvm.MethodName)) ∈ tb := tb_of (List.mem_of_getElem? (i := 100) rfl) rfl
theorem tw_101 : (Jvm.Cond.codeSync ({ cls := "java/lang/Throwable", name := "fillInStackTrace", desc := "()Ljava/lang/Throwable;" } : Jvm.MethodName) prog_8_method_18_code (1 : Nat) (Option.some (Jvm.ClassFile.FieldType.object "java/lang/Throwable"))) ∈ tb := tb_of (List.mem_of_getElem? (i := 101) rfl) rfl
theorem tw_102 : (Jvm.Cond.methodLink "java/lang/Throwable" (202 : Nat) ({ cls := "java/lang/Throwable", name := "fillInStackTrace", desc := "(I)Ljava/lang/Throwable;" } : Jvm.MethodName)) ∈ tb := tb_of (List.mem_of_getElem? (i := 102) rfl) rfl
theorem tw_104 : (Jvm.Cond.instanceMethod ({ cls := "java/lang/Throwable", name := "fillInStackTrace", desc := "(I)Ljava/lang/Throwable;" } : Jvm.MethodName)) ∈ tb := tb_of (List.mem_of_getElem? (i := 104) rfl) rfl
theorem tw_105 : (Jvm.Cond.instantiable "java/lang/Throwable" (6 : Nat)) ∈ tb := tb_of (List.mem_of_getElem? (i := 105) rfl) rfl
theorem tw_106 : (Jvm.Cond.native ({ cls := "java/lang/Throwable", name := "fillInStackTrace", desc := "(I)Ljava/lang/Throwable;" } : Jvm.MethodName)) ∈ tb := tb_of (List.mem_of_getElem? (i := 106) rfl) rfl
theorem tw_107 : (Jvm.Cond.methodLink "SegmentBox" (40 : Nat) ({ cls := "java/lang/IllegalArgumentException", name := "<init>", desc := "()V" } : Jvm.MethodName)) ∈ tb := tb_of (List.mem_of_getElem? (i := 107) rfl) rfl
theorem tw_108 : (Jvm.Cond.instanceMethod ({ cls := "java/lang/IllegalArgumentException", name := "<init>", desc := "()V" } : Jvm.MethodName)) ∈ tb := tb_of (List.mem_of_getElem? (i := 108) rfl) rfl
theorem tw_109 : (Jvm.Cond.code ({ cls := "java/lang/IllegalArgumentException", name := "<init>", desc := "()V" } : Jvm.MethodName) prog_5_method_1_code (1 : Nat) (Option.none : Option Jvm.ClassFile.FieldType)) ∈ tb := tb_of (List.mem_of_getElem? (i := 109) rfl) rfl
theorem tw_110 : (Jvm.Cond.methodLink "java/lang/IllegalArgumentException" (1 : Nat) ({ cls := "java/lang/RuntimeException", name := "<init>", desc := "()V" } : Jvm.MethodName)) ∈ tb := tb_of (List.mem_of_getElem? (i := 110) rfl) rfl
theorem tw_111 : (Jvm.Cond.instanceMethod ({ cls := "java/lang/RuntimeException", name := "<init>", desc := "()V" } : Jvm.MethodName)) ∈ tb := tb_of (List.mem_of_getElem? (i := 111) rfl) rfl
theorem tw_112 : (Jvm.Cond.code ({ cls := "java/lang/RuntimeException", name := "<init>", desc := "()V" } : Jvm.MethodName) prog_7_method_1_code (1 : Nat) (Option.none : Option Jvm.ClassFile.FieldType)) ∈ tb := tb_of (List.mem_of_getElem? (i := 112) rfl) rfl
theorem tw_113 : (Jvm.Cond.methodLink "java/lang/RuntimeException" (1 : Nat) ({ cls := "java/lang/Exception", name := "<init>", desc := "()V" } : Jvm.MethodName)) ∈ tb := tb_of (List.mem_of_getElem? (i := 113) rfl) rfl
theorem tw_114 : (Jvm.Cond.instanceMethod ({ cls := "java/lang/Exception", name := "<init>", desc := "()V" } : Jvm.MethodName)) ∈ tb := tb_of (List.mem_of_getElem? (i := 114) rfl) rfl
theorem tw_115 : (Jvm.Cond.code ({ cls := "java/lang/Exception", name := "<init>", desc := "()V" } : Jvm.MethodName) prog_4_method_1_code (1 : Nat) (Option.none : Option Jvm.ClassFile.FieldType)) ∈ tb := tb_of (List.mem_of_getElem? (i := 115) rfl) rfl
theorem tw_116 : (Jvm.Cond.methodLink "java/lang/Exception" (1 : Nat) ({ cls := "java/lang/Throwable", name := "<init>", desc := "()V" } : Jvm.MethodName)) ∈ tb := tb_of (List.mem_of_getElem? (i := 116) rfl) rfl
theorem tw_117 : (Jvm.Cond.fieldLink "java/lang/Throwable" (198 : Nat) "java/lang/Throwable" "backtrace" "Ljava/lang/Object;") ∈ tb := tb_of (List.mem_of_getElem? (i := 117) rfl) rfl
theorem tw_118 : (Jvm.Cond.fieldLink "java/lang/Throwable" (7 : Nat) "java/lang/Throwable" "cause" "Ljava/lang/Throwable;") ∈ tb := tb_of (List.mem_of_getElem? (i := 118) rfl) rfl
theorem tw_119 : (Jvm.Cond.fieldLink "java/lang/Throwable" (17 : Nat) "java/lang/Throwable" "stackTrace" "[Ljava/lang/StackTraceElement;") ∈ tb := tb_of (List.mem_of_getElem? (i := 119) rfl) rfl
theorem tw_120 : (Jvm.Cond.fieldLink "java/lang/Throwable" (24 : Nat) "java/lang/Throwable" "suppressedExceptions" "Ljava/util/List;") ∈ tb := tb_of (List.mem_of_getElem? (i := 120) rfl) rfl
theorem tw_121 : (Jvm.Cond.soleField "java/lang/Throwable" "backtrace") ∈ tb := tb_of (List.mem_of_getElem? (i := 121) rfl) rfl
theorem tw_122 : (Jvm.Cond.soleField "java/lang/Throwable" "detailMessage") ∈ tb := tb_of (List.mem_of_getElem? (i := 122) rfl) rfl
theorem tw_123 : (Jvm.Cond.soleField "java/lang/Throwable" "cause") ∈ tb := tb_of (List.mem_of_getElem? (i := 123) rfl) rfl
theorem tw_124 : (Jvm.Cond.soleField "java/lang/Throwable" "stackTrace") ∈ tb := tb_of (List.mem_of_getElem? (i := 124) rfl) rfl
theorem tw_125 : (Jvm.Cond.lays "java/lang/IllegalArgumentException" "java/lang/Throwable" "depth" "I") ∈ tb := tb_of (List.mem_of_getElem? (i := 125) rfl) rfl
theorem tw_126 : (Jvm.Cond.soleField "java/lang/Throwable" "depth") ∈ tb := tb_of (List.mem_of_getElem? (i := 126) rfl) rfl
theorem tw_127 : (Jvm.Cond.soleField "java/lang/Throwable" "suppressedExceptions") ∈ tb := tb_of (List.mem_of_getElem? (i := 127) rfl) rfl
theorem tw_128 : (Jvm.Cond.superclass "java/lang/IllegalArgumentException" "java/lang/RuntimeException") ∈ tb := tb_of (List.mem_of_getElem? (i := 128) rfl) rfl
theorem tw_129 : (Jvm.Cond.methodLink "SegmentBox" (41 : Nat) ({ cls := "SegmentBox", name := "isNear", desc := "(I)Z" } : Jvm.MethodName)) ∈ tb := tb_of (List.mem_of_getElem? (i := 129) rfl) rfl
theorem tw_131 : (Jvm.Cond.instanceMethod ({ cls := "SegmentBox", name := "isNear", desc := "(I)Z" } : Jvm.MethodName)) ∈ tb := tb_of (List.mem_of_getElem? (i := 131) rfl) rfl
theorem tw_132 : (Jvm.Cond.code ({ cls := "SegmentBox", name := "isNear", desc := "(I)Z" } : Jvm.MethodName) prog_1_method_4_code (2 : Nat) (Option.some Jvm.ClassFile.FieldType.boolean)) ∈ tb := tb_of (List.mem_of_getElem? (i := 132) rfl) rfl
theorem tw_133 : (Jvm.Cond.methodLink "SegmentBoxLaw" (55 : Nat) ({ cls := "SegmentBoxLaw", name := "told", desc := "(LSegmentBox;I[J)I" } : Jvm.MethodName)) ∈ tb := tb_of (List.mem_of_getElem? (i := 133) rfl) rfl
theorem tw_134 : (Jvm.Cond.static ({ cls := "SegmentBoxLaw", name := "told", desc := "(LSegmentBox;I[J)I" } : Jvm.MethodName)) ∈ tb := tb_of (List.mem_of_getElem? (i := 134) rfl) rfl
theorem tw_135 : (Jvm.Cond.codeWith ({ cls := "SegmentBoxLaw", name := "told", desc := "(LSegmentBox;I[J)I" } : Jvm.MethodName) method_4_code (4 : Nat) (Option.some Jvm.ClassFile.FieldType.int) [((0 : Nat), (9 : Nat), (12 : Nat), (13 : Nat))]) ∈ tb := tb_of (List.mem_of_getElem? (i := 135) rfl) rfl
theorem tw_136 : (Jvm.Cond.methodLink "SegmentBoxLaw" (15 : Nat) ({ cls := "SegmentBox", name := "told", desc := "(I)I" } : Jvm.MethodName)) ∈ tb := tb_of (List.mem_of_getElem? (i := 136) rfl) rfl
theorem tw_137 : (Jvm.Cond.instanceMethod ({ cls := "SegmentBox", name := "told", desc := "(I)I" } : Jvm.MethodName)) ∈ tb := tb_of (List.mem_of_getElem? (i := 137) rfl) rfl
theorem tw_138 : (Jvm.Cond.selects "SegmentBox" ({ cls := "SegmentBox", name := "told", desc := "(I)I" } : Jvm.MethodName) ({ cls := "SegmentBox", name := "told", desc := "(I)I" } : Jvm.MethodName)) ∈ tb := tb_of (List.mem_of_getElem? (i := 138) rfl) rfl
theorem tw_139 : (Jvm.Cond.code ({ cls := "SegmentBox", name := "told", desc := "(I)I" } : Jvm.MethodName) prog_1_method_11_code (2 : Nat) (Option.some Jvm.ClassFile.FieldType.int)) ∈ tb := tb_of (List.mem_of_getElem? (i := 139) rfl) rfl
theorem tw_140 : (Jvm.Cond.methodLink "SegmentBox" (51 : Nat) ({ cls := "SegmentBox", name := "counted", desc := "()I" } : Jvm.MethodName)) ∈ tb := tb_of (List.mem_of_getElem? (i := 140) rfl) rfl
theorem tw_142 : (Jvm.Cond.instanceMethod ({ cls := "SegmentBox", name := "counted", desc := "()I" } : Jvm.MethodName)) ∈ tb := tb_of (List.mem_of_getElem? (i := 142) rfl) rfl
theorem tw_143 : (Jvm.Cond.code ({ cls := "SegmentBox", name := "counted", desc := "()I" } : Jvm.MethodName) prog_1_method_8_code (4 : Nat) (Option.some Jvm.ClassFile.FieldType.int)) ∈ tb := tb_of (List.mem_of_getElem? (i := 143) rfl) rfl
theorem tw_144 : (Jvm.Cond.methodLink "SegmentBox" (54 : Nat) ({ cls := "SegmentBox", name := "blocks", desc := "()I" } : Jvm.MethodName)) ∈ tb := tb_of (List.mem_of_getElem? (i := 144) rfl) rfl
theorem tw_146 : (Jvm.Cond.instanceMethod ({ cls := "SegmentBox", name := "blocks", desc := "()I" } : Jvm.MethodName)) ∈ tb := tb_of (List.mem_of_getElem? (i := 146) rfl) rfl
theorem tw_147 : (Jvm.Cond.code ({ cls := "SegmentBox", name := "blocks", desc := "()I" } : Jvm.MethodName) prog_1_method_10_code (4 : Nat) (Option.some Jvm.ClassFile.FieldType.int)) ∈ tb := tb_of (List.mem_of_getElem? (i := 147) rfl) rfl
theorem tw_148 : (Jvm.Cond.methodLink "SegmentBox" (47 : Nat) ({ cls := "SegmentBox", name := "begins", desc := "()J" } : Jvm.MethodName)) ∈ tb := tb_of (List.mem_of_getElem? (i := 148) rfl) rfl
theorem tw_150 : (Jvm.Cond.instanceMethod ({ cls := "SegmentBox", name := "begins", desc := "()J" } : Jvm.MethodName)) ∈ tb := tb_of (List.mem_of_getElem? (i := 150) rfl) rfl
theorem tw_151 : (Jvm.Cond.code ({ cls := "SegmentBox", name := "begins", desc := "()J" } : Jvm.MethodName) prog_1_method_9_code (1 : Nat) (Option.some Jvm.ClassFile.FieldType.long)) ∈ tb := tb_of (List.mem_of_getElem? (i := 151) rfl) rfl
theorem tw_152 : (Jvm.Cond.constantLong "SegmentBox" (45 : Nat) (-1 : Int64)) ∈ tb := tb_of (List.mem_of_getElem? (i := 152) rfl) rfl
theorem tw_153 : (Jvm.Cond.methodLink "SegmentBoxLaw" (59 : Nat) ({ cls := "SegmentBoxLaw", name := "block", desc := "(LSegmentBox;IZ[J)I" } : Jvm.MethodName)) ∈ tb := tb_of (List.mem_of_getElem? (i := 153) rfl) rfl
theorem tw_154 : (Jvm.Cond.static ({ cls := "SegmentBoxLaw", name := "block", desc := "(LSegmentBox;IZ[J)I" } : Jvm.MethodName)) ∈ tb := tb_of (List.mem_of_getElem? (i := 154) rfl) rfl
theorem tw_155 : (Jvm.Cond.codeWith ({ cls := "SegmentBoxLaw", name := "block", desc := "(LSegmentBox;IZ[J)I" } : Jvm.MethodName) method_5_code (5 : Nat) (Option.some Jvm.ClassFile.FieldType.int) [((0 : Nat), (10 : Nat), (13 : Nat), (23 : Nat))]) ∈ tb := tb_of (List.mem_of_getElem? (i := 155) rfl) rfl
theorem tw_156 : (Jvm.Cond.classLink "SegmentBoxLaw" (23 : Nat) "java/lang/IndexOutOfBoundsException") ∈ tb := tb_of (List.mem_of_getElem? (i := 156) rfl) rfl
theorem tw_157 : (Jvm.Cond.methodLink "SegmentBoxLaw" (19 : Nat) ({ cls := "SegmentBox", name := "block", desc := "(IZ)I" } : Jvm.MethodName)) ∈ tb := tb_of (List.mem_of_getElem? (i := 157) rfl) rfl
theorem tw_158 : (Jvm.Cond.instanceMethod ({ cls := "SegmentBox", name := "block", desc := "(IZ)I" } : Jvm.MethodName)) ∈ tb := tb_of (List.mem_of_getElem? (i := 158) rfl) rfl
theorem tw_159 : (Jvm.Cond.selects "SegmentBox" ({ cls := "SegmentBox", name := "block", desc := "(IZ)I" } : Jvm.MethodName) ({ cls := "SegmentBox", name := "block", desc := "(IZ)I" } : Jvm.MethodName)) ∈ tb := tb_of (List.mem_of_getElem? (i := 159) rfl) rfl
theorem tw_160 : (Jvm.Cond.code ({ cls := "SegmentBox", name := "block", desc := "(IZ)I" } : Jvm.MethodName) prog_1_method_12_code (7 : Nat) (Option.some Jvm.ClassFile.FieldType.int)) ∈ tb := tb_of (List.mem_of_getElem? (i := 160) rfl) rfl
theorem tw_161 : (Jvm.Cond.classLink "SegmentBox" (57 : Nat) "java/lang/IndexOutOfBoundsException") ∈ tb := tb_of (List.mem_of_getElem? (i := 161) rfl) rfl
theorem tw_162 : (Jvm.Cond.instantiable "java/lang/IndexOutOfBoundsException" (6 : Nat)) ∈ tb := tb_of (List.mem_of_getElem? (i := 162) rfl) rfl
theorem tw_164 : (Jvm.Cond.selects "java/lang/IndexOutOfBoundsException" ({ cls := "java/lang/Throwable", name := "fillInStackTrace", desc := "(I)Ljava/lang/Throwable;" } : Jvm.MethodName) ({ cls := "java/lang/Throwable", name := "fillInStackTrace", desc := "(I)Ljava/lang/Throwable;" } : Jvm.MethodName)) ∈ tb := tb_of (List.mem_of_getElem? (i := 164) rfl) rfl
theorem tw_165 : (Jvm.Cond.lays "java/lang/IndexOutOfBoundsException" "java/lang/Throwable" "cause" "Ljava/lang/Throwable;") ∈ tb := tb_of (List.mem_of_getElem? (i := 165) rfl) rfl
theorem tw_166 : (Jvm.Cond.lays "java/lang/IndexOutOfBoundsException" "java/lang/Throwable" "stackTrace" "[Ljava/lang/StackTraceElement;") ∈ tb := tb_of (List.mem_of_getElem? (i := 166) rfl) rfl
theorem tw_167 : (Jvm.Cond.lays "java/lang/IndexOutOfBoundsException" "java/lang/Throwable" "suppressedExceptions" "Ljava/util/List;") ∈ tb := tb_of (List.mem_of_getElem? (i := 167) rfl) rfl
theorem tw_168 : (Jvm.Cond.lays "java/lang/IndexOutOfBoundsException" "java/lang/Throwable" "detailMessage" "Ljava/lang/String;") ∈ tb := tb_of (List.mem_of_getElem? (i := 168) rfl) rfl
theorem tw_169 : (Jvm.Cond.lays "java/lang/IndexOutOfBoundsException" "java/lang/Throwable" "backtrace" "Ljava/lang/Object;") ∈ tb := tb_of (List.mem_of_getElem? (i := 169) rfl) rfl
theorem tw_170 : (Jvm.Cond.methodLink "SegmentBox" (59 : Nat) ({ cls := "java/lang/IndexOutOfBoundsException", name := "<init>", desc := "()V" } : Jvm.MethodName)) ∈ tb := tb_of (List.mem_of_getElem? (i := 170) rfl) rfl
theorem tw_171 : (Jvm.Cond.instanceMethod ({ cls := "java/lang/IndexOutOfBoundsException", name := "<init>", desc := "()V" } : Jvm.MethodName)) ∈ tb := tb_of (List.mem_of_getElem? (i := 171) rfl) rfl
theorem tw_172 : (Jvm.Cond.code ({ cls := "java/lang/IndexOutOfBoundsException", name := "<init>", desc := "()V" } : Jvm.MethodName) prog_6_method_1_code (1 : Nat) (Option.none : Option Jvm.ClassFile.FieldType)) ∈ tb := tb_of (List.mem_of_getElem? (i := 172) rfl) rfl
theorem tw_173 : (Jvm.Cond.methodLink "java/lang/IndexOutOfBoundsException" (1 : Nat) ({ cls := "java/lang/RuntimeException", name := "<init>", desc := "()V" } : Jvm.MethodName)) ∈ tb := tb_of (List.mem_of_getElem? (i := 173) rfl) rfl
theorem tw_174 : (Jvm.Cond.lays "java/lang/IndexOutOfBoundsException" "java/lang/Throwable" "depth" "I") ∈ tb := tb_of (List.mem_of_getElem? (i := 174) rfl) rfl
theorem tw_175 : (Jvm.Cond.superclass "java/lang/IndexOutOfBoundsException" "java/lang/RuntimeException") ∈ tb := tb_of (List.mem_of_getElem? (i := 175) rfl) rfl
theorem tw_176 : (Jvm.Cond.classLink "SegmentBoxLaw" (26 : Nat) "SegmentBoxModel") ∈ tb := tb_of (List.mem_of_getElem? (i := 176) rfl) rfl
theorem tw_177 : (Jvm.Cond.instantiable "SegmentBoxModel" (8 : Nat)) ∈ tb := tb_of (List.mem_of_getElem? (i := 177) rfl) rfl
theorem tw_178 : (Jvm.Cond.methodLink "SegmentBoxLaw" (28 : Nat) ({ cls := "SegmentBoxModel", name := "<init>", desc := "()V" } : Jvm.MethodName)) ∈ tb := tb_of (List.mem_of_getElem? (i := 178) rfl) rfl
theorem tw_179 : (Jvm.Cond.instanceMethod ({ cls := "SegmentBoxModel", name := "<init>", desc := "()V" } : Jvm.MethodName)) ∈ tb := tb_of (List.mem_of_getElem? (i := 179) rfl) rfl
theorem tw_180 : (Jvm.Cond.code ({ cls := "SegmentBoxModel", name := "<init>", desc := "()V" } : Jvm.MethodName) prog_3_method_1_code (1 : Nat) (Option.none : Option Jvm.ClassFile.FieldType)) ∈ tb := tb_of (List.mem_of_getElem? (i := 180) rfl) rfl
theorem tw_181 : (Jvm.Cond.methodLink "SegmentBoxModel" (1 : Nat) ({ cls := "java/lang/Object", name := "<init>", desc := "()V" } : Jvm.MethodName)) ∈ tb := tb_of (List.mem_of_getElem? (i := 181) rfl) rfl
theorem tw_182 : (Jvm.Cond.fieldLink "SegmentBoxModel" (9 : Nat) "SegmentBoxModel" "unread" "[I") ∈ tb := tb_of (List.mem_of_getElem? (i := 182) rfl) rfl
theorem tw_183 : (Jvm.Cond.fieldLink "SegmentBoxModel" (13 : Nat) "SegmentBoxModel" "byteAt" "[I") ∈ tb := tb_of (List.mem_of_getElem? (i := 183) rfl) rfl
theorem tw_184 : (Jvm.Cond.fieldLink "SegmentBoxModel" (16 : Nat) "SegmentBoxModel" "isHeld" "[Z") ∈ tb := tb_of (List.mem_of_getElem? (i := 184) rfl) rfl
theorem tw_185 : (Jvm.Cond.fieldLink "SegmentBoxModel" (24 : Nat) "SegmentBoxModel" "next" "I") ∈ tb := tb_of (List.mem_of_getElem? (i := 185) rfl) rfl
theorem tw_186 : (Jvm.Cond.fieldLink "SegmentBoxModel" (27 : Nat) "SegmentBoxModel" "many" "I") ∈ tb := tb_of (List.mem_of_getElem? (i := 186) rfl) rfl
theorem tw_187 : (Jvm.Cond.fieldLink "SegmentBoxModel" (34 : Nat) "SegmentBoxModel" "end" "I") ∈ tb := tb_of (List.mem_of_getElem? (i := 187) rfl) rfl
theorem tw_188 : (Jvm.Cond.fieldLink "SegmentBoxModel" (20 : Nat) "SegmentBoxModel" "thrown" "I") ∈ tb := tb_of (List.mem_of_getElem? (i := 188) rfl) rfl
theorem tw_189 : (Jvm.Cond.fieldLink "SegmentBoxModel" (30 : Nat) "SegmentBoxModel" "hasEnd" "Z") ∈ tb := tb_of (List.mem_of_getElem? (i := 189) rfl) rfl
theorem tw_190 : (Jvm.Cond.laysFinal "SegmentBoxModel" "SegmentBoxModel" "unread" "[I") ∈ tb := tb_of (List.mem_of_getElem? (i := 190) rfl) rfl
theorem tw_191 : (Jvm.Cond.soleField "SegmentBoxModel" "unread") ∈ tb := tb_of (List.mem_of_getElem? (i := 191) rfl) rfl
theorem tw_192 : (Jvm.Cond.laysFinal "SegmentBoxModel" "SegmentBoxModel" "byteAt" "[I") ∈ tb := tb_of (List.mem_of_getElem? (i := 192) rfl) rfl
theorem tw_193 : (Jvm.Cond.soleField "SegmentBoxModel" "byteAt") ∈ tb := tb_of (List.mem_of_getElem? (i := 193) rfl) rfl
theorem tw_194 : (Jvm.Cond.laysFinal "SegmentBoxModel" "SegmentBoxModel" "isHeld" "[Z") ∈ tb := tb_of (List.mem_of_getElem? (i := 194) rfl) rfl
theorem tw_195 : (Jvm.Cond.soleField "SegmentBoxModel" "isHeld") ∈ tb := tb_of (List.mem_of_getElem? (i := 195) rfl) rfl
theorem tw_196 : (Jvm.Cond.lays "SegmentBoxModel" "SegmentBoxModel" "next" "I") ∈ tb := tb_of (List.mem_of_getElem? (i := 196) rfl) rfl
theorem tw_197 : (Jvm.Cond.soleField "SegmentBoxModel" "next") ∈ tb := tb_of (List.mem_of_getElem? (i := 197) rfl) rfl
theorem tw_198 : (Jvm.Cond.lays "SegmentBoxModel" "SegmentBoxModel" "many" "I") ∈ tb := tb_of (List.mem_of_getElem? (i := 198) rfl) rfl
theorem tw_199 : (Jvm.Cond.soleField "SegmentBoxModel" "many") ∈ tb := tb_of (List.mem_of_getElem? (i := 199) rfl) rfl
theorem tw_200 : (Jvm.Cond.lays "SegmentBoxModel" "SegmentBoxModel" "end" "I") ∈ tb := tb_of (List.mem_of_getElem? (i := 200) rfl) rfl
theorem tw_201 : (Jvm.Cond.soleField "SegmentBoxModel" "end") ∈ tb := tb_of (List.mem_of_getElem? (i := 201) rfl) rfl
theorem tw_202 : (Jvm.Cond.lays "SegmentBoxModel" "SegmentBoxModel" "thrown" "I") ∈ tb := tb_of (List.mem_of_getElem? (i := 202) rfl) rfl
theorem tw_203 : (Jvm.Cond.soleField "SegmentBoxModel" "thrown") ∈ tb := tb_of (List.mem_of_getElem? (i := 203) rfl) rfl
theorem tw_204 : (Jvm.Cond.lays "SegmentBoxModel" "SegmentBoxModel" "hasEnd" "Z") ∈ tb := tb_of (List.mem_of_getElem? (i := 204) rfl) rfl
theorem tw_205 : (Jvm.Cond.soleField "SegmentBoxModel" "hasEnd") ∈ tb := tb_of (List.mem_of_getElem? (i := 205) rfl) rfl
theorem tw_206 : (Jvm.Cond.superclass "SegmentBoxModel" "java/lang/Object") ∈ tb := tb_of (List.mem_of_getElem? (i := 206) rfl) rfl
theorem tw_207 : (Jvm.Cond.arrayClass Jvm.ClassFile.FieldType.int) ∈ tb := tb_of (List.mem_of_getElem? (i := 207) rfl) rfl
theorem tw_208 : (Jvm.Cond.arrayClass Jvm.ClassFile.FieldType.boolean) ∈ tb := tb_of (List.mem_of_getElem? (i := 208) rfl) rfl
theorem tw_209 : (Jvm.Cond.methodLink "SegmentBoxLaw" (42 : Nat) ({ cls := "SegmentBoxModel", name := "thrown", desc := "()I" } : Jvm.MethodName)) ∈ tb := tb_of (List.mem_of_getElem? (i := 209) rfl) rfl
theorem tw_210 : (Jvm.Cond.instanceMethod ({ cls := "SegmentBoxModel", name := "thrown", desc := "()I" } : Jvm.MethodName)) ∈ tb := tb_of (List.mem_of_getElem? (i := 210) rfl) rfl
theorem tw_211 : (Jvm.Cond.selects "SegmentBoxModel" ({ cls := "SegmentBoxModel", name := "thrown", desc := "()I" } : Jvm.MethodName) ({ cls := "SegmentBoxModel", name := "thrown", desc := "()I" } : Jvm.MethodName)) ∈ tb := tb_of (List.mem_of_getElem? (i := 211) rfl) rfl
theorem tw_212 : (Jvm.Cond.code ({ cls := "SegmentBoxModel", name := "thrown", desc := "()I" } : Jvm.MethodName) prog_3_method_2_code (1 : Nat) (Option.some Jvm.ClassFile.FieldType.int)) ∈ tb := tb_of (List.mem_of_getElem? (i := 212) rfl) rfl
theorem tw_213 : (Jvm.Cond.methodLink "SegmentBoxLaw" (33 : Nat) ({ cls := "SegmentBoxModel", name := "open", desc := "(I)V" } : Jvm.MethodName)) ∈ tb := tb_of (List.mem_of_getElem? (i := 213) rfl) rfl
theorem tw_214 : (Jvm.Cond.instanceMethod ({ cls := "SegmentBoxModel", name := "open", desc := "(I)V" } : Jvm.MethodName)) ∈ tb := tb_of (List.mem_of_getElem? (i := 214) rfl) rfl
theorem tw_215 : (Jvm.Cond.selects "SegmentBoxModel" ({ cls := "SegmentBoxModel", name := "open", desc := "(I)V" } : Jvm.MethodName) ({ cls := "SegmentBoxModel", name := "open", desc := "(I)V" } : Jvm.MethodName)) ∈ tb := tb_of (List.mem_of_getElem? (i := 215) rfl) rfl
theorem tw_216 : (Jvm.Cond.code ({ cls := "SegmentBoxModel", name := "open", desc := "(I)V" } : Jvm.MethodName) prog_3_method_3_code (3 : Nat) (Option.none : Option Jvm.ClassFile.FieldType)) ∈ tb := tb_of (List.mem_of_getElem? (i := 216) rfl) rfl
theorem tw_217 : (Jvm.Cond.methodLink "SegmentBoxLaw" (41 : Nat) ({ cls := "SegmentBoxModel", name := "segment", desc := "(IJI)I" } : Jvm.MethodName)) ∈ tb := tb_of (List.mem_of_getElem? (i := 217) rfl) rfl
theorem tw_218 : (Jvm.Cond.instanceMethod ({ cls := "SegmentBoxModel", name := "segment", desc := "(IJI)I" } : Jvm.MethodName)) ∈ tb := tb_of (List.mem_of_getElem? (i := 218) rfl) rfl
theorem tw_219 : (Jvm.Cond.selects "SegmentBoxModel" ({ cls := "SegmentBoxModel", name := "segment", desc := "(IJI)I" } : Jvm.MethodName) ({ cls := "SegmentBoxModel", name := "segment", desc := "(IJI)I" } : Jvm.MethodName)) ∈ tb := tb_of (List.mem_of_getElem? (i := 219) rfl) rfl
theorem tw_220 : (Jvm.Cond.code ({ cls := "SegmentBoxModel", name := "segment", desc := "(IJI)I" } : Jvm.MethodName) prog_3_method_5_code (8 : Nat) (Option.some Jvm.ClassFile.FieldType.int)) ∈ tb := tb_of (List.mem_of_getElem? (i := 220) rfl) rfl
theorem tw_221 : (Jvm.Cond.methodLink "SegmentBoxModel" (37 : Nat) ({ cls := "SegmentBoxModel", name := "up", desc := "()V" } : Jvm.MethodName)) ∈ tb := tb_of (List.mem_of_getElem? (i := 221) rfl) rfl
theorem tw_223 : (Jvm.Cond.instanceMethod ({ cls := "SegmentBoxModel", name := "up", desc := "()V" } : Jvm.MethodName)) ∈ tb := tb_of (List.mem_of_getElem? (i := 223) rfl) rfl
theorem tw_224 : (Jvm.Cond.code ({ cls := "SegmentBoxModel", name := "up", desc := "()V" } : Jvm.MethodName) prog_3_method_4_code (2 : Nat) (Option.none : Option Jvm.ClassFile.FieldType)) ∈ tb := tb_of (List.mem_of_getElem? (i := 224) rfl) rfl
theorem tw_225 : (Jvm.Cond.methodLink "SegmentBoxLaw" (50 : Nat) ({ cls := "SegmentBoxModel", name := "end", desc := "(I)Z" } : Jvm.MethodName)) ∈ tb := tb_of (List.mem_of_getElem? (i := 225) rfl) rfl
theorem tw_226 : (Jvm.Cond.instanceMethod ({ cls := "SegmentBoxModel", name := "end", desc := "(I)Z" } : Jvm.MethodName)) ∈ tb := tb_of (List.mem_of_getElem? (i := 226) rfl) rfl
theorem tw_227 : (Jvm.Cond.selects "SegmentBoxModel" ({ cls := "SegmentBoxModel", name := "end", desc := "(I)Z" } : Jvm.MethodName) ({ cls := "SegmentBoxModel", name := "end", desc := "(I)Z" } : Jvm.MethodName)) ∈ tb := tb_of (List.mem_of_getElem? (i := 227) rfl) rfl
theorem tw_228 : (Jvm.Cond.code ({ cls := "SegmentBoxModel", name := "end", desc := "(I)Z" } : Jvm.MethodName) prog_3_method_6_code (4 : Nat) (Option.some Jvm.ClassFile.FieldType.boolean)) ∈ tb := tb_of (List.mem_of_getElem? (i := 228) rfl) rfl
theorem tw_229 : (Jvm.Cond.methodLink "SegmentBoxLaw" (54 : Nat) ({ cls := "SegmentBoxModel", name := "read", desc := "()I" } : Jvm.MethodName)) ∈ tb := tb_of (List.mem_of_getElem? (i := 229) rfl) rfl
theorem tw_230 : (Jvm.Cond.instanceMethod ({ cls := "SegmentBoxModel", name := "read", desc := "()I" } : Jvm.MethodName)) ∈ tb := tb_of (List.mem_of_getElem? (i := 230) rfl) rfl
theorem tw_231 : (Jvm.Cond.selects "SegmentBoxModel" ({ cls := "SegmentBoxModel", name := "read", desc := "()I" } : Jvm.MethodName) ({ cls := "SegmentBoxModel", name := "read", desc := "()I" } : Jvm.MethodName)) ∈ tb := tb_of (List.mem_of_getElem? (i := 231) rfl) rfl
theorem tw_232 : (Jvm.Cond.code ({ cls := "SegmentBoxModel", name := "read", desc := "()I" } : Jvm.MethodName) prog_3_method_7_code (3 : Nat) (Option.some Jvm.ClassFile.FieldType.int)) ∈ tb := tb_of (List.mem_of_getElem? (i := 232) rfl) rfl
theorem tw_233 : (Jvm.Cond.methodLink "SegmentBoxLaw" (58 : Nat) ({ cls := "SegmentBoxModel", name := "told", desc := "(I)I" } : Jvm.MethodName)) ∈ tb := tb_of (List.mem_of_getElem? (i := 233) rfl) rfl
theorem tw_234 : (Jvm.Cond.instanceMethod ({ cls := "SegmentBoxModel", name := "told", desc := "(I)I" } : Jvm.MethodName)) ∈ tb := tb_of (List.mem_of_getElem? (i := 234) rfl) rfl
theorem tw_235 : (Jvm.Cond.selects "SegmentBoxModel" ({ cls := "SegmentBoxModel", name := "told", desc := "(I)I" } : Jvm.MethodName) ({ cls := "SegmentBoxModel", name := "told", desc := "(I)I" } : Jvm.MethodName)) ∈ tb := tb_of (List.mem_of_getElem? (i := 235) rfl) rfl
theorem tw_236 : (Jvm.Cond.code ({ cls := "SegmentBoxModel", name := "told", desc := "(I)I" } : Jvm.MethodName) prog_3_method_9_code (4 : Nat) (Option.some Jvm.ClassFile.FieldType.int)) ∈ tb := tb_of (List.mem_of_getElem? (i := 236) rfl) rfl
theorem tw_237 : (Jvm.Cond.methodLink "SegmentBoxModel" (40 : Nat) ({ cls := "SegmentBoxModel", name := "from", desc := "(I)I" } : Jvm.MethodName)) ∈ tb := tb_of (List.mem_of_getElem? (i := 237) rfl) rfl
theorem tw_239 : (Jvm.Cond.instanceMethod ({ cls := "SegmentBoxModel", name := "from", desc := "(I)I" } : Jvm.MethodName)) ∈ tb := tb_of (List.mem_of_getElem? (i := 239) rfl) rfl
theorem tw_240 : (Jvm.Cond.code ({ cls := "SegmentBoxModel", name := "from", desc := "(I)I" } : Jvm.MethodName) prog_3_method_8_code (4 : Nat) (Option.some Jvm.ClassFile.FieldType.int)) ∈ tb := tb_of (List.mem_of_getElem? (i := 240) rfl) rfl
theorem tw_241 : (Jvm.Cond.methodLink "SegmentBoxLaw" (62 : Nat) ({ cls := "SegmentBoxModel", name := "block", desc := "(IZ)I" } : Jvm.MethodName)) ∈ tb := tb_of (List.mem_of_getElem? (i := 241) rfl) rfl
theorem tw_242 : (Jvm.Cond.instanceMethod ({ cls := "SegmentBoxModel", name := "block", desc := "(IZ)I" } : Jvm.MethodName)) ∈ tb := tb_of (List.mem_of_getElem? (i := 242) rfl) rfl
theorem tw_243 : (Jvm.Cond.selects "SegmentBoxModel" ({ cls := "SegmentBoxModel", name := "block", desc := "(IZ)I" } : Jvm.MethodName) ({ cls := "SegmentBoxModel", name := "block", desc := "(IZ)I" } : Jvm.MethodName)) ∈ tb := tb_of (List.mem_of_getElem? (i := 243) rfl) rfl
theorem tw_244 : (Jvm.Cond.code ({ cls := "SegmentBoxModel", name := "block", desc := "(IZ)I" } : Jvm.MethodName) prog_3_method_10_code (5 : Nat) (Option.some Jvm.ClassFile.FieldType.int)) ∈ tb := tb_of (List.mem_of_getElem? (i := 244) rfl) rfl
theorem tw_245 : (Jvm.Cond.methodLink "SegmentBoxLaw" (66 : Nat) ({ cls := "SegmentBoxModel", name := "held", desc := "(I)Z" } : Jvm.MethodName)) ∈ tb := tb_of (List.mem_of_getElem? (i := 245) rfl) rfl
theorem tw_246 : (Jvm.Cond.instanceMethod ({ cls := "SegmentBoxModel", name := "held", desc := "(I)Z" } : Jvm.MethodName)) ∈ tb := tb_of (List.mem_of_getElem? (i := 246) rfl) rfl
theorem tw_247 : (Jvm.Cond.selects "SegmentBoxModel" ({ cls := "SegmentBoxModel", name := "held", desc := "(I)Z" } : Jvm.MethodName) ({ cls := "SegmentBoxModel", name := "held", desc := "(I)Z" } : Jvm.MethodName)) ∈ tb := tb_of (List.mem_of_getElem? (i := 247) rfl) rfl
theorem tw_248 : (Jvm.Cond.code ({ cls := "SegmentBoxModel", name := "held", desc := "(I)Z" } : Jvm.MethodName) prog_3_method_11_code (3 : Nat) (Option.some Jvm.ClassFile.FieldType.boolean)) ∈ tb := tb_of (List.mem_of_getElem? (i := 248) rfl) rfl
theorem tw_249 : (Jvm.Cond.constantLong "SegmentBoxLaw" (34 : Nat) (4294967295 : Int64)) ∈ tb := tb_of (List.mem_of_getElem? (i := 249) rfl) rfl
theorem tw_250 : (Jvm.Cond.arrayClass Jvm.ClassFile.FieldType.long) ∈ tb := tb_of (List.mem_of_getElem? (i := 250) rfl) rfl
theorem tw_251 : (Jvm.Cond.sameMethod "java/lang/Throwable" "java/lang/Throwable" "fillInStackTrace" "(I)Ljava/lang/Throwable;") ∈ tb := tb_of (List.mem_of_getElem? (i := 251) rfl) rfl
theorem ts_0 : Cond.selects "SegmentBox" ⟨"SegmentBox", "window", "()I"⟩ ⟨"SegmentBox", "window", "()I"⟩ ∈ tb := tb_sel (List.mem_of_getElem? (i := 0) rfl) rfl
theorem ts_1 : Cond.selects "java/lang/Throwable" ⟨"java/lang/Throwable", "fillInStackTrace", "(I)Ljava/lang/Throwable;"⟩ ⟨"java/lang/Throwable", "fillInStackTrace", "(I)Ljava/lang/Throwable;"⟩ ∈ tb := tb_sel (List.mem_of_getElem? (i := 1) rfl) rfl
theorem ts_2 : Cond.selects "SegmentBox" ⟨"SegmentBox", "isNear", "(I)Z"⟩ ⟨"SegmentBox", "isNear", "(I)Z"⟩ ∈ tb := tb_sel (List.mem_of_getElem? (i := 2) rfl) rfl
theorem ts_3 : Cond.selects "SegmentBox" ⟨"SegmentBox", "counted", "()I"⟩ ⟨"SegmentBox", "counted", "()I"⟩ ∈ tb := tb_sel (List.mem_of_getElem? (i := 3) rfl) rfl
theorem ts_4 : Cond.selects "SegmentBox" ⟨"SegmentBox", "blocks", "()I"⟩ ⟨"SegmentBox", "blocks", "()I"⟩ ∈ tb := tb_sel (List.mem_of_getElem? (i := 4) rfl) rfl
theorem ts_5 : Cond.selects "SegmentBox" ⟨"SegmentBox", "begins", "()J"⟩ ⟨"SegmentBox", "begins", "()J"⟩ ∈ tb := tb_sel (List.mem_of_getElem? (i := 5) rfl) rfl
theorem ts_6 : Cond.selects "SegmentBoxModel" ⟨"SegmentBoxModel", "up", "()V"⟩ ⟨"SegmentBoxModel", "up", "()V"⟩ ∈ tb := tb_sel (List.mem_of_getElem? (i := 6) rfl) rfl
theorem ts_7 : Cond.selects "SegmentBoxModel" ⟨"SegmentBoxModel", "from", "(I)I"⟩ ⟨"SegmentBoxModel", "from", "(I)I"⟩ ∈ tb := tb_sel (List.mem_of_getElem? (i := 7) rfl) rfl
theorem in_Box : ∀ w ∈ u_ws R_Box F_Box 7, w ∈ tb := by
  intro w hw
  obtain ⟨k, hk, rfl⟩ := List.mem_map.mp hw
  have hk := List.mem_range.mp hk
  match k, hk with
  | 0, _ => exact tw_23
  | 1, _ => exact tw_25
  | 2, _ => exact tw_27
  | 3, _ => exact tw_29
  | 4, _ => exact tw_31
  | 5, _ => exact tw_33
  | 6, _ => exact tw_35
theorem in_Mod : ∀ w ∈ u_ws R_Mod F_Mod 8, w ∈ tb := by
  intro w hw
  obtain ⟨k, hk, rfl⟩ := List.mem_map.mp hw
  have hk := List.mem_range.mp hk
  match k, hk with
  | 0, _ => exact tw_190
  | 1, _ => exact tw_192
  | 2, _ => exact tw_194
  | 3, _ => exact tw_196
  | 4, _ => exact tw_198
  | 5, _ => exact tw_200
  | 6, _ => exact tw_202
  | 7, _ => exact tw_204
/-! methods: bytes, names, words -/
abbrev b_Box_init : ByteArray := prog_1_method_1_code
def y_Box_init : MethodName := ⟨R_Box, "<init>", "()V"⟩
abbrev w_Box_init : List Cond := .code y_Box_init b_Box_init 1 none :: tb
abbrev b_Box_open : ByteArray := prog_1_method_2_code
def y_Box_open : MethodName := ⟨R_Box, "open", "(I)V"⟩
abbrev w_Box_open : List Cond := .code y_Box_open b_Box_open 2 none :: tb
abbrev b_Box_window : ByteArray := prog_1_method_3_code
def y_Box_window : MethodName := ⟨R_Box, "window", "()I"⟩
abbrev w_Box_window : List Cond := .code y_Box_window b_Box_window 1 (some .int) :: tb
abbrev b_Box_isNear : ByteArray := prog_1_method_4_code
def y_Box_isNear : MethodName := ⟨R_Box, "isNear", "(I)Z"⟩
abbrev w_Box_isNear : List Cond := .code y_Box_isNear b_Box_isNear 2 (some .boolean) :: tb
abbrev b_Box_segment : ByteArray := prog_1_method_5_code
def y_Box_segment : MethodName := ⟨R_Box, "segment", "(IJI)I"⟩
abbrev w_Box_segment : List Cond := .code y_Box_segment b_Box_segment 7 (some .int) :: tb
abbrev b_Box_end : ByteArray := prog_1_method_6_code
def y_Box_end : MethodName := ⟨R_Box, "end", "(I)Z"⟩
abbrev w_Box_end : List Cond := .code y_Box_end b_Box_end 3 (some .boolean) :: tb
abbrev b_Box_read : ByteArray := prog_1_method_7_code
def y_Box_read : MethodName := ⟨R_Box, "read", "()I"⟩
abbrev w_Box_read : List Cond := .code y_Box_read b_Box_read 2 (some .int) :: tb
abbrev b_Box_counted : ByteArray := prog_1_method_8_code
def y_Box_counted : MethodName := ⟨R_Box, "counted", "()I"⟩
abbrev w_Box_counted : List Cond := .code y_Box_counted b_Box_counted 4 (some .int) :: tb
abbrev b_Box_begins : ByteArray := prog_1_method_9_code
def y_Box_begins : MethodName := ⟨R_Box, "begins", "()J"⟩
abbrev w_Box_begins : List Cond := .code y_Box_begins b_Box_begins 1 (some .long) :: tb
abbrev b_Box_blocks : ByteArray := prog_1_method_10_code
def y_Box_blocks : MethodName := ⟨R_Box, "blocks", "()I"⟩
abbrev w_Box_blocks : List Cond := .code y_Box_blocks b_Box_blocks 4 (some .int) :: tb
abbrev b_Box_told : ByteArray := prog_1_method_11_code
def y_Box_told : MethodName := ⟨R_Box, "told", "(I)I"⟩
abbrev w_Box_told : List Cond := .code y_Box_told b_Box_told 2 (some .int) :: tb
abbrev b_Box_block : ByteArray := prog_1_method_12_code
def y_Box_block : MethodName := ⟨R_Box, "block", "(IZ)I"⟩
abbrev w_Box_block : List Cond := .code y_Box_block b_Box_block 7 (some .int) :: tb
abbrev b_Box_held : ByteArray := prog_1_method_13_code
def y_Box_held : MethodName := ⟨R_Box, "held", "(I)Z"⟩
abbrev w_Box_held : List Cond := .code y_Box_held b_Box_held 3 (some .boolean) :: tb
abbrev b_Mod_init : ByteArray := prog_3_method_1_code
def y_Mod_init : MethodName := ⟨R_Mod, "<init>", "()V"⟩
abbrev w_Mod_init : List Cond := .code y_Mod_init b_Mod_init 1 none :: tb
abbrev b_Mod_thrown : ByteArray := prog_3_method_2_code
def y_Mod_thrown : MethodName := ⟨R_Mod, "thrown", "()I"⟩
abbrev w_Mod_thrown : List Cond := .code y_Mod_thrown b_Mod_thrown 1 (some .int) :: tb
abbrev b_Mod_open : ByteArray := prog_3_method_3_code
def y_Mod_open : MethodName := ⟨R_Mod, "open", "(I)V"⟩
abbrev w_Mod_open : List Cond := .code y_Mod_open b_Mod_open 3 none :: tb
abbrev b_Mod_up : ByteArray := prog_3_method_4_code
def y_Mod_up : MethodName := ⟨R_Mod, "up", "()V"⟩
abbrev w_Mod_up : List Cond := .code y_Mod_up b_Mod_up 2 none :: tb
abbrev b_Mod_segment : ByteArray := prog_3_method_5_code
def y_Mod_segment : MethodName := ⟨R_Mod, "segment", "(IJI)I"⟩
abbrev w_Mod_segment : List Cond := .code y_Mod_segment b_Mod_segment 8 (some .int) :: tb
abbrev b_Mod_end : ByteArray := prog_3_method_6_code
def y_Mod_end : MethodName := ⟨R_Mod, "end", "(I)Z"⟩
abbrev w_Mod_end : List Cond := .code y_Mod_end b_Mod_end 4 (some .boolean) :: tb
abbrev b_Mod_read : ByteArray := prog_3_method_7_code
def y_Mod_read : MethodName := ⟨R_Mod, "read", "()I"⟩
abbrev w_Mod_read : List Cond := .code y_Mod_read b_Mod_read 3 (some .int) :: tb
abbrev b_Mod_from : ByteArray := prog_3_method_8_code
def y_Mod_from : MethodName := ⟨R_Mod, "from", "(I)I"⟩
abbrev w_Mod_from : List Cond := .code y_Mod_from b_Mod_from 4 (some .int) :: tb
abbrev b_Mod_told : ByteArray := prog_3_method_9_code
def y_Mod_told : MethodName := ⟨R_Mod, "told", "(I)I"⟩
abbrev w_Mod_told : List Cond := .code y_Mod_told b_Mod_told 4 (some .int) :: tb
abbrev b_Mod_block : ByteArray := prog_3_method_10_code
def y_Mod_block : MethodName := ⟨R_Mod, "block", "(IZ)I"⟩
abbrev w_Mod_block : List Cond := .code y_Mod_block b_Mod_block 5 (some .int) :: tb
abbrev b_Mod_held : ByteArray := prog_3_method_11_code
def y_Mod_held : MethodName := ⟨R_Mod, "held", "(I)Z"⟩
abbrev w_Mod_held : List Cond := .code y_Mod_held b_Mod_held 3 (some .boolean) :: tb
abbrev b_Law_segment : ByteArray := method_3_code
def y_Law_segment : MethodName := ⟨R_Law, "segment", "(LSegmentBox;IJI[J)I"⟩
abbrev w_Law_segment : List Cond := .codeWith y_Law_segment b_Law_segment 7 (some .int) [((0), (13), (16), (13))] :: tb
abbrev b_Law_told : ByteArray := method_4_code
def y_Law_told : MethodName := ⟨R_Law, "told", "(LSegmentBox;I[J)I"⟩
abbrev w_Law_told : List Cond := .codeWith y_Law_told b_Law_told 4 (some .int) [((0), (9), (12), (13))] :: tb
abbrev b_Law_block : ByteArray := method_5_code
def y_Law_block : MethodName := ⟨R_Law, "block", "(LSegmentBox;IZ[J)I"⟩
abbrev w_Law_block : List Cond := .codeWith y_Law_block b_Law_block 5 (some .int) [((0), (10), (13), (23))] :: tb
end
section
/-! rows that the kit lacks: a contract that ends in 'threw'; 'throw new X()'; a call whose exception is caught in the caller; a call of a static method that has handlers -/
section KX
variable {p : Program} {l : Launch} {e : Env} {R : Room} {s : State} {m : MethodId} {args : Array Value} {below : List Frame} {meth : Method} {c : Code} {H : Heap} {locs : List Loc} {cells slots : Nat} {Q : State → Prop}
/-- what was thrown is a new cell of class X; nothing old has changed -/
def kx_T (X : String) (st : State) (x : Addr) (t : State) : Prop := st.heap.size ≤ x ∧ (∃ ce : Cell, t.heap[x]? = some ce ∧ ce.vm = .none ∧ t.vm.findClass X = some ce.cls ∧ t.vm.assignable ce.cls ce.cls = true) ∧ st.heap.size ≤ t.heap.size ∧ ∀ q : Nat, q < st.heap.size → t.heap[q]? = st.heap[q]?
def kx_Q (X : String) (k n : Nat) (st : State) (o : Outcome) (t : State) : Prop := ∃ x, o = .threw x ∧ kx_T X st x t ∧ FramedT st o t [] k n
/-- a contract that ends in 'threw' -/
def kx_Met (l : Launch) (y : MethodName) (ws : List Cond) (rm : Room) (Pc : Array Value → State → Prop) (X : String) (mc ms : Nat) : Prop :=
  MetFree l y (headSpec ws rm) Pc (fun _ _ _ _ _ => True) (fun _ st o t => kx_Q X mc ms st o t)
def kx_MQ (below : List Frame) (X : String) (s : State) (mc ms : Nat) : State → Prop := fun t => ∃ o, t.status = .running ∧ Ended t below o ∧ kx_Q X mc ms s o t
theorem kx_ofW {y : MethodName} {ws ws' : List Cond} {rm : Room} {Pc : Array Value → State → Prop} {X : String} {mc ms : Nat} {cc : ByteArray} {maxL : Nat} {ret : Option FieldType}
    (hy : plainName y.cls = true) (hw : ws = Cond.code y cc maxL ret :: ws')
    (body : ∀ p e s m args below meth c s₁, BodyLoose p l y (headSpec ws rm) cc maxL ret e s m args below meth c s₁ → c.maxLocals = maxL → c.exceptionTable.isEmpty = true → Pc args s →
      W p l e (headSpec ws rm).room s m args below meth c s.heap [] 0 0 (kx_MQ below X s mc ms) (entryFrame m args maxL)) : kx_Met l y ws rm Pc X mc ms := by
  refine MetFree.of_bodyS (code := cc) (maxLocals := maxL) (ret := ret) hy ?_ ?_
  · intro args s m h hn
    obtain ⟨meth, c, h1, h2, h3, h4, h5, h6, -, -⟩ := Cond.code_spec hn (atoms_spec (ws := ws) h _ (by rw [hw]; exact List.mem_cons_self))
    exact ⟨meth, c, h1, h2, h3, h4, h5, h6⟩
  · intro p e s m args below meth c s₁ B hml hP _
    have hh0 : s₁.heap = s.heap := by rw [B.state]; rfl
    have hem : c.exceptionTable.isEmpty = true := BodyLoose.noHandlers B (atoms_spec (ws := ws) B.pre _ (by rw [hw]; exact List.mem_cons_self))
    obtain ⟨t, a1, o, b1, b2, b3⟩ := body p e s m args below meth c s₁ B hml hem hP s₁ hh0 (Stand.of_body B)
    exact ⟨t, o, a1, b1, b2, b3⟩
/-- 'throw new X()' in a method without handlers that has written nothing yet -/
theorem kx_throw {cc : ByteArray} (hexec : p.tables.exec = Jvm.exec) (hb : c.code = cc) (htr : l.stackTraces = false) {own X : String} {i1 i2 : Nat} (hown : s.vm.findClass own = some m.cls)
    (hX : Bundle.fit X = true) (h : ∀ a ∈ Bundle.ownAtoms0 own i2 X ["java/lang/RuntimeException", "java/lang/Exception"], a.before args s = true)
    (hclink : (Cond.classLink own i1 X).before args s = true) (hins : (Cond.instantiable X 6).before args s = true) (hinit : (Cond.initialized X).before args s = true)
    (hemp : c.exceptionTable.isEmpty = true) (hlocks : meth.locks = false) {pc : Nat} {ls : Array Slot} (hsz : ls.size = c.maxLocals)
    (hc1 : 1 ≤ R.cells) (hs6 : 6 ≤ R.slots) (hfr : 6 ≤ R.frames) (hlo : 81 ≤ R.locals)
    (hd0 : decode cc pc = .ok (.new i1, 3)) (hd3 : decode cc (pc + 3) = .ok (.dup, 1)) (hd4 : decode cc (pc + 3 + 1) = .ok (.invokespecial i2, 3)) (hd7 : decode cc (pc + 3 + 1 + 3) = .ok (.athrow, 1)) :
    W p l e R s m args below meth c s.heap [] 0 0 (kx_MQ below X s 1 6) (F0 m pc ls []) := by
  refine W.newc hexec hb hown hclink hins hinit (g := F0 m pc ls []) rfl hd0 (by omega) (by omega) ?_
  intro cC kC h1 h2 h3 h4
  refine W.eq (g2 := F0 m (pc + 3) ls [.ref s.heap.size]) rfl ?_
  refine lv_dup hexec hb hd3 rfl ?_
  intro T hT X0
  have htr' : e.platform.stackTraces = false := by rw [X0.admits.platform]; exact htr
  have hcell : T.heap[s.heap.size]? = some (freshCell cC kC) := by rw [hT]; simp [freshCell]
  have hnil : c.exceptionTable.toList = [] := by
    have h0 : c.exceptionTable.size = 0 := by simpa [Array.isEmpty] using hemp
    exact List.eq_nil_of_length_eq_zero (by simpa using h0)
  obtain ⟨U, st, hrun, hend, hW, hsame, ce, hce, K⟩ := X0.ctorThrow0 hexec htr' (own := own) (cls := X) (names := ["java/lang/RuntimeException", "java/lang/Exception"]) (ic := i2) hown hX (by decide +kernel) h (fun x hx => by cases hx) h1 h2 hcell (Nat.le_refl _)
    (g := F0 m (pc + 3 + 1) ls [.ref s.heap.size, .ref s.heap.size]) rfl hsz rfl rfl (rest := []) rfl (by rw [hb]; exact hd4) (by rw [hb]; exact hd7) (fun x hx => by rw [hnil] at hx; cases hx) (by show 2 + 3 < R.frames; omega)
    (by show 2 * 0 + 1 + (13 * (2 + 1) + 41) ≤ R.locals; omega) hlocks
  refine ⟨U, st, .threw s.heap.size, hrun, hend, s.heap.size, rfl, ⟨Nat.le_refl _, ⟨ce, hce, K.vm, ?_, ?_⟩, hsame.2.1, fun q hq => ?_⟩, ⟨_, rfl⟩, hW, hsame.mono (by omega) (by omega)⟩
  · rw [hW.alike.findClass]; exact K.cls
  · rw [hW.alike.assignable]; exact K.self
  · have hc0 : s.heap[q]? = some s.heap[q] := by simp [hq]
    have := hsame.old_cell hc0
    rw [hc0]; exact this
end KX
section KXC
theorem kx_go_cold {E : CtlPost} {e : Env} {d : Bool} {acts : List Action} {s : State} {f : JFrame} {a : Addr} {Q : Handler → Pre} {x : ExceptionTableEntry} {t : List ExceptionTableEntry} {c : ClassId} {cell : Cell} {vm' : Vm}
    (hx : covers x f.pc = true) (h0 : x.catchType ≠ 0) (hg : (Jvm.resolveClass f.method.cls x.catchType).Gives e.toSetting s.vm (.ok c) vm') (hsz : vm'.classes.size ≤ s.vm.classes.size)
    (hcell : s.heap[a]? = some cell) (hobj : ∀ k, cell.vm ≠ .statics k) (hk : ∃ k, vm'.classes[cell.cls]? = some k) (hc : ∃ k, vm'.classes[c]? = some k) (hfit : vm'.assignable cell.cls c = true) :
    wp (findHandler.go f a (x :: t)) Q E e d acts s ↔ Q (.found x.handlerPc) d acts (s.setVm vm') := by
  obtain ⟨ha, ht⟩ := hg.op (op := VmOp.resolveClass f.method.cls x.catchType) rfl
  simp only [covers] at hx
  simp [findHandler.go, hx, h0, ha, ht, hsz, hcell, hobj, hk, hc, hfit, VmOp.dirties, VmOp.acts]
theorem kx_catch_step {e : Env} {s s' : State} {a : Addr} {f : JFrame} {r : List Frame} {pc : Nat} (hfind : ∀ (Q : Handler → Pre) (E : CtlPost) (d : Bool) (acts : List Action), wp (findHandler f a) Q E e d acts s ↔ Q (.found pc) d acts s') :
    (stepThrowing e s a (.java f :: r)).Is (s'.setFrames (.java { f with pc := pc, stack := [.ref a] } :: r)) [] := by
  simp only [stepThrowing, searchFrame, vmDo]
  generalize hr : Sem.go _ e false [] s = res
  obtain ⟨as, rfl, ha⟩ := Sem.eq_ok_of hr (a := Handler.found pc) (s' := s') (acts' := []) (by simp [hfind _ _ _ _])
  exact ⟨rfl, ha⟩
theorem kx_caught {tb : Tables} {e : Env} {s target : State} {g : JFrame} {c : Code} {below : List Frame} {a : Addr} {vm' : Vm} (h : At s g.method c below) {pc : Nat}
    (hfind : ∀ (Q : Handler → Pre) (E : CtlPost) (d : Bool) (acts : List Action), wp (findHandler g a) Q E e d acts ((s.setTop g).pushFrame (.throwing a)) ↔ Q (.found pc) d acts (((s.setTop g).pushFrame (.throwing a)).setVm vm'))
    (hrest : Steps tb e below ((s.setVm vm').setTop { g with pc := pc, stack := [.ref a] }) target) :
    Steps tb e below ((s.setTop g).pushFrame (.throwing a)) target := by
  obtain ⟨hgo, hw⟩ := h.throwing a
  refine Steps.head hgo hw ?_
  rw [stepThread_throwing (frames_entered h.top _), (kx_catch_step (s := (s.setTop g).pushFrame (.throwing a)) hfind).1]
  obtain ⟨g₀, hg⟩ := Option.isSome_iff_exists.mp h.top
  obtain ⟨r, hr⟩ := State.topJava?_eq_some.mp hg
  have hr' : (s.setVm vm').frames = .java g₀ :: r := hr
  rw [State.setTop_of_frames _ hr'] at hrest
  have e1 : (((s.setTop g).pushFrame (.throwing a)).setVm vm').setFrames (.java { g with pc := pc, stack := [.ref a] } :: s.frames.tail) = (s.setVm vm').setFrames (.java { g with pc := pc, stack := [.ref a] } :: r) := by
    rw [State.pushFrame, State.setTop_of_frames _ hr, hr]
    show ((s.setFrames _).setFrames _ |>.setVm vm').setFrames _ = _
    rw [show ∀ (z : State) (v : Vm) (fs : List Frame), (z.setVm v).setFrames fs = (z.setFrames fs).setVm v from fun _ _ _ => rfl, State.setFrames_setFrames, State.setFrames_setFrames]
    rfl
  rw [e1]
  exact hrest
end KXC
section KXB
variable {p : Program} {l : Launch} {e : Env} {R : Room} {s : State} {m : MethodId} {args : Array Value} {below : List Frame} {meth : Method} {c : Code} {H : Heap} {locs : List Loc} {cells slots : Nat} {Q : State → Prop}
/-- a callee that throws: back in the caller, with the note over the caller's frame -/
theorem kx_back {y : MethodName} {S : Spec} {Pc : Array Value → State → Prop} {X : String} {mc ms W0 maxL len : Nat} {bytes : ByteArray} {ret : Option FieldType} {a : Array Value} {mk : MethodId} {ig : Instr}
    (hM : MetFree l y S Pc (fun _ _ _ _ _ => True) (fun _ st o t => kx_Q X mc ms st o t)) (hframes : S.room.frames + 1 ≤ R.frames) (hlocals : W0 + (maxL + 11) + S.room.locals ≤ R.locals)
    {U : State} (X0 : Stand p l e R s m args below meth c U locs cells slots) {g : JFrame} (hg : g.method = m) (hsize : g.locals.size = c.maxLocals) (hdg : decode c.code g.pc = .ok (ig, len))
    (hW : 2 * g.monitorRoom + (g.stack.map fun v => v.category).sum ≤ W0) (hn : U.methodNamed? y = some mk) (h1 : S.pre.before a U = true) (h2 : (Cond.code y bytes maxL ret).before a U = true)
    (h3 : (Cond.initialized y.cls).before a U = true) (h4 : cells + S.room.cells ≤ R.cells) (h5 : slots + S.room.slots ≤ R.slots) (hP : Pc a (U.calling g mk a)) :
    ∃ (x : Addr) (V : State), Stand p l e R s m args below meth c V locs (cells + mc) (slots + ms) ∧ kx_T X U x V ∧ Steps p.tables e below (doInvoke e (U.setTop g) [] mk a).1 ((V.setTop g).pushFrame (.throwing x)) := by
  obtain ⟨methY, cY, hmY, hcY, -, hlY, -, -, -, -⟩ := Cond.code_spec hn h2
  obtain ⟨kY, hkY, -⟩ := className_of_methodNamed hn
  have hinitY : kY.init = .initialized := Cond.initialized_spec (findClass_of_methodNamed hn) hkY h3
  have h : At U g.method c below := by rw [hg]; exact X0.here
  have happ : S.appliesLoose y e.platform (U.calling g mk a) = true :=
    Spec.appliesLoose_calling (g := g) h hdg hn hkY hinitY
      (X0.room_calling (g := g) (R' := S.room) hsize hmY hcY hframes (by rw [hlY]; omega) h4 h5) h1
  obtain ⟨mid, hmid⟩ := h.above
  have hfr : (U.setTop g).frames = (.java g :: mid) ++ below := by rw [State.frames_setTop' g h.top, hmid]; rfl
  obtain ⟨o, s₂, hsteps, -, hend, hq⟩ := Steps.callFree hM p X0.admits X0.cas X0.clock (acts := []) hfr happ hP trivial
  have hq' : kx_Q X mc ms (U.calling g mk a) o s₂ := hq
  rw [State.frames_setTop' g h.top] at hend
  obtain ⟨v, rfl, hT, -, hW₂, e2, q2, q3, q4, q5, q6⟩ := hq'
  have e3 : s₂ = ({ (U.calling g mk a).setFrames s₂.frames with heap := s₂.heap, slotsUsed := s₂.slotsUsed } : State).setVm s₂.vm := by
    have : s₂ = ({ s₂ with vm := (U.calling g mk a).vm } : State).setVm s₂.vm := rfl
    rw [e2] at this
    exact this
  have hf₂ : s₂.frames = .throwing v :: .java g :: U.frames.tail := hend
  have hW' : U.WarmedH s₂.vm := hW₂
  obtain ⟨g₀, hg0⟩ := Option.isSome_iff_exists.mp h.top
  obtain ⟨r, hr⟩ := State.topJava?_eq_some.mp hg0
  have hs₂ : s₂ = ((({ U with heap := s₂.heap, slotsUsed := s₂.slotsUsed } : State).setVm s₂.vm).setTop g).pushFrame (.throwing v) := by
    have hr' : (({ U with heap := s₂.heap, slotsUsed := s₂.slotsUsed } : State).setVm s₂.vm).frames = .java g₀ :: r := hr
    refine e3.trans ?_
    rw [hf₂, State.calling_eq h.top, State.setFrames_setFrames, State.pushFrame, State.frames_setTop _ hr', State.setTop_of_frames _ hr', State.setFrames_setFrames, hr]
    rfl
  have hsame : U.sameButNew ({ U with heap := s₂.heap, slotsUsed := s₂.slotsUsed } : State) [] mc ms := by
    refine ⟨?_, q2, q3, q4, q5, q6⟩
    obtain ⟨t, ht, -⟩ := State.frames_cons hr
    show ({ U with heap := s₂.heap, slotsUsed := s₂.slotsUsed } : State) = { U.setFrames U.frames with heap := s₂.heap, slotsUsed := s₂.slotsUsed }
    rw [State.setFrames_self ht]
  subst hg
  have hsm := X0.same.trans (hsame.setVm s.vm)
  rw [List.append_nil] at hsm
  refine ⟨v, (({ U with heap := s₂.heap, slotsUsed := s₂.slotsUsed } : State).setVm s₂.vm),
    ⟨X0.admits, X0.cas, X0.clock, X0.frames, X0.room, X0.hears, X0.method, X0.code, (X0.here.setHeapUsed s₂.heap s₂.slotsUsed).setVm hW'.alike, X0.tail, State.WarmedH.trans X0.warmed hW', X0.limits, X0.bytes, hsm⟩, hT, ?_⟩
  show Steps p.tables e below _ (((({ U with heap := s₂.heap, slotsUsed := s₂.slotsUsed } : State).setVm s₂.vm).setTop g).pushFrame (.throwing v))
  rw [← hs₂]
  exact hsteps
variable {y : MethodName} {bytes cc : ByteArray} {maxL nL mc ms n index : Nat} {ret : Option FieldType} {ws ws' : List Cond} {rm : Room} {Pc : Array Value → State → Prop} {Ts : List Cond} {own C : String} {b : Addr} {As rest : List Value}
/-- invokevirtual of y, who throws an X; the one handler of the caller takes it -/
theorem kx_runVT {X : String} {pc : Nat} {ls : Array Slot} {st0 : List Value} (S : CallFix p m c cc nL s args Ts own) (hM : kx_Met l y ws rm Pc X mc ms) (cw : CallW R s args own C index y bytes maxL ret ws rm mc ms n) (hp : PreV s H C b Pc As)
    (hn : As.length = n) (hsize : ls.size = nL) (hstack : st0 = As.reverse ++ .ref b :: rest) (hW : 2 * (F0 m pc ls st0).monitorRoom + (rest.map fun v => v.category).sum ≤ 8) (hdg : decode cc pc = .ok (.invokevirtual index, 3)) (hf : cells + mc ≤ R.cells ∧ slots + ms ≤ R.slots)
    {ent : ExceptionTableEntry} (htab : c.exceptionTable.toList = [ent]) (hcov : covers ent pc = true) (h0 : ent.catchType ≠ 0) (hcl : (Cond.classLink own ent.catchType X).before args s = true)
    (kk : ∀ (x : Addr) (H1 : Heap), H.size ≤ H1.size → (∀ q : Nat, q < H.size → H1[q]? = H[q]?) → W p l e R s m args below meth c H1 locs (cells + mc) (slots + ms) Q (F0 m ent.handlerPc ls [.ref x])) :
    W p l e R s m args below meth c H locs cells slots Q (F0 m pc ls st0) := by
  obtain ⟨⟨hrc, hrs, hfr, hlo, hws, hcw, hcode, hini, hy, hlen, hl⟩, hinst, hsel⟩ := cw
  obtain ⟨hexec, hb, hml, hown, -⟩ := S
  obtain ⟨hbl, ⟨cellB, hcB, hoB, hclB⟩, hPc⟩ := hp
  intro T hT X0
  obtain ⟨mk, methM, hnamed, hmethM, hstM, habM⟩ := Cond.instanceMethod_spec hinst
  obtain ⟨methM', cM, hmethM', -, -, -, -, -, -, hsigM⟩ := Cond.code_spec hnamed hcode
  cases hmethM.symm.trans hmethM'
  obtain ⟨c2, r2, m2, q1, q2, q3, q4, kP, hkP, hkPi⟩ := Cond.selects_spec hsel
  cases hclB.symm.trans q1
  cases (State.methodFound?_of_named hnamed hy).symm.trans q2
  cases hnamed.symm.trans q3
  have hselP : selectMethod e.platform s.vm cellB.cls mk = .method mk := by rw [Launch.admits_selectMethod X0.admits]; exact q4
  obtain ⟨vm₁, X₁, hstep₁⟩ := X0.invokevirtual hexec hown hl hnamed hmethM hstM hkP hkPi hy (a := b) (cell := cellB) (by rw [hT]; exact hcB)
    (fun z h => by rw [h] at hoB; cases hoB) hselP hmethM habM hkP hkPi (g := F0 m pc ls st0) rfl (argsL := As) (rest := rest) (hn.trans (hlen _ hsigM)) hstack (by rw [hb]; exact hdg)
  have hPre : Pc (Value.ref b :: As).toArray (T.setVm vm₁) := hPc (T.setVm vm₁) hT X₁.warmed
  obtain ⟨x, V, X₂, ⟨hge, ⟨ce, hce, hcv, hcc, hca⟩, hszz, hkeep⟩, hsteps⟩ := kx_back (bytes := bytes) (maxL := maxL) (ret := ret) (W0 := 8) (a := (Value.ref b :: As).toArray) hM hfr hlo X₁ (g := { F0 m pc ls st0 with stack := rest }) rfl (hsize.trans hml.symm) (by rw [hb]; exact hdg) hW (X₁.named hnamed)
    (atoms_intro fun w hw => hws w hw _ _ X₁.warmed) (hws _ hcw _ _ X₁.warmed) (word_at X₁.warmed (Or.inl (by first | rfl | simp [Cond.onTables, Cond.keeps, Cond.steady])) hini) (by show cells + rm.cells ≤ _; rw [hrc]; exact hf.1) (by show slots + rm.slots ≤ _; rw [hrs]; exact hf.2) (hbl _ _ _ _ hPre)
  have hh1 : (T.setVm vm₁).heap = H := hT
  rw [hh1] at hge hszz hkeep
  have hpl : e.platform.magicAccessors = ({} : Platform).magicAccessors := by rw [X0.admits.platform]
  obtain ⟨cH, hfcc, hcl2⟩ := Cond.classLink_spec hown hcl e.platform hpl
  obtain ⟨hg₁, hwarm₁, hready₁⟩ := State.classEntry (e := e) X₂.warmed hcl2
  have hcls : ce.cls = cH := by
    have h9 : s.vm.findClass X = some ce.cls := by rw [← X₂.warmed.alike.findClass]; exact hcc
    exact Option.some.inj (h9.symm.trans hfcc)
  have halV : V.vm.Alike (V.vm.noted m.cls ent.catchType (.cls cH)) := X₂.warmed.alike.symm.trans hwarm₁.alike
  have hkc : ∃ k, (V.vm.noted m.cls ent.catchType (.cls cH)).classes[cH]? = some k := by
    have h8 : (V.vm.noted m.cls ent.catchType (.cls cH)).findClass X = some cH := by rw [hwarm₁.alike.findClass]; exact hfcc
    exact Vm.classAt_of_findClass h8
  have X₃ := X₂.noted hwarm₁
  obtain ⟨t, a1, b1⟩ := kk x V.heap hszz hkeep (V.setVm (V.vm.noted m.cls ent.catchType (.cls cH))) rfl X₃
  refine ⟨t, hstep₁ _ fun acts => ?_, b1⟩
  rw [doInvoke_state]
  refine hsteps.trans ?_
  refine kx_caught (vm' := V.vm.noted m.cls ent.catchType (.cls cH)) (pc := ent.handlerPc) X₂.here ?_ a1
  intro Q' E' d' acts'
  have hmeth : ((V.setTop { F0 m pc ls st0 with stack := rest }).pushFrame (.throwing x)).vm.method? m = some meth := by
    rw [Stand.throwing_vm]; exact X₂.method'
  rw [_root_.Jvm.W.findHandler_eq (f := { F0 m pc ls st0 with stack := rest }) hmeth X₂.code, htab]
  refine kx_go_cold (c := cH) (cell := ce) hcov h0 (by rw [Stand.throwing_vm]; exact hg₁) (by rw [Stand.throwing_vm]; no_record) (by rw [Stand.throwing_heap]; exact hce) (fun k hk => by rw [hcv] at hk; cases hk) (by rw [hcls]; exact hkc) hkc ?_
  rw [halV.assignable]
  rw [hcls] at hca ⊢
  exact hca
/-- invokestatic of y, a method with handlers, by its contract -/
theorem kx_runSW {hh : List (Nat × Nat × Nat × Nat)} {g : JFrame} {Qc : Array Value → State → Outcome → State → Prop} {free : Addr → Prop} (S : CallFix p m c cc nL s args Ts own) (hM : Met l y ws rm Pc Qc mc ms free) (hw : ws = Cond.codeWith y bytes maxL ret hh :: ws') (hG : GoodIn Ts ws)
    (hrc : rm.cells = mc) (hrs : rm.slots = ms) (hR : rm.frames + 1 ≤ R.frames ∧ 8 + (maxL + 11) + rm.locals ≤ R.locals) (hini : (Cond.initialized y.cls).before args s = true) (hl : (Cond.methodLink own index y).before args s = true) (hstat : (Cond.static y).before args s = true)
    (hd : y.cls ≠ "java/lang/invoke/MethodHandle" ∧ y.cls ≠ "java/lang/invoke/VarHandle" ∧ (parseMethodDescriptor y.desc).map (fun d => d.parameters.length) = some n) (hp : PreS s H Pc As)
    (hg : g.method = m) (hn : As.length = n) (hsize : g.locals.size = nL) (hstack : g.stack = As.reverse ++ rest) (hW : 2 * g.monitorRoom + (rest.map fun v => v.category).sum ≤ 8) (hdg : decode cc g.pc = .ok (.invokestatic index, 3)) (hf : cells + mc ≤ R.cells ∧ slots + ms ≤ R.slots) :
    va_Run p l e R s m args below meth c H locs cells slots mc ms g rest (Qc As.toArray) free := by
  have hcw : Cond.codeWith y bytes maxL ret hh ∈ ws := by rw [hw]; exact List.mem_cons_self
  obtain ⟨hx, hb, hml, ho, hts⟩ := S
  have hK : Back l R p e below s args y 3 8 (PreOf R mc ms Pc) (PostOf Qc mc ms free) := va_backW (bytes := bytes) (maxL := maxL) (ret := ret) (hh := hh) hM hp.1 hrc hrs hR.1 hR.2 (pay_in hts hG) hcw (fun a' U hW => word_at hW (Or.inl (by first | rfl | simp [Cond.onTables, Cond.keeps, Cond.steady])) hini)
  intro T hT X
  obtain ⟨mk, methM, cM, hnamed, hmethM, -, -, -, -, -, -, hsigM⟩ := Cond.codeWith_spec (hts _ (hG _ hcw).1)
  have hstatic : methM.isStatic = true := Cond.static_spec hnamed hmethM hstat
  obtain ⟨kP, hkP, -⟩ := className_of_methodNamed hnamed
  have hinitP : kP.init = .initialized := Cond.initialized_spec (findClass_of_methodNamed hnamed) hkP hini
  have hlen : As.length = methM.sig.parameters.length := by
    have h2 := hd.2.2
    rw [hsigM] at h2
    exact hn.trans (Option.some.inj h2).symm
  obtain ⟨vm₁, X₁, hstep₁⟩ := X.invokestatic hx ho hl hnamed hmethM hstatic hkP hinitP ⟨hd.1, hd.2.1⟩ (g := g) hg (argsL := As) (rest := rest) hlen hstack (by rw [hb]; exact hdg)
  obtain ⟨v, ⟨U', l2, c2, s2⟩, X', ⟨g', mk', t, L, e1, e2, hq, h1, hL, h2, h3⟩, hsteps⟩ := hK m meth c ⟨T.setVm vm₁, locs, cells, slots⟩ { g with stack := rest } (.invokestatic index) mk As.toArray X₁ hg (hsize.trans hml.symm) (by rw [hb]; exact hdg) hW (X₁.named hnamed) ⟨hf.1, hf.2, hp.2 (T.setVm vm₁) hT X₁.warmed⟩
  dsimp only [Pt.U, Pt.locs, Pt.cells, Pt.slots] at X' e1 e2 h1 h2 h3 hsteps
  subst h1; subst h2; subst h3
  exact ⟨v, (T.setVm vm₁).calling g' mk' As.toArray, t, U', L, hT, X', hL, e1, e2, hq, fun target h => hstep₁ _ fun acts => by rw [doInvoke_state]; exact hsteps.trans h⟩
end KXB
end
section
/-! the words of a throw that may fall with the heap or under warmer tables: carried by hand -/
def th_IA : String := "java/lang/IllegalArgumentException"
def th_IO : String := "java/lang/IndexOutOfBoundsException"
def th_bad (X : String) : List Cond := [.castable X X, .declares ⟨"java/lang/RuntimeException", "<init>", "()V"⟩, .declares ⟨"java/lang/Exception", "<init>", "()V"⟩, .declares ⟨"java/lang/Throwable", "<init>", "()V"⟩,
  .laysStatic "java/lang/Throwable" "UNASSIGNED_STACK" "[Ljava/lang/StackTraceElement;", .laysStatic "java/lang/Throwable" "SUPPRESSED_SENTINEL" "Ljava/util/List;",
  .isRef (.static "java/lang/Throwable" "UNASSIGNED_STACK" "[Ljava/lang/StackTraceElement;"), .isRef (.static "java/lang/Throwable" "SUPPRESSED_SENTINEL" "Ljava/util/List;")]
def th_ok (X : String) (U : State) : Prop := ∀ w ∈ th_bad X, w.before #[] U = true
theorem th_args {X : String} {A : Array Value} {U : State} {w : Cond} (hw : w ∈ th_bad X) : w.before #[] U = w.before A U := by
  simp only [th_bad, List.mem_cons, List.not_mem_nil, or_false] at hw
  rcases hw with rfl | rfl | rfl | rfl | rfl | rfl | rfl | rfl <;> rfl
theorem th_of {X : String} {A : Array Value} {U : State} (h : ∀ w ∈ th_bad X, w.before A U = true) : th_ok X U := fun w hw => by rw [th_args (A := A) hw]; exact h w hw
theorem th_calling {X : String} {U : State} {g : JFrame} {mk : MethodId} {a : Array Value} (h : th_ok X U) : th_ok X (U.calling g mk a) := fun w hw => by
  have h1 := h w hw
  simp only [th_bad, List.mem_cons, List.not_mem_nil, or_false] at hw
  rcases hw with rfl | rfl | rfl | rfl | rfl | rfl | rfl | rfl <;> exact h1
theorem th_stat {s U : State} {O f d : String} (hW : s.WarmedH U.vm) (hh : ∀ q : Nat, q < s.heap.size → U.heap[q]? = s.heap[q]?) (h : (Cond.laysStatic O f d).before #[] s = true) : (Cond.laysStatic O f d).before #[] U = true := by
  obtain ⟨c, k, i, fd, a, cell, hc, hi, hst, ha, hcell, hs, hcls, hlt, hty⟩ := Cond.laysStatic_spec h
  obtain ⟨k', hi', hek⟩ := State.fieldFound?_setVm hW.alike hi
  have hi2 : U.fieldFound? O f d = some (c, k', i, fd) := hi'
  exact Cond.laysStatic_of (by rw [hW.alike.findClass]; exact hc) hi2 hst (by rw [hek]; exact ha) (by rw [hh a (Array.getElem?_eq_some_iff.mp hcell).1]; exact hcell) hs hcls hlt (by rw [hek]; exact hty)
theorem th_ref {s U : State} {O f d : String} (hW : s.WarmedH U.vm) (hh : ∀ q : Nat, q < s.heap.size → U.heap[q]? = s.heap[q]?) (h : (Cond.laysStatic O f d).before #[] s = true) (h2 : (Cond.isRef (.static O f d)).before #[] s = true) : (Cond.isRef (.static O f d)).before #[] U = true := by
  obtain ⟨c, k, i, fd, a, cell, hc, hi, hst, ha, hcell, hs, hcls, hlt, hty⟩ := Cond.laysStatic_spec h
  obtain ⟨k', hi', hek⟩ := State.fieldFound?_setVm hW.alike hi
  have hi2 : U.fieldFound? O f d = some (c, k', i, fd) := hi'
  have ha2 : k'.statics = some a := by rw [hek]; exact ha
  have hcell2 : U.heap[a]? = some cell := by rw [hh a (Array.getElem?_eq_some_iff.mp hcell).1]; exact hcell
  have e1 : (Term.static O f d).eval #[] s none [] s = cell.slots[fd.slot]? := by simp [Term.eval, State.fieldNamed?, hi, hst, ha, hcell, hs]
  have e2 : (Term.static O f d).eval #[] U none [] U = cell.slots[fd.slot]? := by simp [Term.eval, State.fieldNamed?, hi2, hst, ha2, hcell2, hs]
  simp only [Cond.before, Cond.holds, Cond.value] at h2 ⊢
  rw [e1] at h2
  rw [e2]
  exact h2
theorem th_move {X : String} {s U : State} (hW : s.WarmedH U.vm) (hh : ∀ q : Nat, q < s.heap.size → U.heap[q]? = s.heap[q]?) (h : th_ok X s) : th_ok X U := fun w hw => by
  have h4 := h _ (show Cond.laysStatic "java/lang/Throwable" "UNASSIGNED_STACK" "[Ljava/lang/StackTraceElement;" ∈ th_bad X by simp [th_bad])
  have h5 := h _ (show Cond.laysStatic "java/lang/Throwable" "SUPPRESSED_SENTINEL" "Ljava/util/List;" ∈ th_bad X by simp [th_bad])
  have h1 := h w hw
  simp only [th_bad, List.mem_cons, List.not_mem_nil, or_false] at hw
  have tw : ∀ v : Cond, v.tabsOnly = true → v.before #[] s = true → v.before #[] U = true := fun v hv h0 => by
    have := Cond.tabsOnly_warm (args' := #[]) (T := U) hW v hv h0
    rwa [State.setVm_self] at this
  rcases hw with rfl | rfl | rfl | rfl | rfl | rfl | rfl | rfl
  · exact tw _ rfl h1
  · exact tw _ rfl h1
  · exact tw _ rfl h1
  · exact tw _ rfl h1
  · exact th_stat hW hh h1
  · exact th_stat hW hh h1
  · exact th_ref hW hh h4 h1
  · exact th_ref hW hh h5 h1
theorem th_ownA : ∀ a ∈ Bundle.ownAtoms0 R_Box 40 th_IA ["java/lang/RuntimeException", "java/lang/Exception"], a ∈ th_bad th_IA ∨ a ∈ tb := by decide +kernel
theorem th_ownO : ∀ a ∈ Bundle.ownAtoms0 R_Box 59 th_IO ["java/lang/RuntimeException", "java/lang/Exception"], a ∈ th_bad th_IO ∨ a ∈ tb := by decide +kernel
theorem th_all {X : String} {i : Nat} {s : State} {A : Array Value} (ho : ∀ a ∈ Bundle.ownAtoms0 R_Box i X ["java/lang/RuntimeException", "java/lang/Exception"], a ∈ th_bad X ∨ a ∈ tb) (h : th_ok X s) (hts : ∀ w ∈ tb, w.before A s = true) :
    ∀ a ∈ Bundle.ownAtoms0 R_Box i X ["java/lang/RuntimeException", "java/lang/Exception"], a.before A s = true := fun a ha => by
  rcases ho a ha with h1 | h1
  · rw [← th_args h1]; exact h a h1
  · exact hts a h1
end
section
/-! decode rows: SegmentBox -/
theorem d_Box_init_0 : decode b_Box_init 0 = .ok (.aload_n 0, 1) := by decide +kernel
theorem d_Box_init_1 : decode b_Box_init 1 = .ok (.invokespecial 1, 3) := by decide +kernel
theorem d_Box_init_4 : decode b_Box_init 4 = .ok (.aload_n 0, 1) := by decide +kernel
theorem d_Box_init_5 : decode b_Box_init 5 = .ok (.bipush 64, 2) := by decide +kernel
theorem d_Box_init_7 : decode b_Box_init 7 = .ok (.newarray .byte, 2) := by decide +kernel
theorem d_Box_init_9 : decode b_Box_init 9 = .ok (.putfield 7, 3) := by decide +kernel
theorem d_Box_init_12 : decode b_Box_init 12 = .ok (.return_, 1) := by decide +kernel
theorem d_Box_open_0 : decode b_Box_open 0 = .ok (.aload_n 0, 1) := by decide +kernel
theorem d_Box_open_1 : decode b_Box_open 1 = .ok (.iconst 0, 1) := by decide +kernel
theorem d_Box_open_2 : decode b_Box_open 2 = .ok (.putfield 13, 3) := by decide +kernel
theorem d_Box_open_5 : decode b_Box_open 5 = .ok (.aload_n 0, 1) := by decide +kernel
theorem d_Box_open_6 : decode b_Box_open 6 = .ok (.iconst 0, 1) := by decide +kernel
theorem d_Box_open_7 : decode b_Box_open 7 = .ok (.putfield 17, 3) := by decide +kernel
theorem d_Box_open_10 : decode b_Box_open 10 = .ok (.aload_n 0, 1) := by decide +kernel
theorem d_Box_open_11 : decode b_Box_open 11 = .ok (.iload_n 1, 1) := by decide +kernel
theorem d_Box_open_12 : decode b_Box_open 12 = .ok (.putfield 20, 3) := by decide +kernel
theorem d_Box_open_15 : decode b_Box_open 15 = .ok (.aload_n 0, 1) := by decide +kernel
theorem d_Box_open_16 : decode b_Box_open 16 = .ok (.lconst 0, 1) := by decide +kernel
theorem d_Box_open_17 : decode b_Box_open 17 = .ok (.putfield 23, 3) := by decide +kernel
theorem d_Box_open_20 : decode b_Box_open 20 = .ok (.aload_n 0, 1) := by decide +kernel
theorem d_Box_open_21 : decode b_Box_open 21 = .ok (.iconst 0, 1) := by decide +kernel
theorem d_Box_open_22 : decode b_Box_open 22 = .ok (.putfield 27, 3) := by decide +kernel
theorem d_Box_open_25 : decode b_Box_open 25 = .ok (.aload_n 0, 1) := by decide +kernel
theorem d_Box_open_26 : decode b_Box_open 26 = .ok (.iconst 0, 1) := by decide +kernel
theorem d_Box_open_27 : decode b_Box_open 27 = .ok (.putfield 31, 3) := by decide +kernel
theorem d_Box_open_30 : decode b_Box_open 30 = .ok (.return_, 1) := by decide +kernel
theorem d_Box_window_0 : decode b_Box_window 0 = .ok (.bipush 64, 2) := by decide +kernel
theorem d_Box_window_2 : decode b_Box_window 2 = .ok (.aload_n 0, 1) := by decide +kernel
theorem d_Box_window_3 : decode b_Box_window 3 = .ok (.getfield 17, 3) := by decide +kernel
theorem d_Box_window_6 : decode b_Box_window 6 = .ok (.isub, 1) := by decide +kernel
theorem d_Box_window_7 : decode b_Box_window 7 = .ok (.ireturn, 1) := by decide +kernel
theorem d_Box_isNear_0 : decode b_Box_isNear 0 = .ok (.iload_n 1, 1) := by decide +kernel
theorem d_Box_isNear_1 : decode b_Box_isNear 1 = .ok (.ifCond .lt 30, 3) := by decide +kernel
theorem d_Box_isNear_4 : decode b_Box_isNear 4 = .ok (.iload_n 1, 1) := by decide +kernel
theorem d_Box_isNear_5 : decode b_Box_isNear 5 = .ok (.aload_n 0, 1) := by decide +kernel
theorem d_Box_isNear_6 : decode b_Box_isNear 6 = .ok (.invokevirtual 34, 3) := by decide +kernel
theorem d_Box_isNear_9 : decode b_Box_isNear 9 = .ok (.if_icmp .ge 22, 3) := by decide +kernel
theorem d_Box_isNear_12 : decode b_Box_isNear 12 = .ok (.aload_n 0, 1) := by decide +kernel
theorem d_Box_isNear_13 : decode b_Box_isNear 13 = .ok (.getfield 27, 3) := by decide +kernel
theorem d_Box_isNear_16 : decode b_Box_isNear 16 = .ok (.ifCond .eq 11, 3) := by decide +kernel
theorem d_Box_isNear_19 : decode b_Box_isNear 19 = .ok (.iload_n 1, 1) := by decide +kernel
theorem d_Box_isNear_20 : decode b_Box_isNear 20 = .ok (.aload_n 0, 1) := by decide +kernel
theorem d_Box_isNear_21 : decode b_Box_isNear 21 = .ok (.getfield 31, 3) := by decide +kernel
theorem d_Box_isNear_24 : decode b_Box_isNear 24 = .ok (.if_icmp .ge 7, 3) := by decide +kernel
theorem d_Box_isNear_27 : decode b_Box_isNear 27 = .ok (.iconst 1, 1) := by decide +kernel
theorem d_Box_isNear_28 : decode b_Box_isNear 28 = .ok (.goto 4, 3) := by decide +kernel
theorem d_Box_isNear_31 : decode b_Box_isNear 31 = .ok (.iconst 0, 1) := by decide +kernel
theorem d_Box_isNear_32 : decode b_Box_isNear 32 = .ok (.ireturn, 1) := by decide +kernel
theorem d_Box_segment_0 : decode b_Box_segment 0 = .ok (.iload 4, 2) := by decide +kernel
theorem d_Box_segment_2 : decode b_Box_segment 2 = .ok (.ifCond .lt 10, 3) := by decide +kernel
theorem d_Box_segment_5 : decode b_Box_segment 5 = .ok (.iload 4, 2) := by decide +kernel
theorem d_Box_segment_7 : decode b_Box_segment 7 = .ok (.bipush 8, 2) := by decide +kernel
theorem d_Box_segment_9 : decode b_Box_segment 9 = .ok (.if_icmp .le 11, 3) := by decide +kernel
theorem d_Box_segment_12 : decode b_Box_segment 12 = .ok (.new 38, 3) := by decide +kernel
theorem d_Box_segment_15 : decode b_Box_segment 15 = .ok (.dup, 1) := by decide +kernel
theorem d_Box_segment_16 : decode b_Box_segment 16 = .ok (.invokespecial 40, 3) := by decide +kernel
theorem d_Box_segment_19 : decode b_Box_segment 19 = .ok (.athrow, 1) := by decide +kernel
theorem d_Box_segment_20 : decode b_Box_segment 20 = .ok (.iconst 0, 1) := by decide +kernel
theorem d_Box_segment_21 : decode b_Box_segment 21 = .ok (.istore 5, 2) := by decide +kernel
theorem d_Box_segment_23 : decode b_Box_segment 23 = .ok (.iload 5, 2) := by decide +kernel
theorem d_Box_segment_25 : decode b_Box_segment 25 = .ok (.iload 4, 2) := by decide +kernel
theorem d_Box_segment_27 : decode b_Box_segment 27 = .ok (.if_icmp .ge 88, 3) := by decide +kernel
theorem d_Box_segment_30 : decode b_Box_segment 30 = .ok (.iload_n 1, 1) := by decide +kernel
theorem d_Box_segment_31 : decode b_Box_segment 31 = .ok (.iload 5, 2) := by decide +kernel
theorem d_Box_segment_33 : decode b_Box_segment 33 = .ok (.iadd, 1) := by decide +kernel
theorem d_Box_segment_34 : decode b_Box_segment 34 = .ok (.aload_n 0, 1) := by decide +kernel
theorem d_Box_segment_35 : decode b_Box_segment 35 = .ok (.getfield 20, 3) := by decide +kernel
theorem d_Box_segment_38 : decode b_Box_segment 38 = .ok (.isub, 1) := by decide +kernel
theorem d_Box_segment_39 : decode b_Box_segment 39 = .ok (.istore 6, 2) := by decide +kernel
theorem d_Box_segment_41 : decode b_Box_segment 41 = .ok (.aload_n 0, 1) := by decide +kernel
theorem d_Box_segment_42 : decode b_Box_segment 42 = .ok (.iload 6, 2) := by decide +kernel
theorem d_Box_segment_44 : decode b_Box_segment 44 = .ok (.invokevirtual 41, 3) := by decide +kernel
theorem d_Box_segment_47 : decode b_Box_segment 47 = .ok (.ifCond .eq 62, 3) := by decide +kernel
theorem d_Box_segment_50 : decode b_Box_segment 50 = .ok (.aload_n 0, 1) := by decide +kernel
theorem d_Box_segment_51 : decode b_Box_segment 51 = .ok (.getfield 23, 3) := by decide +kernel
theorem d_Box_segment_54 : decode b_Box_segment 54 = .ok (.iload 6, 2) := by decide +kernel
theorem d_Box_segment_56 : decode b_Box_segment 56 = .ok (.lushr, 1) := by decide +kernel
theorem d_Box_segment_57 : decode b_Box_segment 57 = .ok (.lconst 1, 1) := by decide +kernel
theorem d_Box_segment_58 : decode b_Box_segment 58 = .ok (.land, 1) := by decide +kernel
theorem d_Box_segment_59 : decode b_Box_segment 59 = .ok (.lconst 1, 1) := by decide +kernel
theorem d_Box_segment_60 : decode b_Box_segment 60 = .ok (.lcmp, 1) := by decide +kernel
theorem d_Box_segment_61 : decode b_Box_segment 61 = .ok (.ifCond .ne 6, 3) := by decide +kernel
theorem d_Box_segment_64 : decode b_Box_segment 64 = .ok (.goto 45, 3) := by decide +kernel
theorem d_Box_segment_67 : decode b_Box_segment 67 = .ok (.aload_n 0, 1) := by decide +kernel
theorem d_Box_segment_68 : decode b_Box_segment 68 = .ok (.dup, 1) := by decide +kernel
theorem d_Box_segment_69 : decode b_Box_segment 69 = .ok (.getfield 23, 3) := by decide +kernel
theorem d_Box_segment_72 : decode b_Box_segment 72 = .ok (.lconst 1, 1) := by decide +kernel
theorem d_Box_segment_73 : decode b_Box_segment 73 = .ok (.iload 6, 2) := by decide +kernel
theorem d_Box_segment_75 : decode b_Box_segment 75 = .ok (.lshl, 1) := by decide +kernel
theorem d_Box_segment_76 : decode b_Box_segment 76 = .ok (.lor, 1) := by decide +kernel
theorem d_Box_segment_77 : decode b_Box_segment 77 = .ok (.putfield 23, 3) := by decide +kernel
theorem d_Box_segment_80 : decode b_Box_segment 80 = .ok (.aload_n 0, 1) := by decide +kernel
theorem d_Box_segment_81 : decode b_Box_segment 81 = .ok (.getfield 7, 3) := by decide +kernel
theorem d_Box_segment_84 : decode b_Box_segment 84 = .ok (.aload_n 0, 1) := by decide +kernel
theorem d_Box_segment_85 : decode b_Box_segment 85 = .ok (.getfield 13, 3) := by decide +kernel
theorem d_Box_segment_88 : decode b_Box_segment 88 = .ok (.aload_n 0, 1) := by decide +kernel
theorem d_Box_segment_89 : decode b_Box_segment 89 = .ok (.getfield 17, 3) := by decide +kernel
theorem d_Box_segment_92 : decode b_Box_segment 92 = .ok (.iadd, 1) := by decide +kernel
theorem d_Box_segment_93 : decode b_Box_segment 93 = .ok (.iload 6, 2) := by decide +kernel
theorem d_Box_segment_95 : decode b_Box_segment 95 = .ok (.iadd, 1) := by decide +kernel
theorem d_Box_segment_96 : decode b_Box_segment 96 = .ok (.bipush 63, 2) := by decide +kernel
theorem d_Box_segment_98 : decode b_Box_segment 98 = .ok (.iand, 1) := by decide +kernel
theorem d_Box_segment_99 : decode b_Box_segment 99 = .ok (.lload_n 2, 1) := by decide +kernel
theorem d_Box_segment_100 : decode b_Box_segment 100 = .ok (.bipush 8, 2) := by decide +kernel
theorem d_Box_segment_102 : decode b_Box_segment 102 = .ok (.iload 5, 2) := by decide +kernel
theorem d_Box_segment_104 : decode b_Box_segment 104 = .ok (.imul, 1) := by decide +kernel
theorem d_Box_segment_105 : decode b_Box_segment 105 = .ok (.lushr, 1) := by decide +kernel
theorem d_Box_segment_106 : decode b_Box_segment 106 = .ok (.l2i, 1) := by decide +kernel
theorem d_Box_segment_107 : decode b_Box_segment 107 = .ok (.i2b, 1) := by decide +kernel
theorem d_Box_segment_108 : decode b_Box_segment 108 = .ok (.bastore, 1) := by decide +kernel
theorem d_Box_segment_109 : decode b_Box_segment 109 = .ok (.iinc 5 1, 3) := by decide +kernel
theorem d_Box_segment_112 : decode b_Box_segment 112 = .ok (.goto (-89), 3) := by decide +kernel
theorem d_Box_segment_115 : decode b_Box_segment 115 = .ok (.aload_n 0, 1) := by decide +kernel
theorem d_Box_segment_116 : decode b_Box_segment 116 = .ok (.getfield 17, 3) := by decide +kernel
theorem d_Box_segment_119 : decode b_Box_segment 119 = .ok (.istore 5, 2) := by decide +kernel
theorem d_Box_segment_121 : decode b_Box_segment 121 = .ok (.aload_n 0, 1) := by decide +kernel
theorem d_Box_segment_122 : decode b_Box_segment 122 = .ok (.getfield 23, 3) := by decide +kernel
theorem d_Box_segment_125 : decode b_Box_segment 125 = .ok (.lconst 1, 1) := by decide +kernel
theorem d_Box_segment_126 : decode b_Box_segment 126 = .ok (.land, 1) := by decide +kernel
theorem d_Box_segment_127 : decode b_Box_segment 127 = .ok (.lconst 1, 1) := by decide +kernel
theorem d_Box_segment_128 : decode b_Box_segment 128 = .ok (.lcmp, 1) := by decide +kernel
theorem d_Box_segment_129 : decode b_Box_segment 129 = .ok (.ifCond .ne 46, 3) := by decide +kernel
theorem d_Box_segment_132 : decode b_Box_segment 132 = .ok (.aload_n 0, 1) := by decide +kernel
theorem d_Box_segment_133 : decode b_Box_segment 133 = .ok (.aload_n 0, 1) := by decide +kernel
theorem d_Box_segment_134 : decode b_Box_segment 134 = .ok (.getfield 23, 3) := by decide +kernel
theorem d_Box_segment_137 : decode b_Box_segment 137 = .ok (.iconst 1, 1) := by decide +kernel
theorem d_Box_segment_138 : decode b_Box_segment 138 = .ok (.lushr, 1) := by decide +kernel
theorem d_Box_segment_139 : decode b_Box_segment 139 = .ok (.putfield 23, 3) := by decide +kernel
theorem d_Box_segment_142 : decode b_Box_segment 142 = .ok (.aload_n 0, 1) := by decide +kernel
theorem d_Box_segment_143 : decode b_Box_segment 143 = .ok (.dup, 1) := by decide +kernel
theorem d_Box_segment_144 : decode b_Box_segment 144 = .ok (.getfield 17, 3) := by decide +kernel
theorem d_Box_segment_147 : decode b_Box_segment 147 = .ok (.iconst 1, 1) := by decide +kernel
theorem d_Box_segment_148 : decode b_Box_segment 148 = .ok (.iadd, 1) := by decide +kernel
theorem d_Box_segment_149 : decode b_Box_segment 149 = .ok (.putfield 17, 3) := by decide +kernel
theorem d_Box_segment_152 : decode b_Box_segment 152 = .ok (.aload_n 0, 1) := by decide +kernel
theorem d_Box_segment_153 : decode b_Box_segment 153 = .ok (.dup, 1) := by decide +kernel
theorem d_Box_segment_154 : decode b_Box_segment 154 = .ok (.getfield 20, 3) := by decide +kernel
theorem d_Box_segment_157 : decode b_Box_segment 157 = .ok (.iconst 1, 1) := by decide +kernel
theorem d_Box_segment_158 : decode b_Box_segment 158 = .ok (.iadd, 1) := by decide +kernel
theorem d_Box_segment_159 : decode b_Box_segment 159 = .ok (.putfield 20, 3) := by decide +kernel
theorem d_Box_segment_162 : decode b_Box_segment 162 = .ok (.aload_n 0, 1) := by decide +kernel
theorem d_Box_segment_163 : decode b_Box_segment 163 = .ok (.dup, 1) := by decide +kernel
theorem d_Box_segment_164 : decode b_Box_segment 164 = .ok (.getfield 31, 3) := by decide +kernel
theorem d_Box_segment_167 : decode b_Box_segment 167 = .ok (.iconst 1, 1) := by decide +kernel
theorem d_Box_segment_168 : decode b_Box_segment 168 = .ok (.isub, 1) := by decide +kernel
theorem d_Box_segment_169 : decode b_Box_segment 169 = .ok (.putfield 31, 3) := by decide +kernel
theorem d_Box_segment_172 : decode b_Box_segment 172 = .ok (.goto (-51), 3) := by decide +kernel
theorem d_Box_segment_175 : decode b_Box_segment 175 = .ok (.aload_n 0, 1) := by decide +kernel
theorem d_Box_segment_176 : decode b_Box_segment 176 = .ok (.getfield 17, 3) := by decide +kernel
theorem d_Box_segment_179 : decode b_Box_segment 179 = .ok (.iload 5, 2) := by decide +kernel
theorem d_Box_segment_181 : decode b_Box_segment 181 = .ok (.isub, 1) := by decide +kernel
theorem d_Box_segment_182 : decode b_Box_segment 182 = .ok (.ireturn, 1) := by decide +kernel
theorem d_Box_end_0 : decode b_Box_end 0 = .ok (.iload_n 1, 1) := by decide +kernel
theorem d_Box_end_1 : decode b_Box_end 1 = .ok (.aload_n 0, 1) := by decide +kernel
theorem d_Box_end_2 : decode b_Box_end 2 = .ok (.getfield 20, 3) := by decide +kernel
theorem d_Box_end_5 : decode b_Box_end 5 = .ok (.isub, 1) := by decide +kernel
theorem d_Box_end_6 : decode b_Box_end 6 = .ok (.istore_n 2, 1) := by decide +kernel
theorem d_Box_end_7 : decode b_Box_end 7 = .ok (.aload_n 0, 1) := by decide +kernel
theorem d_Box_end_8 : decode b_Box_end 8 = .ok (.getfield 27, 3) := by decide +kernel
theorem d_Box_end_11 : decode b_Box_end 11 = .ok (.ifCond .ne 15, 3) := by decide +kernel
theorem d_Box_end_14 : decode b_Box_end 14 = .ok (.iload_n 2, 1) := by decide +kernel
theorem d_Box_end_15 : decode b_Box_end 15 = .ok (.ifCond .lt 11, 3) := by decide +kernel
theorem d_Box_end_18 : decode b_Box_end 18 = .ok (.iload_n 2, 1) := by decide +kernel
theorem d_Box_end_19 : decode b_Box_end 19 = .ok (.aload_n 0, 1) := by decide +kernel
theorem d_Box_end_20 : decode b_Box_end 20 = .ok (.invokevirtual 34, 3) := by decide +kernel
theorem d_Box_end_23 : decode b_Box_end 23 = .ok (.if_icmp .le 5, 3) := by decide +kernel
theorem d_Box_end_26 : decode b_Box_end 26 = .ok (.iconst 0, 1) := by decide +kernel
theorem d_Box_end_27 : decode b_Box_end 27 = .ok (.ireturn, 1) := by decide +kernel
theorem d_Box_end_28 : decode b_Box_end 28 = .ok (.iload_n 2, 1) := by decide +kernel
theorem d_Box_end_29 : decode b_Box_end 29 = .ok (.bipush 64, 2) := by decide +kernel
theorem d_Box_end_31 : decode b_Box_end 31 = .ok (.if_icmp .ge 16, 3) := by decide +kernel
theorem d_Box_end_34 : decode b_Box_end 34 = .ok (.aload_n 0, 1) := by decide +kernel
theorem d_Box_end_35 : decode b_Box_end 35 = .ok (.getfield 23, 3) := by decide +kernel
theorem d_Box_end_38 : decode b_Box_end 38 = .ok (.iload_n 2, 1) := by decide +kernel
theorem d_Box_end_39 : decode b_Box_end 39 = .ok (.lushr, 1) := by decide +kernel
theorem d_Box_end_40 : decode b_Box_end 40 = .ok (.lconst 0, 1) := by decide +kernel
theorem d_Box_end_41 : decode b_Box_end 41 = .ok (.lcmp, 1) := by decide +kernel
theorem d_Box_end_42 : decode b_Box_end 42 = .ok (.ifCond .eq 5, 3) := by decide +kernel
theorem d_Box_end_45 : decode b_Box_end 45 = .ok (.iconst 0, 1) := by decide +kernel
theorem d_Box_end_46 : decode b_Box_end 46 = .ok (.ireturn, 1) := by decide +kernel
theorem d_Box_end_47 : decode b_Box_end 47 = .ok (.aload_n 0, 1) := by decide +kernel
theorem d_Box_end_48 : decode b_Box_end 48 = .ok (.iconst 1, 1) := by decide +kernel
theorem d_Box_end_49 : decode b_Box_end 49 = .ok (.putfield 27, 3) := by decide +kernel
theorem d_Box_end_52 : decode b_Box_end 52 = .ok (.aload_n 0, 1) := by decide +kernel
theorem d_Box_end_53 : decode b_Box_end 53 = .ok (.iload_n 2, 1) := by decide +kernel
theorem d_Box_end_54 : decode b_Box_end 54 = .ok (.putfield 31, 3) := by decide +kernel
theorem d_Box_end_57 : decode b_Box_end 57 = .ok (.iconst 1, 1) := by decide +kernel
theorem d_Box_end_58 : decode b_Box_end 58 = .ok (.ireturn, 1) := by decide +kernel
theorem d_Box_read_0 : decode b_Box_read 0 = .ok (.aload_n 0, 1) := by decide +kernel
theorem d_Box_read_1 : decode b_Box_read 1 = .ok (.getfield 17, 3) := by decide +kernel
theorem d_Box_read_4 : decode b_Box_read 4 = .ok (.ifCond .ne 24, 3) := by decide +kernel
theorem d_Box_read_7 : decode b_Box_read 7 = .ok (.aload_n 0, 1) := by decide +kernel
theorem d_Box_read_8 : decode b_Box_read 8 = .ok (.getfield 27, 3) := by decide +kernel
theorem d_Box_read_11 : decode b_Box_read 11 = .ok (.ifCond .eq 15, 3) := by decide +kernel
theorem d_Box_read_14 : decode b_Box_read 14 = .ok (.aload_n 0, 1) := by decide +kernel
theorem d_Box_read_15 : decode b_Box_read 15 = .ok (.getfield 31, 3) := by decide +kernel
theorem d_Box_read_18 : decode b_Box_read 18 = .ok (.ifCond .ne 8, 3) := by decide +kernel
theorem d_Box_read_21 : decode b_Box_read 21 = .ok (.bipush (-2), 2) := by decide +kernel
theorem d_Box_read_23 : decode b_Box_read 23 = .ok (.goto 4, 3) := by decide +kernel
theorem d_Box_read_26 : decode b_Box_read 26 = .ok (.iconst (-1), 1) := by decide +kernel
theorem d_Box_read_27 : decode b_Box_read 27 = .ok (.ireturn, 1) := by decide +kernel
theorem d_Box_read_28 : decode b_Box_read 28 = .ok (.aload_n 0, 1) := by decide +kernel
theorem d_Box_read_29 : decode b_Box_read 29 = .ok (.getfield 7, 3) := by decide +kernel
theorem d_Box_read_32 : decode b_Box_read 32 = .ok (.aload_n 0, 1) := by decide +kernel
theorem d_Box_read_33 : decode b_Box_read 33 = .ok (.getfield 13, 3) := by decide +kernel
theorem d_Box_read_36 : decode b_Box_read 36 = .ok (.baload, 1) := by decide +kernel
theorem d_Box_read_37 : decode b_Box_read 37 = .ok (.sipush 255, 3) := by decide +kernel
theorem d_Box_read_40 : decode b_Box_read 40 = .ok (.iand, 1) := by decide +kernel
theorem d_Box_read_41 : decode b_Box_read 41 = .ok (.istore_n 1, 1) := by decide +kernel
theorem d_Box_read_42 : decode b_Box_read 42 = .ok (.aload_n 0, 1) := by decide +kernel
theorem d_Box_read_43 : decode b_Box_read 43 = .ok (.aload_n 0, 1) := by decide +kernel
theorem d_Box_read_44 : decode b_Box_read 44 = .ok (.getfield 13, 3) := by decide +kernel
theorem d_Box_read_47 : decode b_Box_read 47 = .ok (.iconst 1, 1) := by decide +kernel
theorem d_Box_read_48 : decode b_Box_read 48 = .ok (.iadd, 1) := by decide +kernel
theorem d_Box_read_49 : decode b_Box_read 49 = .ok (.bipush 63, 2) := by decide +kernel
theorem d_Box_read_51 : decode b_Box_read 51 = .ok (.iand, 1) := by decide +kernel
theorem d_Box_read_52 : decode b_Box_read 52 = .ok (.putfield 13, 3) := by decide +kernel
theorem d_Box_read_55 : decode b_Box_read 55 = .ok (.aload_n 0, 1) := by decide +kernel
theorem d_Box_read_56 : decode b_Box_read 56 = .ok (.dup, 1) := by decide +kernel
theorem d_Box_read_57 : decode b_Box_read 57 = .ok (.getfield 17, 3) := by decide +kernel
theorem d_Box_read_60 : decode b_Box_read 60 = .ok (.iconst 1, 1) := by decide +kernel
theorem d_Box_read_61 : decode b_Box_read 61 = .ok (.isub, 1) := by decide +kernel
theorem d_Box_read_62 : decode b_Box_read 62 = .ok (.putfield 17, 3) := by decide +kernel
theorem d_Box_read_65 : decode b_Box_read 65 = .ok (.iload_n 1, 1) := by decide +kernel
theorem d_Box_read_66 : decode b_Box_read 66 = .ok (.ireturn, 1) := by decide +kernel
theorem d_Box_counted_0 : decode b_Box_counted 0 = .ok (.iconst 0, 1) := by decide +kernel
theorem d_Box_counted_1 : decode b_Box_counted 1 = .ok (.istore_n 1, 1) := by decide +kernel
theorem d_Box_counted_2 : decode b_Box_counted 2 = .ok (.aload_n 0, 1) := by decide +kernel
theorem d_Box_counted_3 : decode b_Box_counted 3 = .ok (.getfield 23, 3) := by decide +kernel
theorem d_Box_counted_6 : decode b_Box_counted 6 = .ok (.lstore_n 2, 1) := by decide +kernel
theorem d_Box_counted_7 : decode b_Box_counted 7 = .ok (.lload_n 2, 1) := by decide +kernel
theorem d_Box_counted_8 : decode b_Box_counted 8 = .ok (.lconst 0, 1) := by decide +kernel
theorem d_Box_counted_9 : decode b_Box_counted 9 = .ok (.lcmp, 1) := by decide +kernel
theorem d_Box_counted_10 : decode b_Box_counted 10 = .ok (.ifCond .eq 15, 3) := by decide +kernel
theorem d_Box_counted_13 : decode b_Box_counted 13 = .ok (.iinc 1 1, 3) := by decide +kernel
theorem d_Box_counted_16 : decode b_Box_counted 16 = .ok (.lload_n 2, 1) := by decide +kernel
theorem d_Box_counted_17 : decode b_Box_counted 17 = .ok (.lload_n 2, 1) := by decide +kernel
theorem d_Box_counted_18 : decode b_Box_counted 18 = .ok (.lconst 1, 1) := by decide +kernel
theorem d_Box_counted_19 : decode b_Box_counted 19 = .ok (.lsub, 1) := by decide +kernel
theorem d_Box_counted_20 : decode b_Box_counted 20 = .ok (.land, 1) := by decide +kernel
theorem d_Box_counted_21 : decode b_Box_counted 21 = .ok (.lstore_n 2, 1) := by decide +kernel
theorem d_Box_counted_22 : decode b_Box_counted 22 = .ok (.goto (-15), 3) := by decide +kernel
theorem d_Box_counted_25 : decode b_Box_counted 25 = .ok (.iload_n 1, 1) := by decide +kernel
theorem d_Box_counted_26 : decode b_Box_counted 26 = .ok (.ireturn, 1) := by decide +kernel
theorem d_Box_begins_0 : decode b_Box_begins 0 = .ok (.aload_n 0, 1) := by decide +kernel
theorem d_Box_begins_1 : decode b_Box_begins 1 = .ok (.getfield 23, 3) := by decide +kernel
theorem d_Box_begins_4 : decode b_Box_begins 4 = .ok (.aload_n 0, 1) := by decide +kernel
theorem d_Box_begins_5 : decode b_Box_begins 5 = .ok (.getfield 23, 3) := by decide +kernel
theorem d_Box_begins_8 : decode b_Box_begins 8 = .ok (.iconst 1, 1) := by decide +kernel
theorem d_Box_begins_9 : decode b_Box_begins 9 = .ok (.lshl, 1) := by decide +kernel
theorem d_Box_begins_10 : decode b_Box_begins 10 = .ok (.ldc2_w 45, 3) := by decide +kernel
theorem d_Box_begins_13 : decode b_Box_begins 13 = .ok (.lxor, 1) := by decide +kernel
theorem d_Box_begins_14 : decode b_Box_begins 14 = .ok (.land, 1) := by decide +kernel
theorem d_Box_begins_15 : decode b_Box_begins 15 = .ok (.lreturn, 1) := by decide +kernel
theorem d_Box_blocks_0 : decode b_Box_blocks 0 = .ok (.iconst 0, 1) := by decide +kernel
theorem d_Box_blocks_1 : decode b_Box_blocks 1 = .ok (.istore_n 1, 1) := by decide +kernel
theorem d_Box_blocks_2 : decode b_Box_blocks 2 = .ok (.aload_n 0, 1) := by decide +kernel
theorem d_Box_blocks_3 : decode b_Box_blocks 3 = .ok (.invokevirtual 47, 3) := by decide +kernel
theorem d_Box_blocks_6 : decode b_Box_blocks 6 = .ok (.lstore_n 2, 1) := by decide +kernel
theorem d_Box_blocks_7 : decode b_Box_blocks 7 = .ok (.lload_n 2, 1) := by decide +kernel
theorem d_Box_blocks_8 : decode b_Box_blocks 8 = .ok (.lconst 0, 1) := by decide +kernel
theorem d_Box_blocks_9 : decode b_Box_blocks 9 = .ok (.lcmp, 1) := by decide +kernel
theorem d_Box_blocks_10 : decode b_Box_blocks 10 = .ok (.ifCond .eq 15, 3) := by decide +kernel
theorem d_Box_blocks_13 : decode b_Box_blocks 13 = .ok (.iinc 1 1, 3) := by decide +kernel
theorem d_Box_blocks_16 : decode b_Box_blocks 16 = .ok (.lload_n 2, 1) := by decide +kernel
theorem d_Box_blocks_17 : decode b_Box_blocks 17 = .ok (.lload_n 2, 1) := by decide +kernel
theorem d_Box_blocks_18 : decode b_Box_blocks 18 = .ok (.lconst 1, 1) := by decide +kernel
theorem d_Box_blocks_19 : decode b_Box_blocks 19 = .ok (.lsub, 1) := by decide +kernel
theorem d_Box_blocks_20 : decode b_Box_blocks 20 = .ok (.land, 1) := by decide +kernel
theorem d_Box_blocks_21 : decode b_Box_blocks 21 = .ok (.lstore_n 2, 1) := by decide +kernel
theorem d_Box_blocks_22 : decode b_Box_blocks 22 = .ok (.goto (-15), 3) := by decide +kernel
theorem d_Box_blocks_25 : decode b_Box_blocks 25 = .ok (.iload_n 1, 1) := by decide +kernel
theorem d_Box_blocks_26 : decode b_Box_blocks 26 = .ok (.ireturn, 1) := by decide +kernel
theorem d_Box_told_0 : decode b_Box_told 0 = .ok (.iload_n 1, 1) := by decide +kernel
theorem d_Box_told_1 : decode b_Box_told 1 = .ok (.tableswitch 77 0 5 #[39, 44, 49, 54, 59, 64], 39) := by decide +kernel
theorem d_Box_told_40 : decode b_Box_told 40 = .ok (.aload_n 0, 1) := by decide +kernel
theorem d_Box_told_41 : decode b_Box_told 41 = .ok (.getfield 20, 3) := by decide +kernel
theorem d_Box_told_44 : decode b_Box_told 44 = .ok (.ireturn, 1) := by decide +kernel
theorem d_Box_told_45 : decode b_Box_told 45 = .ok (.aload_n 0, 1) := by decide +kernel
theorem d_Box_told_46 : decode b_Box_told 46 = .ok (.invokevirtual 34, 3) := by decide +kernel
theorem d_Box_told_49 : decode b_Box_told 49 = .ok (.ireturn, 1) := by decide +kernel
theorem d_Box_told_50 : decode b_Box_told 50 = .ok (.aload_n 0, 1) := by decide +kernel
theorem d_Box_told_51 : decode b_Box_told 51 = .ok (.getfield 17, 3) := by decide +kernel
theorem d_Box_told_54 : decode b_Box_told 54 = .ok (.ireturn, 1) := by decide +kernel
theorem d_Box_told_55 : decode b_Box_told 55 = .ok (.aload_n 0, 1) := by decide +kernel
theorem d_Box_told_56 : decode b_Box_told 56 = .ok (.invokevirtual 51, 3) := by decide +kernel
theorem d_Box_told_59 : decode b_Box_told 59 = .ok (.ireturn, 1) := by decide +kernel
theorem d_Box_told_60 : decode b_Box_told 60 = .ok (.aload_n 0, 1) := by decide +kernel
theorem d_Box_told_61 : decode b_Box_told 61 = .ok (.invokevirtual 54, 3) := by decide +kernel
theorem d_Box_told_64 : decode b_Box_told 64 = .ok (.ireturn, 1) := by decide +kernel
theorem d_Box_told_65 : decode b_Box_told 65 = .ok (.aload_n 0, 1) := by decide +kernel
theorem d_Box_told_66 : decode b_Box_told 66 = .ok (.getfield 27, 3) := by decide +kernel
theorem d_Box_told_69 : decode b_Box_told 69 = .ok (.ifCond .eq 7, 3) := by decide +kernel
theorem d_Box_told_72 : decode b_Box_told 72 = .ok (.iconst 1, 1) := by decide +kernel
theorem d_Box_told_73 : decode b_Box_told 73 = .ok (.goto 4, 3) := by decide +kernel
theorem d_Box_told_76 : decode b_Box_told 76 = .ok (.iconst 0, 1) := by decide +kernel
theorem d_Box_told_77 : decode b_Box_told 77 = .ok (.ireturn, 1) := by decide +kernel
theorem d_Box_told_78 : decode b_Box_told 78 = .ok (.new 38, 3) := by decide +kernel
theorem d_Box_told_81 : decode b_Box_told 81 = .ok (.dup, 1) := by decide +kernel
theorem d_Box_told_82 : decode b_Box_told 82 = .ok (.invokespecial 40, 3) := by decide +kernel
theorem d_Box_told_85 : decode b_Box_told 85 = .ok (.athrow, 1) := by decide +kernel
theorem d_Box_block_0 : decode b_Box_block 0 = .ok (.iload_n 1, 1) := by decide +kernel
theorem d_Box_block_1 : decode b_Box_block 1 = .ok (.ifCond .lt 11, 3) := by decide +kernel
theorem d_Box_block_4 : decode b_Box_block 4 = .ok (.iload_n 1, 1) := by decide +kernel
theorem d_Box_block_5 : decode b_Box_block 5 = .ok (.aload_n 0, 1) := by decide +kernel
theorem d_Box_block_6 : decode b_Box_block 6 = .ok (.invokevirtual 54, 3) := by decide +kernel
theorem d_Box_block_9 : decode b_Box_block 9 = .ok (.if_icmp .lt 11, 3) := by decide +kernel
theorem d_Box_block_12 : decode b_Box_block 12 = .ok (.new 57, 3) := by decide +kernel
theorem d_Box_block_15 : decode b_Box_block 15 = .ok (.dup, 1) := by decide +kernel
theorem d_Box_block_16 : decode b_Box_block 16 = .ok (.invokespecial 59, 3) := by decide +kernel
theorem d_Box_block_19 : decode b_Box_block 19 = .ok (.athrow, 1) := by decide +kernel
theorem d_Box_block_20 : decode b_Box_block 20 = .ok (.aload_n 0, 1) := by decide +kernel
theorem d_Box_block_21 : decode b_Box_block 21 = .ok (.invokevirtual 47, 3) := by decide +kernel
theorem d_Box_block_24 : decode b_Box_block 24 = .ok (.lstore_n 3, 1) := by decide +kernel
theorem d_Box_block_25 : decode b_Box_block 25 = .ok (.iconst 0, 1) := by decide +kernel
theorem d_Box_block_26 : decode b_Box_block 26 = .ok (.istore 5, 2) := by decide +kernel
theorem d_Box_block_28 : decode b_Box_block 28 = .ok (.iload 5, 2) := by decide +kernel
theorem d_Box_block_30 : decode b_Box_block 30 = .ok (.iload_n 1, 1) := by decide +kernel
theorem d_Box_block_31 : decode b_Box_block 31 = .ok (.if_icmp .ge 15, 3) := by decide +kernel
theorem d_Box_block_34 : decode b_Box_block 34 = .ok (.lload_n 3, 1) := by decide +kernel
theorem d_Box_block_35 : decode b_Box_block 35 = .ok (.lload_n 3, 1) := by decide +kernel
theorem d_Box_block_36 : decode b_Box_block 36 = .ok (.lconst 1, 1) := by decide +kernel
theorem d_Box_block_37 : decode b_Box_block 37 = .ok (.lsub, 1) := by decide +kernel
theorem d_Box_block_38 : decode b_Box_block 38 = .ok (.land, 1) := by decide +kernel
theorem d_Box_block_39 : decode b_Box_block 39 = .ok (.lstore_n 3, 1) := by decide +kernel
theorem d_Box_block_40 : decode b_Box_block 40 = .ok (.iinc 5 1, 3) := by decide +kernel
theorem d_Box_block_43 : decode b_Box_block 43 = .ok (.goto (-15), 3) := by decide +kernel
theorem d_Box_block_46 : decode b_Box_block 46 = .ok (.iconst 0, 1) := by decide +kernel
theorem d_Box_block_47 : decode b_Box_block 47 = .ok (.istore 5, 2) := by decide +kernel
theorem d_Box_block_49 : decode b_Box_block 49 = .ok (.lload_n 3, 1) := by decide +kernel
theorem d_Box_block_50 : decode b_Box_block 50 = .ok (.iload 5, 2) := by decide +kernel
theorem d_Box_block_52 : decode b_Box_block 52 = .ok (.lushr, 1) := by decide +kernel
theorem d_Box_block_53 : decode b_Box_block 53 = .ok (.lconst 1, 1) := by decide +kernel
theorem d_Box_block_54 : decode b_Box_block 54 = .ok (.land, 1) := by decide +kernel
theorem d_Box_block_55 : decode b_Box_block 55 = .ok (.lconst 0, 1) := by decide +kernel
theorem d_Box_block_56 : decode b_Box_block 56 = .ok (.lcmp, 1) := by decide +kernel
theorem d_Box_block_57 : decode b_Box_block 57 = .ok (.ifCond .ne 9, 3) := by decide +kernel
theorem d_Box_block_60 : decode b_Box_block 60 = .ok (.iinc 5 1, 3) := by decide +kernel
theorem d_Box_block_63 : decode b_Box_block 63 = .ok (.goto (-14), 3) := by decide +kernel
theorem d_Box_block_66 : decode b_Box_block 66 = .ok (.iload_n 2, 1) := by decide +kernel
theorem d_Box_block_67 : decode b_Box_block 67 = .ok (.ifCond .ne 11, 3) := by decide +kernel
theorem d_Box_block_70 : decode b_Box_block 70 = .ok (.aload_n 0, 1) := by decide +kernel
theorem d_Box_block_71 : decode b_Box_block 71 = .ok (.getfield 20, 3) := by decide +kernel
theorem d_Box_block_74 : decode b_Box_block 74 = .ok (.iload 5, 2) := by decide +kernel
theorem d_Box_block_76 : decode b_Box_block 76 = .ok (.iadd, 1) := by decide +kernel
theorem d_Box_block_77 : decode b_Box_block 77 = .ok (.ireturn, 1) := by decide +kernel
theorem d_Box_block_78 : decode b_Box_block 78 = .ok (.iconst 0, 1) := by decide +kernel
theorem d_Box_block_79 : decode b_Box_block 79 = .ok (.istore 6, 2) := by decide +kernel
theorem d_Box_block_81 : decode b_Box_block 81 = .ok (.iload 5, 2) := by decide +kernel
theorem d_Box_block_83 : decode b_Box_block 83 = .ok (.iload 6, 2) := by decide +kernel
theorem d_Box_block_85 : decode b_Box_block 85 = .ok (.iadd, 1) := by decide +kernel
theorem d_Box_block_86 : decode b_Box_block 86 = .ok (.bipush 64, 2) := by decide +kernel
theorem d_Box_block_88 : decode b_Box_block 88 = .ok (.if_icmp .ge 26, 3) := by decide +kernel
theorem d_Box_block_91 : decode b_Box_block 91 = .ok (.aload_n 0, 1) := by decide +kernel
theorem d_Box_block_92 : decode b_Box_block 92 = .ok (.getfield 23, 3) := by decide +kernel
theorem d_Box_block_95 : decode b_Box_block 95 = .ok (.iload 5, 2) := by decide +kernel
theorem d_Box_block_97 : decode b_Box_block 97 = .ok (.iload 6, 2) := by decide +kernel
theorem d_Box_block_99 : decode b_Box_block 99 = .ok (.iadd, 1) := by decide +kernel
theorem d_Box_block_100 : decode b_Box_block 100 = .ok (.lushr, 1) := by decide +kernel
theorem d_Box_block_101 : decode b_Box_block 101 = .ok (.lconst 1, 1) := by decide +kernel
theorem d_Box_block_102 : decode b_Box_block 102 = .ok (.land, 1) := by decide +kernel
theorem d_Box_block_103 : decode b_Box_block 103 = .ok (.lconst 1, 1) := by decide +kernel
theorem d_Box_block_104 : decode b_Box_block 104 = .ok (.lcmp, 1) := by decide +kernel
theorem d_Box_block_105 : decode b_Box_block 105 = .ok (.ifCond .ne 9, 3) := by decide +kernel
theorem d_Box_block_108 : decode b_Box_block 108 = .ok (.iinc 6 1, 3) := by decide +kernel
theorem d_Box_block_111 : decode b_Box_block 111 = .ok (.goto (-30), 3) := by decide +kernel
theorem d_Box_block_114 : decode b_Box_block 114 = .ok (.iload 6, 2) := by decide +kernel
theorem d_Box_block_116 : decode b_Box_block 116 = .ok (.ireturn, 1) := by decide +kernel
theorem d_Box_held_0 : decode b_Box_held 0 = .ok (.iload_n 1, 1) := by decide +kernel
theorem d_Box_held_1 : decode b_Box_held 1 = .ok (.aload_n 0, 1) := by decide +kernel
theorem d_Box_held_2 : decode b_Box_held 2 = .ok (.getfield 20, 3) := by decide +kernel
theorem d_Box_held_5 : decode b_Box_held 5 = .ok (.isub, 1) := by decide +kernel
theorem d_Box_held_6 : decode b_Box_held 6 = .ok (.istore_n 2, 1) := by decide +kernel
theorem d_Box_held_7 : decode b_Box_held 7 = .ok (.iload_n 2, 1) := by decide +kernel
theorem d_Box_held_8 : decode b_Box_held 8 = .ok (.ifCond .lt 26, 3) := by decide +kernel
theorem d_Box_held_11 : decode b_Box_held 11 = .ok (.iload_n 2, 1) := by decide +kernel
theorem d_Box_held_12 : decode b_Box_held 12 = .ok (.bipush 64, 2) := by decide +kernel
theorem d_Box_held_14 : decode b_Box_held 14 = .ok (.if_icmp .ge 20, 3) := by decide +kernel
theorem d_Box_held_17 : decode b_Box_held 17 = .ok (.aload_n 0, 1) := by decide +kernel
theorem d_Box_held_18 : decode b_Box_held 18 = .ok (.getfield 23, 3) := by decide +kernel
theorem d_Box_held_21 : decode b_Box_held 21 = .ok (.iload_n 2, 1) := by decide +kernel
theorem d_Box_held_22 : decode b_Box_held 22 = .ok (.lushr, 1) := by decide +kernel
theorem d_Box_held_23 : decode b_Box_held 23 = .ok (.lconst 1, 1) := by decide +kernel
theorem d_Box_held_24 : decode b_Box_held 24 = .ok (.land, 1) := by decide +kernel
theorem d_Box_held_25 : decode b_Box_held 25 = .ok (.lconst 1, 1) := by decide +kernel
theorem d_Box_held_26 : decode b_Box_held 26 = .ok (.lcmp, 1) := by decide +kernel
theorem d_Box_held_27 : decode b_Box_held 27 = .ok (.ifCond .ne 7, 3) := by decide +kernel
theorem d_Box_held_30 : decode b_Box_held 30 = .ok (.iconst 1, 1) := by decide +kernel
theorem d_Box_held_31 : decode b_Box_held 31 = .ok (.goto 4, 3) := by decide +kernel
theorem d_Box_held_34 : decode b_Box_held 34 = .ok (.iconst 0, 1) := by decide +kernel
theorem d_Box_held_35 : decode b_Box_held 35 = .ok (.ireturn, 1) := by decide +kernel
end
section
/-! decode rows: SegmentBoxModel -/
theorem d_Mod_init_0 : decode b_Mod_init 0 = .ok (.aload_n 0, 1) := by decide +kernel
theorem d_Mod_init_1 : decode b_Mod_init 1 = .ok (.invokespecial 1, 3) := by decide +kernel
theorem d_Mod_init_4 : decode b_Mod_init 4 = .ok (.aload_n 0, 1) := by decide +kernel
theorem d_Mod_init_5 : decode b_Mod_init 5 = .ok (.bipush 64, 2) := by decide +kernel
theorem d_Mod_init_7 : decode b_Mod_init 7 = .ok (.newarray .int, 2) := by decide +kernel
theorem d_Mod_init_9 : decode b_Mod_init 9 = .ok (.putfield 9, 3) := by decide +kernel
theorem d_Mod_init_12 : decode b_Mod_init 12 = .ok (.aload_n 0, 1) := by decide +kernel
theorem d_Mod_init_13 : decode b_Mod_init 13 = .ok (.bipush 64, 2) := by decide +kernel
theorem d_Mod_init_15 : decode b_Mod_init 15 = .ok (.newarray .int, 2) := by decide +kernel
theorem d_Mod_init_17 : decode b_Mod_init 17 = .ok (.putfield 13, 3) := by decide +kernel
theorem d_Mod_init_20 : decode b_Mod_init 20 = .ok (.aload_n 0, 1) := by decide +kernel
theorem d_Mod_init_21 : decode b_Mod_init 21 = .ok (.bipush 64, 2) := by decide +kernel
theorem d_Mod_init_23 : decode b_Mod_init 23 = .ok (.newarray .boolean, 2) := by decide +kernel
theorem d_Mod_init_25 : decode b_Mod_init 25 = .ok (.putfield 16, 3) := by decide +kernel
theorem d_Mod_init_28 : decode b_Mod_init 28 = .ok (.return_, 1) := by decide +kernel
theorem d_Mod_thrown_0 : decode b_Mod_thrown 0 = .ok (.aload_n 0, 1) := by decide +kernel
theorem d_Mod_thrown_1 : decode b_Mod_thrown 1 = .ok (.getfield 20, 3) := by decide +kernel
theorem d_Mod_thrown_4 : decode b_Mod_thrown 4 = .ok (.ireturn, 1) := by decide +kernel
theorem d_Mod_open_0 : decode b_Mod_open 0 = .ok (.aload_n 0, 1) := by decide +kernel
theorem d_Mod_open_1 : decode b_Mod_open 1 = .ok (.iconst 0, 1) := by decide +kernel
theorem d_Mod_open_2 : decode b_Mod_open 2 = .ok (.putfield 20, 3) := by decide +kernel
theorem d_Mod_open_5 : decode b_Mod_open 5 = .ok (.aload_n 0, 1) := by decide +kernel
theorem d_Mod_open_6 : decode b_Mod_open 6 = .ok (.iload_n 1, 1) := by decide +kernel
theorem d_Mod_open_7 : decode b_Mod_open 7 = .ok (.putfield 24, 3) := by decide +kernel
theorem d_Mod_open_10 : decode b_Mod_open 10 = .ok (.aload_n 0, 1) := by decide +kernel
theorem d_Mod_open_11 : decode b_Mod_open 11 = .ok (.iconst 0, 1) := by decide +kernel
theorem d_Mod_open_12 : decode b_Mod_open 12 = .ok (.putfield 27, 3) := by decide +kernel
theorem d_Mod_open_15 : decode b_Mod_open 15 = .ok (.aload_n 0, 1) := by decide +kernel
theorem d_Mod_open_16 : decode b_Mod_open 16 = .ok (.iconst 0, 1) := by decide +kernel
theorem d_Mod_open_17 : decode b_Mod_open 17 = .ok (.putfield 30, 3) := by decide +kernel
theorem d_Mod_open_20 : decode b_Mod_open 20 = .ok (.iconst 0, 1) := by decide +kernel
theorem d_Mod_open_21 : decode b_Mod_open 21 = .ok (.istore_n 2, 1) := by decide +kernel
theorem d_Mod_open_22 : decode b_Mod_open 22 = .ok (.iload_n 2, 1) := by decide +kernel
theorem d_Mod_open_23 : decode b_Mod_open 23 = .ok (.bipush 64, 2) := by decide +kernel
theorem d_Mod_open_25 : decode b_Mod_open 25 = .ok (.if_icmp .ge 16, 3) := by decide +kernel
theorem d_Mod_open_28 : decode b_Mod_open 28 = .ok (.aload_n 0, 1) := by decide +kernel
theorem d_Mod_open_29 : decode b_Mod_open 29 = .ok (.getfield 16, 3) := by decide +kernel
theorem d_Mod_open_32 : decode b_Mod_open 32 = .ok (.iload_n 2, 1) := by decide +kernel
theorem d_Mod_open_33 : decode b_Mod_open 33 = .ok (.iconst 0, 1) := by decide +kernel
theorem d_Mod_open_34 : decode b_Mod_open 34 = .ok (.bastore, 1) := by decide +kernel
theorem d_Mod_open_35 : decode b_Mod_open 35 = .ok (.iinc 2 1, 3) := by decide +kernel
theorem d_Mod_open_38 : decode b_Mod_open 38 = .ok (.goto (-16), 3) := by decide +kernel
theorem d_Mod_open_41 : decode b_Mod_open 41 = .ok (.return_, 1) := by decide +kernel
theorem d_Mod_up_0 : decode b_Mod_up 0 = .ok (.aload_n 0, 1) := by decide +kernel
theorem d_Mod_up_1 : decode b_Mod_up 1 = .ok (.getfield 9, 3) := by decide +kernel
theorem d_Mod_up_4 : decode b_Mod_up 4 = .ok (.aload_n 0, 1) := by decide +kernel
theorem d_Mod_up_5 : decode b_Mod_up 5 = .ok (.getfield 27, 3) := by decide +kernel
theorem d_Mod_up_8 : decode b_Mod_up 8 = .ok (.aload_n 0, 1) := by decide +kernel
theorem d_Mod_up_9 : decode b_Mod_up 9 = .ok (.getfield 13, 3) := by decide +kernel
theorem d_Mod_up_12 : decode b_Mod_up 12 = .ok (.iconst 0, 1) := by decide +kernel
theorem d_Mod_up_13 : decode b_Mod_up 13 = .ok (.iaload, 1) := by decide +kernel
theorem d_Mod_up_14 : decode b_Mod_up 14 = .ok (.iastore, 1) := by decide +kernel
theorem d_Mod_up_15 : decode b_Mod_up 15 = .ok (.aload_n 0, 1) := by decide +kernel
theorem d_Mod_up_16 : decode b_Mod_up 16 = .ok (.dup, 1) := by decide +kernel
theorem d_Mod_up_17 : decode b_Mod_up 17 = .ok (.getfield 27, 3) := by decide +kernel
theorem d_Mod_up_20 : decode b_Mod_up 20 = .ok (.iconst 1, 1) := by decide +kernel
theorem d_Mod_up_21 : decode b_Mod_up 21 = .ok (.iadd, 1) := by decide +kernel
theorem d_Mod_up_22 : decode b_Mod_up 22 = .ok (.putfield 27, 3) := by decide +kernel
theorem d_Mod_up_25 : decode b_Mod_up 25 = .ok (.aload_n 0, 1) := by decide +kernel
theorem d_Mod_up_26 : decode b_Mod_up 26 = .ok (.dup, 1) := by decide +kernel
theorem d_Mod_up_27 : decode b_Mod_up 27 = .ok (.getfield 24, 3) := by decide +kernel
theorem d_Mod_up_30 : decode b_Mod_up 30 = .ok (.iconst 1, 1) := by decide +kernel
theorem d_Mod_up_31 : decode b_Mod_up 31 = .ok (.iadd, 1) := by decide +kernel
theorem d_Mod_up_32 : decode b_Mod_up 32 = .ok (.putfield 24, 3) := by decide +kernel
theorem d_Mod_up_35 : decode b_Mod_up 35 = .ok (.iconst 0, 1) := by decide +kernel
theorem d_Mod_up_36 : decode b_Mod_up 36 = .ok (.istore_n 1, 1) := by decide +kernel
theorem d_Mod_up_37 : decode b_Mod_up 37 = .ok (.iload_n 1, 1) := by decide +kernel
theorem d_Mod_up_38 : decode b_Mod_up 38 = .ok (.iconst 1, 1) := by decide +kernel
theorem d_Mod_up_39 : decode b_Mod_up 39 = .ok (.iadd, 1) := by decide +kernel
theorem d_Mod_up_40 : decode b_Mod_up 40 = .ok (.bipush 64, 2) := by decide +kernel
theorem d_Mod_up_42 : decode b_Mod_up 42 = .ok (.if_icmp .ge 37, 3) := by decide +kernel
theorem d_Mod_up_45 : decode b_Mod_up 45 = .ok (.aload_n 0, 1) := by decide +kernel
theorem d_Mod_up_46 : decode b_Mod_up 46 = .ok (.getfield 16, 3) := by decide +kernel
theorem d_Mod_up_49 : decode b_Mod_up 49 = .ok (.iload_n 1, 1) := by decide +kernel
theorem d_Mod_up_50 : decode b_Mod_up 50 = .ok (.aload_n 0, 1) := by decide +kernel
theorem d_Mod_up_51 : decode b_Mod_up 51 = .ok (.getfield 16, 3) := by decide +kernel
theorem d_Mod_up_54 : decode b_Mod_up 54 = .ok (.iload_n 1, 1) := by decide +kernel
theorem d_Mod_up_55 : decode b_Mod_up 55 = .ok (.iconst 1, 1) := by decide +kernel
theorem d_Mod_up_56 : decode b_Mod_up 56 = .ok (.iadd, 1) := by decide +kernel
theorem d_Mod_up_57 : decode b_Mod_up 57 = .ok (.baload, 1) := by decide +kernel
theorem d_Mod_up_58 : decode b_Mod_up 58 = .ok (.bastore, 1) := by decide +kernel
theorem d_Mod_up_59 : decode b_Mod_up 59 = .ok (.aload_n 0, 1) := by decide +kernel
theorem d_Mod_up_60 : decode b_Mod_up 60 = .ok (.getfield 13, 3) := by decide +kernel
theorem d_Mod_up_63 : decode b_Mod_up 63 = .ok (.iload_n 1, 1) := by decide +kernel
theorem d_Mod_up_64 : decode b_Mod_up 64 = .ok (.aload_n 0, 1) := by decide +kernel
theorem d_Mod_up_65 : decode b_Mod_up 65 = .ok (.getfield 13, 3) := by decide +kernel
theorem d_Mod_up_68 : decode b_Mod_up 68 = .ok (.iload_n 1, 1) := by decide +kernel
theorem d_Mod_up_69 : decode b_Mod_up 69 = .ok (.iconst 1, 1) := by decide +kernel
theorem d_Mod_up_70 : decode b_Mod_up 70 = .ok (.iadd, 1) := by decide +kernel
theorem d_Mod_up_71 : decode b_Mod_up 71 = .ok (.iaload, 1) := by decide +kernel
theorem d_Mod_up_72 : decode b_Mod_up 72 = .ok (.iastore, 1) := by decide +kernel
theorem d_Mod_up_73 : decode b_Mod_up 73 = .ok (.iinc 1 1, 3) := by decide +kernel
theorem d_Mod_up_76 : decode b_Mod_up 76 = .ok (.goto (-39), 3) := by decide +kernel
theorem d_Mod_up_79 : decode b_Mod_up 79 = .ok (.aload_n 0, 1) := by decide +kernel
theorem d_Mod_up_80 : decode b_Mod_up 80 = .ok (.getfield 16, 3) := by decide +kernel
theorem d_Mod_up_83 : decode b_Mod_up 83 = .ok (.bipush 63, 2) := by decide +kernel
theorem d_Mod_up_85 : decode b_Mod_up 85 = .ok (.iconst 0, 1) := by decide +kernel
theorem d_Mod_up_86 : decode b_Mod_up 86 = .ok (.bastore, 1) := by decide +kernel
theorem d_Mod_up_87 : decode b_Mod_up 87 = .ok (.return_, 1) := by decide +kernel
theorem d_Mod_segment_0 : decode b_Mod_segment 0 = .ok (.aload_n 0, 1) := by decide +kernel
theorem d_Mod_segment_1 : decode b_Mod_segment 1 = .ok (.iload 4, 2) := by decide +kernel
theorem d_Mod_segment_3 : decode b_Mod_segment 3 = .ok (.ifCond .lt 10, 3) := by decide +kernel
theorem d_Mod_segment_6 : decode b_Mod_segment 6 = .ok (.iload 4, 2) := by decide +kernel
theorem d_Mod_segment_8 : decode b_Mod_segment 8 = .ok (.bipush 8, 2) := by decide +kernel
theorem d_Mod_segment_10 : decode b_Mod_segment 10 = .ok (.if_icmp .le 7, 3) := by decide +kernel
theorem d_Mod_segment_13 : decode b_Mod_segment 13 = .ok (.iconst 1, 1) := by decide +kernel
theorem d_Mod_segment_14 : decode b_Mod_segment 14 = .ok (.goto 4, 3) := by decide +kernel
theorem d_Mod_segment_17 : decode b_Mod_segment 17 = .ok (.iconst 0, 1) := by decide +kernel
theorem d_Mod_segment_18 : decode b_Mod_segment 18 = .ok (.putfield 20, 3) := by decide +kernel
theorem d_Mod_segment_21 : decode b_Mod_segment 21 = .ok (.aload_n 0, 1) := by decide +kernel
theorem d_Mod_segment_22 : decode b_Mod_segment 22 = .ok (.getfield 20, 3) := by decide +kernel
theorem d_Mod_segment_25 : decode b_Mod_segment 25 = .ok (.ifCond .le 5, 3) := by decide +kernel
theorem d_Mod_segment_28 : decode b_Mod_segment 28 = .ok (.iconst 0, 1) := by decide +kernel
theorem d_Mod_segment_29 : decode b_Mod_segment 29 = .ok (.ireturn, 1) := by decide +kernel
theorem d_Mod_segment_30 : decode b_Mod_segment 30 = .ok (.aload_n 0, 1) := by decide +kernel
theorem d_Mod_segment_31 : decode b_Mod_segment 31 = .ok (.getfield 27, 3) := by decide +kernel
theorem d_Mod_segment_34 : decode b_Mod_segment 34 = .ok (.istore 5, 2) := by decide +kernel
theorem d_Mod_segment_36 : decode b_Mod_segment 36 = .ok (.iconst 0, 1) := by decide +kernel
theorem d_Mod_segment_37 : decode b_Mod_segment 37 = .ok (.istore 6, 2) := by decide +kernel
theorem d_Mod_segment_39 : decode b_Mod_segment 39 = .ok (.iload 6, 2) := by decide +kernel
theorem d_Mod_segment_41 : decode b_Mod_segment 41 = .ok (.iload 4, 2) := by decide +kernel
theorem d_Mod_segment_43 : decode b_Mod_segment 43 = .ok (.if_icmp .ge 114, 3) := by decide +kernel
theorem d_Mod_segment_46 : decode b_Mod_segment 46 = .ok (.iload_n 1, 1) := by decide +kernel
theorem d_Mod_segment_47 : decode b_Mod_segment 47 = .ok (.iload 6, 2) := by decide +kernel
theorem d_Mod_segment_49 : decode b_Mod_segment 49 = .ok (.iadd, 1) := by decide +kernel
theorem d_Mod_segment_50 : decode b_Mod_segment 50 = .ok (.aload_n 0, 1) := by decide +kernel
theorem d_Mod_segment_51 : decode b_Mod_segment 51 = .ok (.getfield 24, 3) := by decide +kernel
theorem d_Mod_segment_54 : decode b_Mod_segment 54 = .ok (.isub, 1) := by decide +kernel
theorem d_Mod_segment_55 : decode b_Mod_segment 55 = .ok (.istore 7, 2) := by decide +kernel
theorem d_Mod_segment_57 : decode b_Mod_segment 57 = .ok (.iload 7, 2) := by decide +kernel
theorem d_Mod_segment_59 : decode b_Mod_segment 59 = .ok (.ifCond .lt 92, 3) := by decide +kernel
theorem d_Mod_segment_62 : decode b_Mod_segment 62 = .ok (.iload 7, 2) := by decide +kernel
theorem d_Mod_segment_64 : decode b_Mod_segment 64 = .ok (.bipush 64, 2) := by decide +kernel
theorem d_Mod_segment_66 : decode b_Mod_segment 66 = .ok (.aload_n 0, 1) := by decide +kernel
theorem d_Mod_segment_67 : decode b_Mod_segment 67 = .ok (.getfield 27, 3) := by decide +kernel
theorem d_Mod_segment_70 : decode b_Mod_segment 70 = .ok (.isub, 1) := by decide +kernel
theorem d_Mod_segment_71 : decode b_Mod_segment 71 = .ok (.if_icmp .ge 80, 3) := by decide +kernel
theorem d_Mod_segment_74 : decode b_Mod_segment 74 = .ok (.aload_n 0, 1) := by decide +kernel
theorem d_Mod_segment_75 : decode b_Mod_segment 75 = .ok (.getfield 16, 3) := by decide +kernel
theorem d_Mod_segment_78 : decode b_Mod_segment 78 = .ok (.iload 7, 2) := by decide +kernel
theorem d_Mod_segment_80 : decode b_Mod_segment 80 = .ok (.baload, 1) := by decide +kernel
theorem d_Mod_segment_81 : decode b_Mod_segment 81 = .ok (.ifCond .ne 70, 3) := by decide +kernel
theorem d_Mod_segment_84 : decode b_Mod_segment 84 = .ok (.aload_n 0, 1) := by decide +kernel
theorem d_Mod_segment_85 : decode b_Mod_segment 85 = .ok (.getfield 30, 3) := by decide +kernel
theorem d_Mod_segment_88 : decode b_Mod_segment 88 = .ok (.ifCond .eq 20, 3) := by decide +kernel
theorem d_Mod_segment_91 : decode b_Mod_segment 91 = .ok (.iload 7, 2) := by decide +kernel
theorem d_Mod_segment_93 : decode b_Mod_segment 93 = .ok (.aload_n 0, 1) := by decide +kernel
theorem d_Mod_segment_94 : decode b_Mod_segment 94 = .ok (.getfield 34, 3) := by decide +kernel
theorem d_Mod_segment_97 : decode b_Mod_segment 97 = .ok (.aload_n 0, 1) := by decide +kernel
theorem d_Mod_segment_98 : decode b_Mod_segment 98 = .ok (.getfield 24, 3) := by decide +kernel
theorem d_Mod_segment_101 : decode b_Mod_segment 101 = .ok (.isub, 1) := by decide +kernel
theorem d_Mod_segment_102 : decode b_Mod_segment 102 = .ok (.if_icmp .lt 6, 3) := by decide +kernel
theorem d_Mod_segment_105 : decode b_Mod_segment 105 = .ok (.goto 46, 3) := by decide +kernel
theorem d_Mod_segment_108 : decode b_Mod_segment 108 = .ok (.aload_n 0, 1) := by decide +kernel
theorem d_Mod_segment_109 : decode b_Mod_segment 109 = .ok (.getfield 16, 3) := by decide +kernel
theorem d_Mod_segment_112 : decode b_Mod_segment 112 = .ok (.iload 7, 2) := by decide +kernel
theorem d_Mod_segment_114 : decode b_Mod_segment 114 = .ok (.iconst 1, 1) := by decide +kernel
theorem d_Mod_segment_115 : decode b_Mod_segment 115 = .ok (.bastore, 1) := by decide +kernel
theorem d_Mod_segment_116 : decode b_Mod_segment 116 = .ok (.aload_n 0, 1) := by decide +kernel
theorem d_Mod_segment_117 : decode b_Mod_segment 117 = .ok (.getfield 13, 3) := by decide +kernel
theorem d_Mod_segment_120 : decode b_Mod_segment 120 = .ok (.iload 7, 2) := by decide +kernel
theorem d_Mod_segment_122 : decode b_Mod_segment 122 = .ok (.lload_n 2, 1) := by decide +kernel
theorem d_Mod_segment_123 : decode b_Mod_segment 123 = .ok (.bipush 8, 2) := by decide +kernel
theorem d_Mod_segment_125 : decode b_Mod_segment 125 = .ok (.iload 6, 2) := by decide +kernel
theorem d_Mod_segment_127 : decode b_Mod_segment 127 = .ok (.imul, 1) := by decide +kernel
theorem d_Mod_segment_128 : decode b_Mod_segment 128 = .ok (.lshr, 1) := by decide +kernel
theorem d_Mod_segment_129 : decode b_Mod_segment 129 = .ok (.l2i, 1) := by decide +kernel
theorem d_Mod_segment_130 : decode b_Mod_segment 130 = .ok (.sipush 255, 3) := by decide +kernel
theorem d_Mod_segment_133 : decode b_Mod_segment 133 = .ok (.iand, 1) := by decide +kernel
theorem d_Mod_segment_134 : decode b_Mod_segment 134 = .ok (.iastore, 1) := by decide +kernel
theorem d_Mod_segment_135 : decode b_Mod_segment 135 = .ok (.aload_n 0, 1) := by decide +kernel
theorem d_Mod_segment_136 : decode b_Mod_segment 136 = .ok (.getfield 16, 3) := by decide +kernel
theorem d_Mod_segment_139 : decode b_Mod_segment 139 = .ok (.iconst 0, 1) := by decide +kernel
theorem d_Mod_segment_140 : decode b_Mod_segment 140 = .ok (.baload, 1) := by decide +kernel
theorem d_Mod_segment_141 : decode b_Mod_segment 141 = .ok (.ifCond .eq 10, 3) := by decide +kernel
theorem d_Mod_segment_144 : decode b_Mod_segment 144 = .ok (.aload_n 0, 1) := by decide +kernel
theorem d_Mod_segment_145 : decode b_Mod_segment 145 = .ok (.invokevirtual 37, 3) := by decide +kernel
theorem d_Mod_segment_148 : decode b_Mod_segment 148 = .ok (.goto (-13), 3) := by decide +kernel
theorem d_Mod_segment_151 : decode b_Mod_segment 151 = .ok (.iinc 6 1, 3) := by decide +kernel
theorem d_Mod_segment_154 : decode b_Mod_segment 154 = .ok (.goto (-115), 3) := by decide +kernel
theorem d_Mod_segment_157 : decode b_Mod_segment 157 = .ok (.aload_n 0, 1) := by decide +kernel
theorem d_Mod_segment_158 : decode b_Mod_segment 158 = .ok (.getfield 27, 3) := by decide +kernel
theorem d_Mod_segment_161 : decode b_Mod_segment 161 = .ok (.iload 5, 2) := by decide +kernel
theorem d_Mod_segment_163 : decode b_Mod_segment 163 = .ok (.isub, 1) := by decide +kernel
theorem d_Mod_segment_164 : decode b_Mod_segment 164 = .ok (.ireturn, 1) := by decide +kernel
theorem d_Mod_end_0 : decode b_Mod_end 0 = .ok (.aload_n 0, 1) := by decide +kernel
theorem d_Mod_end_1 : decode b_Mod_end 1 = .ok (.iconst 0, 1) := by decide +kernel
theorem d_Mod_end_2 : decode b_Mod_end 2 = .ok (.putfield 20, 3) := by decide +kernel
theorem d_Mod_end_5 : decode b_Mod_end 5 = .ok (.iload_n 1, 1) := by decide +kernel
theorem d_Mod_end_6 : decode b_Mod_end 6 = .ok (.aload_n 0, 1) := by decide +kernel
theorem d_Mod_end_7 : decode b_Mod_end 7 = .ok (.getfield 24, 3) := by decide +kernel
theorem d_Mod_end_10 : decode b_Mod_end 10 = .ok (.isub, 1) := by decide +kernel
theorem d_Mod_end_11 : decode b_Mod_end 11 = .ok (.istore_n 2, 1) := by decide +kernel
theorem d_Mod_end_12 : decode b_Mod_end 12 = .ok (.aload_n 0, 1) := by decide +kernel
theorem d_Mod_end_13 : decode b_Mod_end 13 = .ok (.getfield 30, 3) := by decide +kernel
theorem d_Mod_end_16 : decode b_Mod_end 16 = .ok (.ifCond .ne 18, 3) := by decide +kernel
theorem d_Mod_end_19 : decode b_Mod_end 19 = .ok (.iload_n 2, 1) := by decide +kernel
theorem d_Mod_end_20 : decode b_Mod_end 20 = .ok (.ifCond .lt 14, 3) := by decide +kernel
theorem d_Mod_end_23 : decode b_Mod_end 23 = .ok (.iload_n 2, 1) := by decide +kernel
theorem d_Mod_end_24 : decode b_Mod_end 24 = .ok (.bipush 64, 2) := by decide +kernel
theorem d_Mod_end_26 : decode b_Mod_end 26 = .ok (.aload_n 0, 1) := by decide +kernel
theorem d_Mod_end_27 : decode b_Mod_end 27 = .ok (.getfield 27, 3) := by decide +kernel
theorem d_Mod_end_30 : decode b_Mod_end 30 = .ok (.isub, 1) := by decide +kernel
theorem d_Mod_end_31 : decode b_Mod_end 31 = .ok (.if_icmp .le 5, 3) := by decide +kernel
theorem d_Mod_end_34 : decode b_Mod_end 34 = .ok (.iconst 0, 1) := by decide +kernel
theorem d_Mod_end_35 : decode b_Mod_end 35 = .ok (.ireturn, 1) := by decide +kernel
theorem d_Mod_end_36 : decode b_Mod_end 36 = .ok (.iload_n 2, 1) := by decide +kernel
theorem d_Mod_end_37 : decode b_Mod_end 37 = .ok (.istore_n 3, 1) := by decide +kernel
theorem d_Mod_end_38 : decode b_Mod_end 38 = .ok (.iload_n 3, 1) := by decide +kernel
theorem d_Mod_end_39 : decode b_Mod_end 39 = .ok (.bipush 64, 2) := by decide +kernel
theorem d_Mod_end_41 : decode b_Mod_end 41 = .ok (.if_icmp .ge 20, 3) := by decide +kernel
theorem d_Mod_end_44 : decode b_Mod_end 44 = .ok (.aload_n 0, 1) := by decide +kernel
theorem d_Mod_end_45 : decode b_Mod_end 45 = .ok (.getfield 16, 3) := by decide +kernel
theorem d_Mod_end_48 : decode b_Mod_end 48 = .ok (.iload_n 3, 1) := by decide +kernel
theorem d_Mod_end_49 : decode b_Mod_end 49 = .ok (.baload, 1) := by decide +kernel
theorem d_Mod_end_50 : decode b_Mod_end 50 = .ok (.ifCond .eq 5, 3) := by decide +kernel
theorem d_Mod_end_53 : decode b_Mod_end 53 = .ok (.iconst 0, 1) := by decide +kernel
theorem d_Mod_end_54 : decode b_Mod_end 54 = .ok (.ireturn, 1) := by decide +kernel
theorem d_Mod_end_55 : decode b_Mod_end 55 = .ok (.iinc 3 1, 3) := by decide +kernel
theorem d_Mod_end_58 : decode b_Mod_end 58 = .ok (.goto (-20), 3) := by decide +kernel
theorem d_Mod_end_61 : decode b_Mod_end 61 = .ok (.aload_n 0, 1) := by decide +kernel
theorem d_Mod_end_62 : decode b_Mod_end 62 = .ok (.iconst 1, 1) := by decide +kernel
theorem d_Mod_end_63 : decode b_Mod_end 63 = .ok (.putfield 30, 3) := by decide +kernel
theorem d_Mod_end_66 : decode b_Mod_end 66 = .ok (.aload_n 0, 1) := by decide +kernel
theorem d_Mod_end_67 : decode b_Mod_end 67 = .ok (.iload_n 1, 1) := by decide +kernel
theorem d_Mod_end_68 : decode b_Mod_end 68 = .ok (.putfield 34, 3) := by decide +kernel
theorem d_Mod_end_71 : decode b_Mod_end 71 = .ok (.iconst 1, 1) := by decide +kernel
theorem d_Mod_end_72 : decode b_Mod_end 72 = .ok (.ireturn, 1) := by decide +kernel
theorem d_Mod_read_0 : decode b_Mod_read 0 = .ok (.aload_n 0, 1) := by decide +kernel
theorem d_Mod_read_1 : decode b_Mod_read 1 = .ok (.iconst 0, 1) := by decide +kernel
theorem d_Mod_read_2 : decode b_Mod_read 2 = .ok (.putfield 20, 3) := by decide +kernel
theorem d_Mod_read_5 : decode b_Mod_read 5 = .ok (.aload_n 0, 1) := by decide +kernel
theorem d_Mod_read_6 : decode b_Mod_read 6 = .ok (.getfield 27, 3) := by decide +kernel
theorem d_Mod_read_9 : decode b_Mod_read 9 = .ok (.ifCond .ne 28, 3) := by decide +kernel
theorem d_Mod_read_12 : decode b_Mod_read 12 = .ok (.aload_n 0, 1) := by decide +kernel
theorem d_Mod_read_13 : decode b_Mod_read 13 = .ok (.getfield 30, 3) := by decide +kernel
theorem d_Mod_read_16 : decode b_Mod_read 16 = .ok (.ifCond .eq 19, 3) := by decide +kernel
theorem d_Mod_read_19 : decode b_Mod_read 19 = .ok (.aload_n 0, 1) := by decide +kernel
theorem d_Mod_read_20 : decode b_Mod_read 20 = .ok (.getfield 24, 3) := by decide +kernel
theorem d_Mod_read_23 : decode b_Mod_read 23 = .ok (.aload_n 0, 1) := by decide +kernel
theorem d_Mod_read_24 : decode b_Mod_read 24 = .ok (.getfield 34, 3) := by decide +kernel
theorem d_Mod_read_27 : decode b_Mod_read 27 = .ok (.if_icmp .ne 8, 3) := by decide +kernel
theorem d_Mod_read_30 : decode b_Mod_read 30 = .ok (.bipush (-2), 2) := by decide +kernel
theorem d_Mod_read_32 : decode b_Mod_read 32 = .ok (.goto 4, 3) := by decide +kernel
theorem d_Mod_read_35 : decode b_Mod_read 35 = .ok (.iconst (-1), 1) := by decide +kernel
theorem d_Mod_read_36 : decode b_Mod_read 36 = .ok (.ireturn, 1) := by decide +kernel
theorem d_Mod_read_37 : decode b_Mod_read 37 = .ok (.aload_n 0, 1) := by decide +kernel
theorem d_Mod_read_38 : decode b_Mod_read 38 = .ok (.getfield 9, 3) := by decide +kernel
theorem d_Mod_read_41 : decode b_Mod_read 41 = .ok (.iconst 0, 1) := by decide +kernel
theorem d_Mod_read_42 : decode b_Mod_read 42 = .ok (.iaload, 1) := by decide +kernel
theorem d_Mod_read_43 : decode b_Mod_read 43 = .ok (.istore_n 1, 1) := by decide +kernel
theorem d_Mod_read_44 : decode b_Mod_read 44 = .ok (.aload_n 0, 1) := by decide +kernel
theorem d_Mod_read_45 : decode b_Mod_read 45 = .ok (.dup, 1) := by decide +kernel
theorem d_Mod_read_46 : decode b_Mod_read 46 = .ok (.getfield 27, 3) := by decide +kernel
theorem d_Mod_read_49 : decode b_Mod_read 49 = .ok (.iconst 1, 1) := by decide +kernel
theorem d_Mod_read_50 : decode b_Mod_read 50 = .ok (.isub, 1) := by decide +kernel
theorem d_Mod_read_51 : decode b_Mod_read 51 = .ok (.putfield 27, 3) := by decide +kernel
theorem d_Mod_read_54 : decode b_Mod_read 54 = .ok (.iconst 0, 1) := by decide +kernel
theorem d_Mod_read_55 : decode b_Mod_read 55 = .ok (.istore_n 2, 1) := by decide +kernel
theorem d_Mod_read_56 : decode b_Mod_read 56 = .ok (.iload_n 2, 1) := by decide +kernel
theorem d_Mod_read_57 : decode b_Mod_read 57 = .ok (.aload_n 0, 1) := by decide +kernel
theorem d_Mod_read_58 : decode b_Mod_read 58 = .ok (.getfield 27, 3) := by decide +kernel
theorem d_Mod_read_61 : decode b_Mod_read 61 = .ok (.if_icmp .ge 23, 3) := by decide +kernel
theorem d_Mod_read_64 : decode b_Mod_read 64 = .ok (.aload_n 0, 1) := by decide +kernel
theorem d_Mod_read_65 : decode b_Mod_read 65 = .ok (.getfield 9, 3) := by decide +kernel
theorem d_Mod_read_68 : decode b_Mod_read 68 = .ok (.iload_n 2, 1) := by decide +kernel
theorem d_Mod_read_69 : decode b_Mod_read 69 = .ok (.aload_n 0, 1) := by decide +kernel
theorem d_Mod_read_70 : decode b_Mod_read 70 = .ok (.getfield 9, 3) := by decide +kernel
theorem d_Mod_read_73 : decode b_Mod_read 73 = .ok (.iload_n 2, 1) := by decide +kernel
theorem d_Mod_read_74 : decode b_Mod_read 74 = .ok (.iconst 1, 1) := by decide +kernel
theorem d_Mod_read_75 : decode b_Mod_read 75 = .ok (.iadd, 1) := by decide +kernel
theorem d_Mod_read_76 : decode b_Mod_read 76 = .ok (.iaload, 1) := by decide +kernel
theorem d_Mod_read_77 : decode b_Mod_read 77 = .ok (.iastore, 1) := by decide +kernel
theorem d_Mod_read_78 : decode b_Mod_read 78 = .ok (.iinc 2 1, 3) := by decide +kernel
theorem d_Mod_read_81 : decode b_Mod_read 81 = .ok (.goto (-25), 3) := by decide +kernel
theorem d_Mod_read_84 : decode b_Mod_read 84 = .ok (.iload_n 1, 1) := by decide +kernel
theorem d_Mod_read_85 : decode b_Mod_read 85 = .ok (.ireturn, 1) := by decide +kernel
theorem d_Mod_from_0 : decode b_Mod_from 0 = .ok (.iload_n 1, 1) := by decide +kernel
theorem d_Mod_from_1 : decode b_Mod_from 1 = .ok (.istore_n 2, 1) := by decide +kernel
theorem d_Mod_from_2 : decode b_Mod_from 2 = .ok (.iconst 0, 1) := by decide +kernel
theorem d_Mod_from_3 : decode b_Mod_from 3 = .ok (.istore_n 3, 1) := by decide +kernel
theorem d_Mod_from_4 : decode b_Mod_from 4 = .ok (.iload_n 3, 1) := by decide +kernel
theorem d_Mod_from_5 : decode b_Mod_from 5 = .ok (.bipush 64, 2) := by decide +kernel
theorem d_Mod_from_7 : decode b_Mod_from 7 = .ok (.if_icmp .ge 45, 3) := by decide +kernel
theorem d_Mod_from_10 : decode b_Mod_from 10 = .ok (.aload_n 0, 1) := by decide +kernel
theorem d_Mod_from_11 : decode b_Mod_from 11 = .ok (.getfield 16, 3) := by decide +kernel
theorem d_Mod_from_14 : decode b_Mod_from 14 = .ok (.iload_n 3, 1) := by decide +kernel
theorem d_Mod_from_15 : decode b_Mod_from 15 = .ok (.baload, 1) := by decide +kernel
theorem d_Mod_from_16 : decode b_Mod_from 16 = .ok (.ifCond .eq 30, 3) := by decide +kernel
theorem d_Mod_from_19 : decode b_Mod_from 19 = .ok (.iload_n 3, 1) := by decide +kernel
theorem d_Mod_from_20 : decode b_Mod_from 20 = .ok (.ifCond .le 17, 3) := by decide +kernel
theorem d_Mod_from_23 : decode b_Mod_from 23 = .ok (.aload_n 0, 1) := by decide +kernel
theorem d_Mod_from_24 : decode b_Mod_from 24 = .ok (.getfield 16, 3) := by decide +kernel
theorem d_Mod_from_27 : decode b_Mod_from 27 = .ok (.iload_n 3, 1) := by decide +kernel
theorem d_Mod_from_28 : decode b_Mod_from 28 = .ok (.iconst 1, 1) := by decide +kernel
theorem d_Mod_from_29 : decode b_Mod_from 29 = .ok (.isub, 1) := by decide +kernel
theorem d_Mod_from_30 : decode b_Mod_from 30 = .ok (.baload, 1) := by decide +kernel
theorem d_Mod_from_31 : decode b_Mod_from 31 = .ok (.ifCond .eq 6, 3) := by decide +kernel
theorem d_Mod_from_34 : decode b_Mod_from 34 = .ok (.goto 12, 3) := by decide +kernel
theorem d_Mod_from_37 : decode b_Mod_from 37 = .ok (.iload_n 2, 1) := by decide +kernel
theorem d_Mod_from_38 : decode b_Mod_from 38 = .ok (.ifCond .ne 5, 3) := by decide +kernel
theorem d_Mod_from_41 : decode b_Mod_from 41 = .ok (.iload_n 3, 1) := by decide +kernel
theorem d_Mod_from_42 : decode b_Mod_from 42 = .ok (.ireturn, 1) := by decide +kernel
theorem d_Mod_from_43 : decode b_Mod_from 43 = .ok (.iinc 2 (-1), 3) := by decide +kernel
theorem d_Mod_from_46 : decode b_Mod_from 46 = .ok (.iinc 3 1, 3) := by decide +kernel
theorem d_Mod_from_49 : decode b_Mod_from 49 = .ok (.goto (-45), 3) := by decide +kernel
theorem d_Mod_from_52 : decode b_Mod_from 52 = .ok (.iconst (-1), 1) := by decide +kernel
theorem d_Mod_from_53 : decode b_Mod_from 53 = .ok (.ireturn, 1) := by decide +kernel
theorem d_Mod_told_0 : decode b_Mod_told 0 = .ok (.aload_n 0, 1) := by decide +kernel
theorem d_Mod_told_1 : decode b_Mod_told 1 = .ok (.iload_n 1, 1) := by decide +kernel
theorem d_Mod_told_2 : decode b_Mod_told 2 = .ok (.ifCond .lt 8, 3) := by decide +kernel
theorem d_Mod_told_5 : decode b_Mod_told 5 = .ok (.iload_n 1, 1) := by decide +kernel
theorem d_Mod_told_6 : decode b_Mod_told 6 = .ok (.iconst 5, 1) := by decide +kernel
theorem d_Mod_told_7 : decode b_Mod_told 7 = .ok (.if_icmp .le 7, 3) := by decide +kernel
theorem d_Mod_told_10 : decode b_Mod_told 10 = .ok (.iconst 1, 1) := by decide +kernel
theorem d_Mod_told_11 : decode b_Mod_told 11 = .ok (.goto 4, 3) := by decide +kernel
theorem d_Mod_told_14 : decode b_Mod_told 14 = .ok (.iconst 0, 1) := by decide +kernel
theorem d_Mod_told_15 : decode b_Mod_told 15 = .ok (.putfield 20, 3) := by decide +kernel
theorem d_Mod_told_18 : decode b_Mod_told 18 = .ok (.aload_n 0, 1) := by decide +kernel
theorem d_Mod_told_19 : decode b_Mod_told 19 = .ok (.getfield 20, 3) := by decide +kernel
theorem d_Mod_told_22 : decode b_Mod_told 22 = .ok (.ifCond .le 5, 3) := by decide +kernel
theorem d_Mod_told_25 : decode b_Mod_told 25 = .ok (.iconst 0, 1) := by decide +kernel
theorem d_Mod_told_26 : decode b_Mod_told 26 = .ok (.ireturn, 1) := by decide +kernel
theorem d_Mod_told_27 : decode b_Mod_told 27 = .ok (.iconst 0, 1) := by decide +kernel
theorem d_Mod_told_28 : decode b_Mod_told 28 = .ok (.istore_n 2, 1) := by decide +kernel
theorem d_Mod_told_29 : decode b_Mod_told 29 = .ok (.iload_n 1, 1) := by decide +kernel
theorem d_Mod_told_30 : decode b_Mod_told 30 = .ok (.tableswitch 96 0 4 #[34, 39, 47, 52, 80], 34) := by decide +kernel
theorem d_Mod_told_64 : decode b_Mod_told 64 = .ok (.aload_n 0, 1) := by decide +kernel
theorem d_Mod_told_65 : decode b_Mod_told 65 = .ok (.getfield 24, 3) := by decide +kernel
theorem d_Mod_told_68 : decode b_Mod_told 68 = .ok (.ireturn, 1) := by decide +kernel
theorem d_Mod_told_69 : decode b_Mod_told 69 = .ok (.bipush 64, 2) := by decide +kernel
theorem d_Mod_told_71 : decode b_Mod_told 71 = .ok (.aload_n 0, 1) := by decide +kernel
theorem d_Mod_told_72 : decode b_Mod_told 72 = .ok (.getfield 27, 3) := by decide +kernel
theorem d_Mod_told_75 : decode b_Mod_told 75 = .ok (.isub, 1) := by decide +kernel
theorem d_Mod_told_76 : decode b_Mod_told 76 = .ok (.ireturn, 1) := by decide +kernel
theorem d_Mod_told_77 : decode b_Mod_told 77 = .ok (.aload_n 0, 1) := by decide +kernel
theorem d_Mod_told_78 : decode b_Mod_told 78 = .ok (.getfield 27, 3) := by decide +kernel
theorem d_Mod_told_81 : decode b_Mod_told 81 = .ok (.ireturn, 1) := by decide +kernel
theorem d_Mod_told_82 : decode b_Mod_told 82 = .ok (.iconst 0, 1) := by decide +kernel
theorem d_Mod_told_83 : decode b_Mod_told 83 = .ok (.istore_n 3, 1) := by decide +kernel
theorem d_Mod_told_84 : decode b_Mod_told 84 = .ok (.iload_n 3, 1) := by decide +kernel
theorem d_Mod_told_85 : decode b_Mod_told 85 = .ok (.bipush 64, 2) := by decide +kernel
theorem d_Mod_told_87 : decode b_Mod_told 87 = .ok (.if_icmp .ge 21, 3) := by decide +kernel
theorem d_Mod_told_90 : decode b_Mod_told 90 = .ok (.aload_n 0, 1) := by decide +kernel
theorem d_Mod_told_91 : decode b_Mod_told 91 = .ok (.getfield 16, 3) := by decide +kernel
theorem d_Mod_told_94 : decode b_Mod_told 94 = .ok (.iload_n 3, 1) := by decide +kernel
theorem d_Mod_told_95 : decode b_Mod_told 95 = .ok (.baload, 1) := by decide +kernel
theorem d_Mod_told_96 : decode b_Mod_told 96 = .ok (.ifCond .eq 6, 3) := by decide +kernel
theorem d_Mod_told_99 : decode b_Mod_told 99 = .ok (.iinc 2 1, 3) := by decide +kernel
theorem d_Mod_told_102 : decode b_Mod_told 102 = .ok (.iinc 3 1, 3) := by decide +kernel
theorem d_Mod_told_105 : decode b_Mod_told 105 = .ok (.goto (-21), 3) := by decide +kernel
theorem d_Mod_told_108 : decode b_Mod_told 108 = .ok (.iload_n 2, 1) := by decide +kernel
theorem d_Mod_told_109 : decode b_Mod_told 109 = .ok (.ireturn, 1) := by decide +kernel
theorem d_Mod_told_110 : decode b_Mod_told 110 = .ok (.aload_n 0, 1) := by decide +kernel
theorem d_Mod_told_111 : decode b_Mod_told 111 = .ok (.iload_n 2, 1) := by decide +kernel
theorem d_Mod_told_112 : decode b_Mod_told 112 = .ok (.invokevirtual 40, 3) := by decide +kernel
theorem d_Mod_told_115 : decode b_Mod_told 115 = .ok (.ifCond .lt 9, 3) := by decide +kernel
theorem d_Mod_told_118 : decode b_Mod_told 118 = .ok (.iinc 2 1, 3) := by decide +kernel
theorem d_Mod_told_121 : decode b_Mod_told 121 = .ok (.goto (-11), 3) := by decide +kernel
theorem d_Mod_told_124 : decode b_Mod_told 124 = .ok (.iload_n 2, 1) := by decide +kernel
theorem d_Mod_told_125 : decode b_Mod_told 125 = .ok (.ireturn, 1) := by decide +kernel
theorem d_Mod_told_126 : decode b_Mod_told 126 = .ok (.aload_n 0, 1) := by decide +kernel
theorem d_Mod_told_127 : decode b_Mod_told 127 = .ok (.getfield 30, 3) := by decide +kernel
theorem d_Mod_told_130 : decode b_Mod_told 130 = .ok (.ifCond .eq 7, 3) := by decide +kernel
theorem d_Mod_told_133 : decode b_Mod_told 133 = .ok (.iconst 1, 1) := by decide +kernel
theorem d_Mod_told_134 : decode b_Mod_told 134 = .ok (.goto 4, 3) := by decide +kernel
theorem d_Mod_told_137 : decode b_Mod_told 137 = .ok (.iconst 0, 1) := by decide +kernel
theorem d_Mod_told_138 : decode b_Mod_told 138 = .ok (.ireturn, 1) := by decide +kernel
theorem d_Mod_block_0 : decode b_Mod_block 0 = .ok (.iload_n 1, 1) := by decide +kernel
theorem d_Mod_block_1 : decode b_Mod_block 1 = .ok (.ifCond .ge 7, 3) := by decide +kernel
theorem d_Mod_block_4 : decode b_Mod_block 4 = .ok (.iconst (-1), 1) := by decide +kernel
theorem d_Mod_block_5 : decode b_Mod_block 5 = .ok (.goto 8, 3) := by decide +kernel
theorem d_Mod_block_8 : decode b_Mod_block 8 = .ok (.aload_n 0, 1) := by decide +kernel
theorem d_Mod_block_9 : decode b_Mod_block 9 = .ok (.iload_n 1, 1) := by decide +kernel
theorem d_Mod_block_10 : decode b_Mod_block 10 = .ok (.invokevirtual 40, 3) := by decide +kernel
theorem d_Mod_block_13 : decode b_Mod_block 13 = .ok (.istore_n 3, 1) := by decide +kernel
theorem d_Mod_block_14 : decode b_Mod_block 14 = .ok (.iconst 0, 1) := by decide +kernel
theorem d_Mod_block_15 : decode b_Mod_block 15 = .ok (.istore 4, 2) := by decide +kernel
theorem d_Mod_block_17 : decode b_Mod_block 17 = .ok (.aload_n 0, 1) := by decide +kernel
theorem d_Mod_block_18 : decode b_Mod_block 18 = .ok (.iload_n 3, 1) := by decide +kernel
theorem d_Mod_block_19 : decode b_Mod_block 19 = .ok (.ifCond .ge 7, 3) := by decide +kernel
theorem d_Mod_block_22 : decode b_Mod_block 22 = .ok (.iconst 1, 1) := by decide +kernel
theorem d_Mod_block_23 : decode b_Mod_block 23 = .ok (.goto 4, 3) := by decide +kernel
theorem d_Mod_block_26 : decode b_Mod_block 26 = .ok (.iconst 0, 1) := by decide +kernel
theorem d_Mod_block_27 : decode b_Mod_block 27 = .ok (.putfield 20, 3) := by decide +kernel
theorem d_Mod_block_30 : decode b_Mod_block 30 = .ok (.aload_n 0, 1) := by decide +kernel
theorem d_Mod_block_31 : decode b_Mod_block 31 = .ok (.getfield 20, 3) := by decide +kernel
theorem d_Mod_block_34 : decode b_Mod_block 34 = .ok (.ifCond .le 5, 3) := by decide +kernel
theorem d_Mod_block_37 : decode b_Mod_block 37 = .ok (.iconst 0, 1) := by decide +kernel
theorem d_Mod_block_38 : decode b_Mod_block 38 = .ok (.ireturn, 1) := by decide +kernel
theorem d_Mod_block_39 : decode b_Mod_block 39 = .ok (.iload_n 3, 1) := by decide +kernel
theorem d_Mod_block_40 : decode b_Mod_block 40 = .ok (.iload 4, 2) := by decide +kernel
theorem d_Mod_block_42 : decode b_Mod_block 42 = .ok (.iadd, 1) := by decide +kernel
theorem d_Mod_block_43 : decode b_Mod_block 43 = .ok (.bipush 64, 2) := by decide +kernel
theorem d_Mod_block_45 : decode b_Mod_block 45 = .ok (.if_icmp .ge 21, 3) := by decide +kernel
theorem d_Mod_block_48 : decode b_Mod_block 48 = .ok (.aload_n 0, 1) := by decide +kernel
theorem d_Mod_block_49 : decode b_Mod_block 49 = .ok (.getfield 16, 3) := by decide +kernel
theorem d_Mod_block_52 : decode b_Mod_block 52 = .ok (.iload_n 3, 1) := by decide +kernel
theorem d_Mod_block_53 : decode b_Mod_block 53 = .ok (.iload 4, 2) := by decide +kernel
theorem d_Mod_block_55 : decode b_Mod_block 55 = .ok (.iadd, 1) := by decide +kernel
theorem d_Mod_block_56 : decode b_Mod_block 56 = .ok (.baload, 1) := by decide +kernel
theorem d_Mod_block_57 : decode b_Mod_block 57 = .ok (.ifCond .eq 9, 3) := by decide +kernel
theorem d_Mod_block_60 : decode b_Mod_block 60 = .ok (.iinc 4 1, 3) := by decide +kernel
theorem d_Mod_block_63 : decode b_Mod_block 63 = .ok (.goto (-24), 3) := by decide +kernel
theorem d_Mod_block_66 : decode b_Mod_block 66 = .ok (.iload_n 2, 1) := by decide +kernel
theorem d_Mod_block_67 : decode b_Mod_block 67 = .ok (.ifCond .eq 8, 3) := by decide +kernel
theorem d_Mod_block_70 : decode b_Mod_block 70 = .ok (.iload 4, 2) := by decide +kernel
theorem d_Mod_block_72 : decode b_Mod_block 72 = .ok (.goto 9, 3) := by decide +kernel
theorem d_Mod_block_75 : decode b_Mod_block 75 = .ok (.aload_n 0, 1) := by decide +kernel
theorem d_Mod_block_76 : decode b_Mod_block 76 = .ok (.getfield 24, 3) := by decide +kernel
theorem d_Mod_block_79 : decode b_Mod_block 79 = .ok (.iload_n 3, 1) := by decide +kernel
theorem d_Mod_block_80 : decode b_Mod_block 80 = .ok (.iadd, 1) := by decide +kernel
theorem d_Mod_block_81 : decode b_Mod_block 81 = .ok (.ireturn, 1) := by decide +kernel
theorem d_Mod_held_0 : decode b_Mod_held 0 = .ok (.aload_n 0, 1) := by decide +kernel
theorem d_Mod_held_1 : decode b_Mod_held 1 = .ok (.iconst 0, 1) := by decide +kernel
theorem d_Mod_held_2 : decode b_Mod_held 2 = .ok (.putfield 20, 3) := by decide +kernel
theorem d_Mod_held_5 : decode b_Mod_held 5 = .ok (.iload_n 1, 1) := by decide +kernel
theorem d_Mod_held_6 : decode b_Mod_held 6 = .ok (.aload_n 0, 1) := by decide +kernel
theorem d_Mod_held_7 : decode b_Mod_held 7 = .ok (.getfield 24, 3) := by decide +kernel
theorem d_Mod_held_10 : decode b_Mod_held 10 = .ok (.isub, 1) := by decide +kernel
theorem d_Mod_held_11 : decode b_Mod_held 11 = .ok (.istore_n 2, 1) := by decide +kernel
theorem d_Mod_held_12 : decode b_Mod_held 12 = .ok (.iload_n 2, 1) := by decide +kernel
theorem d_Mod_held_13 : decode b_Mod_held 13 = .ok (.ifCond .lt 22, 3) := by decide +kernel
theorem d_Mod_held_16 : decode b_Mod_held 16 = .ok (.iload_n 2, 1) := by decide +kernel
theorem d_Mod_held_17 : decode b_Mod_held 17 = .ok (.bipush 64, 2) := by decide +kernel
theorem d_Mod_held_19 : decode b_Mod_held 19 = .ok (.if_icmp .ge 16, 3) := by decide +kernel
theorem d_Mod_held_22 : decode b_Mod_held 22 = .ok (.aload_n 0, 1) := by decide +kernel
theorem d_Mod_held_23 : decode b_Mod_held 23 = .ok (.getfield 16, 3) := by decide +kernel
theorem d_Mod_held_26 : decode b_Mod_held 26 = .ok (.iload_n 2, 1) := by decide +kernel
theorem d_Mod_held_27 : decode b_Mod_held 27 = .ok (.baload, 1) := by decide +kernel
theorem d_Mod_held_28 : decode b_Mod_held 28 = .ok (.ifCond .eq 7, 3) := by decide +kernel
theorem d_Mod_held_31 : decode b_Mod_held 31 = .ok (.iconst 1, 1) := by decide +kernel
theorem d_Mod_held_32 : decode b_Mod_held 32 = .ok (.goto 4, 3) := by decide +kernel
theorem d_Mod_held_35 : decode b_Mod_held 35 = .ok (.iconst 0, 1) := by decide +kernel
theorem d_Mod_held_36 : decode b_Mod_held 36 = .ok (.ireturn, 1) := by decide +kernel
end
section
/-! decode rows: SegmentBoxLaw -/
theorem d_Law_segment_0 : decode b_Law_segment 0 = .ok (.aload 5, 2) := by decide +kernel
theorem d_Law_segment_2 : decode b_Law_segment 2 = .ok (.iconst 0, 1) := by decide +kernel
theorem d_Law_segment_3 : decode b_Law_segment 3 = .ok (.aload_n 0, 1) := by decide +kernel
theorem d_Law_segment_4 : decode b_Law_segment 4 = .ok (.iload_n 1, 1) := by decide +kernel
theorem d_Law_segment_5 : decode b_Law_segment 5 = .ok (.lload_n 2, 1) := by decide +kernel
theorem d_Law_segment_6 : decode b_Law_segment 6 = .ok (.iload 4, 2) := by decide +kernel
theorem d_Law_segment_8 : decode b_Law_segment 8 = .ok (.invokevirtual 7, 3) := by decide +kernel
theorem d_Law_segment_11 : decode b_Law_segment 11 = .ok (.i2l, 1) := by decide +kernel
theorem d_Law_segment_12 : decode b_Law_segment 12 = .ok (.lastore, 1) := by decide +kernel
theorem d_Law_segment_13 : decode b_Law_segment 13 = .ok (.goto 7, 3) := by decide +kernel
theorem d_Law_segment_16 : decode b_Law_segment 16 = .ok (.astore 6, 2) := by decide +kernel
theorem d_Law_segment_18 : decode b_Law_segment 18 = .ok (.iconst 1, 1) := by decide +kernel
theorem d_Law_segment_19 : decode b_Law_segment 19 = .ok (.ireturn, 1) := by decide +kernel
theorem d_Law_segment_20 : decode b_Law_segment 20 = .ok (.iconst 0, 1) := by decide +kernel
theorem d_Law_segment_21 : decode b_Law_segment 21 = .ok (.ireturn, 1) := by decide +kernel
theorem d_Law_told_0 : decode b_Law_told 0 = .ok (.aload_n 2, 1) := by decide +kernel
theorem d_Law_told_1 : decode b_Law_told 1 = .ok (.iconst 0, 1) := by decide +kernel
theorem d_Law_told_2 : decode b_Law_told 2 = .ok (.aload_n 0, 1) := by decide +kernel
theorem d_Law_told_3 : decode b_Law_told 3 = .ok (.iload_n 1, 1) := by decide +kernel
theorem d_Law_told_4 : decode b_Law_told 4 = .ok (.invokevirtual 15, 3) := by decide +kernel
theorem d_Law_told_7 : decode b_Law_told 7 = .ok (.i2l, 1) := by decide +kernel
theorem d_Law_told_8 : decode b_Law_told 8 = .ok (.lastore, 1) := by decide +kernel
theorem d_Law_told_9 : decode b_Law_told 9 = .ok (.goto 6, 3) := by decide +kernel
theorem d_Law_told_12 : decode b_Law_told 12 = .ok (.astore_n 3, 1) := by decide +kernel
theorem d_Law_told_13 : decode b_Law_told 13 = .ok (.iconst 1, 1) := by decide +kernel
theorem d_Law_told_14 : decode b_Law_told 14 = .ok (.ireturn, 1) := by decide +kernel
theorem d_Law_told_15 : decode b_Law_told 15 = .ok (.iconst 0, 1) := by decide +kernel
theorem d_Law_told_16 : decode b_Law_told 16 = .ok (.ireturn, 1) := by decide +kernel
theorem d_Law_block_0 : decode b_Law_block 0 = .ok (.aload_n 3, 1) := by decide +kernel
theorem d_Law_block_1 : decode b_Law_block 1 = .ok (.iconst 0, 1) := by decide +kernel
theorem d_Law_block_2 : decode b_Law_block 2 = .ok (.aload_n 0, 1) := by decide +kernel
theorem d_Law_block_3 : decode b_Law_block 3 = .ok (.iload_n 1, 1) := by decide +kernel
theorem d_Law_block_4 : decode b_Law_block 4 = .ok (.iload_n 2, 1) := by decide +kernel
theorem d_Law_block_5 : decode b_Law_block 5 = .ok (.invokevirtual 19, 3) := by decide +kernel
theorem d_Law_block_8 : decode b_Law_block 8 = .ok (.i2l, 1) := by decide +kernel
theorem d_Law_block_9 : decode b_Law_block 9 = .ok (.lastore, 1) := by decide +kernel
theorem d_Law_block_10 : decode b_Law_block 10 = .ok (.goto 7, 3) := by decide +kernel
theorem d_Law_block_13 : decode b_Law_block 13 = .ok (.astore 4, 2) := by decide +kernel
theorem d_Law_block_15 : decode b_Law_block 15 = .ok (.iconst 1, 1) := by decide +kernel
theorem d_Law_block_16 : decode b_Law_block 16 = .ok (.ireturn, 1) := by decide +kernel
theorem d_Law_block_17 : decode b_Law_block 17 = .ok (.iconst 0, 1) := by decide +kernel
theorem d_Law_block_18 : decode b_Law_block 18 = .ok (.ireturn, 1) := by decide +kernel
theorem d_Law_law_0 : decode code 0 = .ok (.new 8, 3) := by decide +kernel
theorem d_Law_law_3 : decode code 3 = .ok (.dup, 1) := by decide +kernel
theorem d_Law_law_4 : decode code 4 = .ok (.invokespecial 25, 3) := by decide +kernel
theorem d_Law_law_7 : decode code 7 = .ok (.astore_n 1, 1) := by decide +kernel
theorem d_Law_law_8 : decode code 8 = .ok (.new 26, 3) := by decide +kernel
theorem d_Law_law_11 : decode code 11 = .ok (.dup, 1) := by decide +kernel
theorem d_Law_law_12 : decode code 12 = .ok (.invokespecial 28, 3) := by decide +kernel
theorem d_Law_law_15 : decode code 15 = .ok (.astore_n 2, 1) := by decide +kernel
theorem d_Law_law_16 : decode code 16 = .ok (.iconst 1, 1) := by decide +kernel
theorem d_Law_law_17 : decode code 17 = .ok (.newarray .long, 2) := by decide +kernel
theorem d_Law_law_19 : decode code 19 = .ok (.astore_n 3, 1) := by decide +kernel
theorem d_Law_law_20 : decode code 20 = .ok (.iconst 0, 1) := by decide +kernel
theorem d_Law_law_21 : decode code 21 = .ok (.istore 4, 2) := by decide +kernel
theorem d_Law_law_23 : decode code 23 = .ok (.iload 4, 2) := by decide +kernel
theorem d_Law_law_25 : decode code 25 = .ok (.aload_n 0, 1) := by decide +kernel
theorem d_Law_law_26 : decode code 26 = .ok (.arraylength, 1) := by decide +kernel
theorem d_Law_law_27 : decode code 27 = .ok (.iconst 5, 1) := by decide +kernel
theorem d_Law_law_28 : decode code 28 = .ok (.isub, 1) := by decide +kernel
theorem d_Law_law_29 : decode code 29 = .ok (.if_icmp .gt 395, 3) := by decide +kernel
theorem d_Law_law_32 : decode code 32 = .ok (.aload_n 0, 1) := by decide +kernel
theorem d_Law_law_33 : decode code 33 = .ok (.iload 4, 2) := by decide +kernel
theorem d_Law_law_35 : decode code 35 = .ok (.iaload, 1) := by decide +kernel
theorem d_Law_law_36 : decode code 36 = .ok (.bipush 7, 2) := by decide +kernel
theorem d_Law_law_38 : decode code 38 = .ok (.iand, 1) := by decide +kernel
theorem d_Law_law_39 : decode code 39 = .ok (.tableswitch 379 0 6 #[41, 64, 176, 201, 214, 270, 354], 41) := by decide +kernel
theorem d_Law_law_80 : decode code 80 = .ok (.aload_n 1, 1) := by decide +kernel
theorem d_Law_law_81 : decode code 81 = .ok (.aload_n 0, 1) := by decide +kernel
theorem d_Law_law_82 : decode code 82 = .ok (.iload 4, 2) := by decide +kernel
theorem d_Law_law_84 : decode code 84 = .ok (.iconst 1, 1) := by decide +kernel
theorem d_Law_law_85 : decode code 85 = .ok (.iadd, 1) := by decide +kernel
theorem d_Law_law_86 : decode code 86 = .ok (.iaload, 1) := by decide +kernel
theorem d_Law_law_87 : decode code 87 = .ok (.invokevirtual 29, 3) := by decide +kernel
theorem d_Law_law_90 : decode code 90 = .ok (.aload_n 2, 1) := by decide +kernel
theorem d_Law_law_91 : decode code 91 = .ok (.aload_n 0, 1) := by decide +kernel
theorem d_Law_law_92 : decode code 92 = .ok (.iload 4, 2) := by decide +kernel
theorem d_Law_law_94 : decode code 94 = .ok (.iconst 1, 1) := by decide +kernel
theorem d_Law_law_95 : decode code 95 = .ok (.iadd, 1) := by decide +kernel
theorem d_Law_law_96 : decode code 96 = .ok (.iaload, 1) := by decide +kernel
theorem d_Law_law_97 : decode code 97 = .ok (.invokevirtual 33, 3) := by decide +kernel
theorem d_Law_law_100 : decode code 100 = .ok (.goto 318, 3) := by decide +kernel
theorem d_Law_law_103 : decode code 103 = .ok (.aload_n 1, 1) := by decide +kernel
theorem d_Law_law_104 : decode code 104 = .ok (.aload_n 0, 1) := by decide +kernel
theorem d_Law_law_105 : decode code 105 = .ok (.iload 4, 2) := by decide +kernel
theorem d_Law_law_107 : decode code 107 = .ok (.iconst 1, 1) := by decide +kernel
theorem d_Law_law_108 : decode code 108 = .ok (.iadd, 1) := by decide +kernel
theorem d_Law_law_109 : decode code 109 = .ok (.iaload, 1) := by decide +kernel
theorem d_Law_law_110 : decode code 110 = .ok (.aload_n 0, 1) := by decide +kernel
theorem d_Law_law_111 : decode code 111 = .ok (.iload 4, 2) := by decide +kernel
theorem d_Law_law_113 : decode code 113 = .ok (.iconst 2, 1) := by decide +kernel
theorem d_Law_law_114 : decode code 114 = .ok (.iadd, 1) := by decide +kernel
theorem d_Law_law_115 : decode code 115 = .ok (.iaload, 1) := by decide +kernel
theorem d_Law_law_116 : decode code 116 = .ok (.i2l, 1) := by decide +kernel
theorem d_Law_law_117 : decode code 117 = .ok (.bipush 32, 2) := by decide +kernel
theorem d_Law_law_119 : decode code 119 = .ok (.lshl, 1) := by decide +kernel
theorem d_Law_law_120 : decode code 120 = .ok (.aload_n 0, 1) := by decide +kernel
theorem d_Law_law_121 : decode code 121 = .ok (.iload 4, 2) := by decide +kernel
theorem d_Law_law_123 : decode code 123 = .ok (.iconst 3, 1) := by decide +kernel
theorem d_Law_law_124 : decode code 124 = .ok (.iadd, 1) := by decide +kernel
theorem d_Law_law_125 : decode code 125 = .ok (.iaload, 1) := by decide +kernel
theorem d_Law_law_126 : decode code 126 = .ok (.i2l, 1) := by decide +kernel
theorem d_Law_law_127 : decode code 127 = .ok (.ldc2_w 34, 3) := by decide +kernel
theorem d_Law_law_130 : decode code 130 = .ok (.land, 1) := by decide +kernel
theorem d_Law_law_131 : decode code 131 = .ok (.lor, 1) := by decide +kernel
theorem d_Law_law_132 : decode code 132 = .ok (.aload_n 0, 1) := by decide +kernel
theorem d_Law_law_133 : decode code 133 = .ok (.iload 4, 2) := by decide +kernel
theorem d_Law_law_135 : decode code 135 = .ok (.iconst 4, 1) := by decide +kernel
theorem d_Law_law_136 : decode code 136 = .ok (.iadd, 1) := by decide +kernel
theorem d_Law_law_137 : decode code 137 = .ok (.iaload, 1) := by decide +kernel
theorem d_Law_law_138 : decode code 138 = .ok (.aload_n 3, 1) := by decide +kernel
theorem d_Law_law_139 : decode code 139 = .ok (.invokestatic 36, 3) := by decide +kernel
theorem d_Law_law_142 : decode code 142 = .ok (.istore 5, 2) := by decide +kernel
theorem d_Law_law_144 : decode code 144 = .ok (.aload_n 2, 1) := by decide +kernel
theorem d_Law_law_145 : decode code 145 = .ok (.aload_n 0, 1) := by decide +kernel
theorem d_Law_law_146 : decode code 146 = .ok (.iload 4, 2) := by decide +kernel
theorem d_Law_law_148 : decode code 148 = .ok (.iconst 1, 1) := by decide +kernel
theorem d_Law_law_149 : decode code 149 = .ok (.iadd, 1) := by decide +kernel
theorem d_Law_law_150 : decode code 150 = .ok (.iaload, 1) := by decide +kernel
theorem d_Law_law_151 : decode code 151 = .ok (.aload_n 0, 1) := by decide +kernel
theorem d_Law_law_152 : decode code 152 = .ok (.iload 4, 2) := by decide +kernel
theorem d_Law_law_154 : decode code 154 = .ok (.iconst 2, 1) := by decide +kernel
theorem d_Law_law_155 : decode code 155 = .ok (.iadd, 1) := by decide +kernel
theorem d_Law_law_156 : decode code 156 = .ok (.iaload, 1) := by decide +kernel
theorem d_Law_law_157 : decode code 157 = .ok (.i2l, 1) := by decide +kernel
theorem d_Law_law_158 : decode code 158 = .ok (.bipush 32, 2) := by decide +kernel
theorem d_Law_law_160 : decode code 160 = .ok (.lshl, 1) := by decide +kernel
theorem d_Law_law_161 : decode code 161 = .ok (.aload_n 0, 1) := by decide +kernel
theorem d_Law_law_162 : decode code 162 = .ok (.iload 4, 2) := by decide +kernel
theorem d_Law_law_164 : decode code 164 = .ok (.iconst 3, 1) := by decide +kernel
theorem d_Law_law_165 : decode code 165 = .ok (.iadd, 1) := by decide +kernel
theorem d_Law_law_166 : decode code 166 = .ok (.iaload, 1) := by decide +kernel
theorem d_Law_law_167 : decode code 167 = .ok (.i2l, 1) := by decide +kernel
theorem d_Law_law_168 : decode code 168 = .ok (.ldc2_w 34, 3) := by decide +kernel
theorem d_Law_law_171 : decode code 171 = .ok (.land, 1) := by decide +kernel
theorem d_Law_law_172 : decode code 172 = .ok (.lor, 1) := by decide +kernel
theorem d_Law_law_173 : decode code 173 = .ok (.aload_n 0, 1) := by decide +kernel
theorem d_Law_law_174 : decode code 174 = .ok (.iload 4, 2) := by decide +kernel
theorem d_Law_law_176 : decode code 176 = .ok (.iconst 4, 1) := by decide +kernel
theorem d_Law_law_177 : decode code 177 = .ok (.iadd, 1) := by decide +kernel
theorem d_Law_law_178 : decode code 178 = .ok (.iaload, 1) := by decide +kernel
theorem d_Law_law_179 : decode code 179 = .ok (.invokevirtual 41, 3) := by decide +kernel
theorem d_Law_law_182 : decode code 182 = .ok (.istore 6, 2) := by decide +kernel
theorem d_Law_law_184 : decode code 184 = .ok (.aload_n 2, 1) := by decide +kernel
theorem d_Law_law_185 : decode code 185 = .ok (.invokevirtual 42, 3) := by decide +kernel
theorem d_Law_law_188 : decode code 188 = .ok (.iload 5, 2) := by decide +kernel
theorem d_Law_law_190 : decode code 190 = .ok (.if_icmp .eq 5, 3) := by decide +kernel
theorem d_Law_law_193 : decode code 193 = .ok (.iconst 0, 1) := by decide +kernel
theorem d_Law_law_194 : decode code 194 = .ok (.ireturn, 1) := by decide +kernel
theorem d_Law_law_195 : decode code 195 = .ok (.iload 5, 2) := by decide +kernel
theorem d_Law_law_197 : decode code 197 = .ok (.ifCond .ne 15, 3) := by decide +kernel
theorem d_Law_law_200 : decode code 200 = .ok (.aload_n 3, 1) := by decide +kernel
theorem d_Law_law_201 : decode code 201 = .ok (.iconst 0, 1) := by decide +kernel
theorem d_Law_law_202 : decode code 202 = .ok (.laload, 1) := by decide +kernel
theorem d_Law_law_203 : decode code 203 = .ok (.iload 6, 2) := by decide +kernel
theorem d_Law_law_205 : decode code 205 = .ok (.i2l, 1) := by decide +kernel
theorem d_Law_law_206 : decode code 206 = .ok (.lcmp, 1) := by decide +kernel
theorem d_Law_law_207 : decode code 207 = .ok (.ifCond .eq 5, 3) := by decide +kernel
theorem d_Law_law_210 : decode code 210 = .ok (.iconst 0, 1) := by decide +kernel
theorem d_Law_law_211 : decode code 211 = .ok (.ireturn, 1) := by decide +kernel
theorem d_Law_law_212 : decode code 212 = .ok (.goto 206, 3) := by decide +kernel
theorem d_Law_law_215 : decode code 215 = .ok (.aload_n 1, 1) := by decide +kernel
theorem d_Law_law_216 : decode code 216 = .ok (.aload_n 0, 1) := by decide +kernel
theorem d_Law_law_217 : decode code 217 = .ok (.iload 4, 2) := by decide +kernel
theorem d_Law_law_219 : decode code 219 = .ok (.iconst 1, 1) := by decide +kernel
theorem d_Law_law_220 : decode code 220 = .ok (.iadd, 1) := by decide +kernel
theorem d_Law_law_221 : decode code 221 = .ok (.iaload, 1) := by decide +kernel
theorem d_Law_law_222 : decode code 222 = .ok (.invokevirtual 46, 3) := by decide +kernel
theorem d_Law_law_225 : decode code 225 = .ok (.aload_n 2, 1) := by decide +kernel
theorem d_Law_law_226 : decode code 226 = .ok (.aload_n 0, 1) := by decide +kernel
theorem d_Law_law_227 : decode code 227 = .ok (.iload 4, 2) := by decide +kernel
theorem d_Law_law_229 : decode code 229 = .ok (.iconst 1, 1) := by decide +kernel
theorem d_Law_law_230 : decode code 230 = .ok (.iadd, 1) := by decide +kernel
theorem d_Law_law_231 : decode code 231 = .ok (.iaload, 1) := by decide +kernel
theorem d_Law_law_232 : decode code 232 = .ok (.invokevirtual 50, 3) := by decide +kernel
theorem d_Law_law_235 : decode code 235 = .ok (.if_icmp .eq 183, 3) := by decide +kernel
theorem d_Law_law_238 : decode code 238 = .ok (.iconst 0, 1) := by decide +kernel
theorem d_Law_law_239 : decode code 239 = .ok (.ireturn, 1) := by decide +kernel
theorem d_Law_law_240 : decode code 240 = .ok (.aload_n 1, 1) := by decide +kernel
theorem d_Law_law_241 : decode code 241 = .ok (.invokevirtual 51, 3) := by decide +kernel
theorem d_Law_law_244 : decode code 244 = .ok (.aload_n 2, 1) := by decide +kernel
theorem d_Law_law_245 : decode code 245 = .ok (.invokevirtual 54, 3) := by decide +kernel
theorem d_Law_law_248 : decode code 248 = .ok (.if_icmp .eq 170, 3) := by decide +kernel
theorem d_Law_law_251 : decode code 251 = .ok (.iconst 0, 1) := by decide +kernel
theorem d_Law_law_252 : decode code 252 = .ok (.ireturn, 1) := by decide +kernel
theorem d_Law_law_253 : decode code 253 = .ok (.aload_n 1, 1) := by decide +kernel
theorem d_Law_law_254 : decode code 254 = .ok (.aload_n 0, 1) := by decide +kernel
theorem d_Law_law_255 : decode code 255 = .ok (.iload 4, 2) := by decide +kernel
theorem d_Law_law_257 : decode code 257 = .ok (.iconst 1, 1) := by decide +kernel
theorem d_Law_law_258 : decode code 258 = .ok (.iadd, 1) := by decide +kernel
theorem d_Law_law_259 : decode code 259 = .ok (.iaload, 1) := by decide +kernel
theorem d_Law_law_260 : decode code 260 = .ok (.aload_n 3, 1) := by decide +kernel
theorem d_Law_law_261 : decode code 261 = .ok (.invokestatic 55, 3) := by decide +kernel
theorem d_Law_law_264 : decode code 264 = .ok (.istore 5, 2) := by decide +kernel
theorem d_Law_law_266 : decode code 266 = .ok (.aload_n 2, 1) := by decide +kernel
theorem d_Law_law_267 : decode code 267 = .ok (.aload_n 0, 1) := by decide +kernel
theorem d_Law_law_268 : decode code 268 = .ok (.iload 4, 2) := by decide +kernel
theorem d_Law_law_270 : decode code 270 = .ok (.iconst 1, 1) := by decide +kernel
theorem d_Law_law_271 : decode code 271 = .ok (.iadd, 1) := by decide +kernel
theorem d_Law_law_272 : decode code 272 = .ok (.iaload, 1) := by decide +kernel
theorem d_Law_law_273 : decode code 273 = .ok (.invokevirtual 58, 3) := by decide +kernel
theorem d_Law_law_276 : decode code 276 = .ok (.istore 6, 2) := by decide +kernel
theorem d_Law_law_278 : decode code 278 = .ok (.aload_n 2, 1) := by decide +kernel
theorem d_Law_law_279 : decode code 279 = .ok (.invokevirtual 42, 3) := by decide +kernel
theorem d_Law_law_282 : decode code 282 = .ok (.iload 5, 2) := by decide +kernel
theorem d_Law_law_284 : decode code 284 = .ok (.if_icmp .eq 5, 3) := by decide +kernel
theorem d_Law_law_287 : decode code 287 = .ok (.iconst 0, 1) := by decide +kernel
theorem d_Law_law_288 : decode code 288 = .ok (.ireturn, 1) := by decide +kernel
theorem d_Law_law_289 : decode code 289 = .ok (.iload 5, 2) := by decide +kernel
theorem d_Law_law_291 : decode code 291 = .ok (.ifCond .ne 15, 3) := by decide +kernel
theorem d_Law_law_294 : decode code 294 = .ok (.aload_n 3, 1) := by decide +kernel
theorem d_Law_law_295 : decode code 295 = .ok (.iconst 0, 1) := by decide +kernel
theorem d_Law_law_296 : decode code 296 = .ok (.laload, 1) := by decide +kernel
theorem d_Law_law_297 : decode code 297 = .ok (.iload 6, 2) := by decide +kernel
theorem d_Law_law_299 : decode code 299 = .ok (.i2l, 1) := by decide +kernel
theorem d_Law_law_300 : decode code 300 = .ok (.lcmp, 1) := by decide +kernel
theorem d_Law_law_301 : decode code 301 = .ok (.ifCond .eq 5, 3) := by decide +kernel
theorem d_Law_law_304 : decode code 304 = .ok (.iconst 0, 1) := by decide +kernel
theorem d_Law_law_305 : decode code 305 = .ok (.ireturn, 1) := by decide +kernel
theorem d_Law_law_306 : decode code 306 = .ok (.goto 112, 3) := by decide +kernel
theorem d_Law_law_309 : decode code 309 = .ok (.aload_n 1, 1) := by decide +kernel
theorem d_Law_law_310 : decode code 310 = .ok (.aload_n 0, 1) := by decide +kernel
theorem d_Law_law_311 : decode code 311 = .ok (.iload 4, 2) := by decide +kernel
theorem d_Law_law_313 : decode code 313 = .ok (.iconst 1, 1) := by decide +kernel
theorem d_Law_law_314 : decode code 314 = .ok (.iadd, 1) := by decide +kernel
theorem d_Law_law_315 : decode code 315 = .ok (.iaload, 1) := by decide +kernel
theorem d_Law_law_316 : decode code 316 = .ok (.aload_n 0, 1) := by decide +kernel
theorem d_Law_law_317 : decode code 317 = .ok (.iload 4, 2) := by decide +kernel
theorem d_Law_law_319 : decode code 319 = .ok (.iconst 2, 1) := by decide +kernel
theorem d_Law_law_320 : decode code 320 = .ok (.iadd, 1) := by decide +kernel
theorem d_Law_law_321 : decode code 321 = .ok (.iaload, 1) := by decide +kernel
theorem d_Law_law_322 : decode code 322 = .ok (.ifCond .eq 7, 3) := by decide +kernel
theorem d_Law_law_325 : decode code 325 = .ok (.iconst 1, 1) := by decide +kernel
theorem d_Law_law_326 : decode code 326 = .ok (.goto 4, 3) := by decide +kernel
theorem d_Law_law_329 : decode code 329 = .ok (.iconst 0, 1) := by decide +kernel
theorem d_Law_law_330 : decode code 330 = .ok (.aload_n 3, 1) := by decide +kernel
theorem d_Law_law_331 : decode code 331 = .ok (.invokestatic 59, 3) := by decide +kernel
theorem d_Law_law_334 : decode code 334 = .ok (.istore 5, 2) := by decide +kernel
theorem d_Law_law_336 : decode code 336 = .ok (.aload_n 2, 1) := by decide +kernel
theorem d_Law_law_337 : decode code 337 = .ok (.aload_n 0, 1) := by decide +kernel
theorem d_Law_law_338 : decode code 338 = .ok (.iload 4, 2) := by decide +kernel
theorem d_Law_law_340 : decode code 340 = .ok (.iconst 1, 1) := by decide +kernel
theorem d_Law_law_341 : decode code 341 = .ok (.iadd, 1) := by decide +kernel
theorem d_Law_law_342 : decode code 342 = .ok (.iaload, 1) := by decide +kernel
theorem d_Law_law_343 : decode code 343 = .ok (.aload_n 0, 1) := by decide +kernel
theorem d_Law_law_344 : decode code 344 = .ok (.iload 4, 2) := by decide +kernel
theorem d_Law_law_346 : decode code 346 = .ok (.iconst 2, 1) := by decide +kernel
theorem d_Law_law_347 : decode code 347 = .ok (.iadd, 1) := by decide +kernel
theorem d_Law_law_348 : decode code 348 = .ok (.iaload, 1) := by decide +kernel
theorem d_Law_law_349 : decode code 349 = .ok (.ifCond .eq 7, 3) := by decide +kernel
theorem d_Law_law_352 : decode code 352 = .ok (.iconst 1, 1) := by decide +kernel
theorem d_Law_law_353 : decode code 353 = .ok (.goto 4, 3) := by decide +kernel
theorem d_Law_law_356 : decode code 356 = .ok (.iconst 0, 1) := by decide +kernel
theorem d_Law_law_357 : decode code 357 = .ok (.invokevirtual 62, 3) := by decide +kernel
theorem d_Law_law_360 : decode code 360 = .ok (.istore 6, 2) := by decide +kernel
theorem d_Law_law_362 : decode code 362 = .ok (.aload_n 2, 1) := by decide +kernel
theorem d_Law_law_363 : decode code 363 = .ok (.invokevirtual 42, 3) := by decide +kernel
theorem d_Law_law_366 : decode code 366 = .ok (.iload 5, 2) := by decide +kernel
theorem d_Law_law_368 : decode code 368 = .ok (.if_icmp .eq 5, 3) := by decide +kernel
theorem d_Law_law_371 : decode code 371 = .ok (.iconst 0, 1) := by decide +kernel
theorem d_Law_law_372 : decode code 372 = .ok (.ireturn, 1) := by decide +kernel
theorem d_Law_law_373 : decode code 373 = .ok (.iload 5, 2) := by decide +kernel
theorem d_Law_law_375 : decode code 375 = .ok (.ifCond .ne 15, 3) := by decide +kernel
theorem d_Law_law_378 : decode code 378 = .ok (.aload_n 3, 1) := by decide +kernel
theorem d_Law_law_379 : decode code 379 = .ok (.iconst 0, 1) := by decide +kernel
theorem d_Law_law_380 : decode code 380 = .ok (.laload, 1) := by decide +kernel
theorem d_Law_law_381 : decode code 381 = .ok (.iload 6, 2) := by decide +kernel
theorem d_Law_law_383 : decode code 383 = .ok (.i2l, 1) := by decide +kernel
theorem d_Law_law_384 : decode code 384 = .ok (.lcmp, 1) := by decide +kernel
theorem d_Law_law_385 : decode code 385 = .ok (.ifCond .eq 5, 3) := by decide +kernel
theorem d_Law_law_388 : decode code 388 = .ok (.iconst 0, 1) := by decide +kernel
theorem d_Law_law_389 : decode code 389 = .ok (.ireturn, 1) := by decide +kernel
theorem d_Law_law_390 : decode code 390 = .ok (.goto 28, 3) := by decide +kernel
theorem d_Law_law_393 : decode code 393 = .ok (.aload_n 1, 1) := by decide +kernel
theorem d_Law_law_394 : decode code 394 = .ok (.aload_n 0, 1) := by decide +kernel
theorem d_Law_law_395 : decode code 395 = .ok (.iload 4, 2) := by decide +kernel
theorem d_Law_law_397 : decode code 397 = .ok (.iconst 1, 1) := by decide +kernel
theorem d_Law_law_398 : decode code 398 = .ok (.iadd, 1) := by decide +kernel
theorem d_Law_law_399 : decode code 399 = .ok (.iaload, 1) := by decide +kernel
theorem d_Law_law_400 : decode code 400 = .ok (.invokevirtual 63, 3) := by decide +kernel
theorem d_Law_law_403 : decode code 403 = .ok (.aload_n 2, 1) := by decide +kernel
theorem d_Law_law_404 : decode code 404 = .ok (.aload_n 0, 1) := by decide +kernel
theorem d_Law_law_405 : decode code 405 = .ok (.iload 4, 2) := by decide +kernel
theorem d_Law_law_407 : decode code 407 = .ok (.iconst 1, 1) := by decide +kernel
theorem d_Law_law_408 : decode code 408 = .ok (.iadd, 1) := by decide +kernel
theorem d_Law_law_409 : decode code 409 = .ok (.iaload, 1) := by decide +kernel
theorem d_Law_law_410 : decode code 410 = .ok (.invokevirtual 66, 3) := by decide +kernel
theorem d_Law_law_413 : decode code 413 = .ok (.if_icmp .eq 5, 3) := by decide +kernel
theorem d_Law_law_416 : decode code 416 = .ok (.iconst 0, 1) := by decide +kernel
theorem d_Law_law_417 : decode code 417 = .ok (.ireturn, 1) := by decide +kernel
theorem d_Law_law_418 : decode code 418 = .ok (.iinc 4 5, 3) := by decide +kernel
theorem d_Law_law_421 : decode code 421 = .ok (.goto (-398), 3) := by decide +kernel
theorem d_Law_law_424 : decode code 424 = .ok (.iconst 1, 1) := by decide +kernel
theorem d_Law_law_425 : decode code 425 = .ok (.ireturn, 1) := by decide +kernel
end
section
/-! a world's words as a contract's start; rooms -/
def wd (dC : Nat → ClassId) (dI : Nat → Nat → Nat) (ws : va_W) (tys : List (ClassId × FieldType)) (U : State) : Prop := va_P (dC, dI) classes ws U.heap ∧ va_K (dC, dI) classes tys U
theorem wd_blind {dC : Nat → ClassId} {dI : Nat → Nat → Nat} {ws : va_W} {tys : List (ClassId × FieldType)} {av : List Value} : FrameBlind (va_Pc av (wd dC dI ws tys)) := fun a U g mk q => ⟨q.1, q.2.1, va_K.moved (u := U) (U := U.calling g mk a) (Vm.Alike.refl U.vm) q.2.2⟩
theorem wd_at {dC : Nat → ClassId} {dI : Nat → Nat → Nat} {ws : va_W} {tys : List (ClassId × FieldType)} {s : State} {H : Heap} {av : List Value} (hK : va_K (dC, dI) classes tys s) (hP : va_P (dC, dI) classes ws H) : ∀ U : State, U.heap = H → s.WarmedH U.vm → va_Pc av (wd dC dI ws tys) av.toArray U := fun U hU hW => ⟨rfl, by rw [hU]; exact hP, va_K.moved hW.alike hK⟩
/-- the same, with what a writing method needs: the heap's size, the cells apart -/
def we (dC : Nat → ClassId) (dI : Nat → Nat → Nat) (sz : Nat) (ws : va_W) (tys : List (ClassId × FieldType)) (U : State) : Prop := U.heap.size = sz ∧ va_P (dC, dI) classes ws U.heap ∧ va_K (dC, dI) classes tys U ∧ va_D (fun _ => True) ws
theorem we_blind {dC : Nat → ClassId} {dI : Nat → Nat → Nat} {sz : Nat} {ws : va_W} {tys : List (ClassId × FieldType)} {av : List Value} : FrameBlind (va_Pc av (we dC dI sz ws tys)) := fun a U g mk q => ⟨q.1, q.2.1, q.2.2.1, va_K.moved (u := U) (U := U.calling g mk a) (Vm.Alike.refl U.vm) q.2.2.2.1, q.2.2.2.2⟩
theorem we_at {dC : Nat → ClassId} {dI : Nat → Nat → Nat} {ws : va_W} {tys : List (ClassId × FieldType)} {s : State} {H : Heap} {A : Nat → Prop} {av : List Value} (hK : va_K (dC, dI) classes tys s) (hP : va_P (dC, dI) classes ws H) (hD : va_D A ws) : ∀ U : State, U.heap = H → s.WarmedH U.vm → va_Pc av (we dC dI H.size ws tys) av.toArray U := fun U hU hW => ⟨rfl, by rw [hU], by rw [hU]; exact hP, va_K.moved hW.alike hK, hD.weaken (fun _ _ _ _ => trivial)⟩
/-- the world behind a method -/
def wz (dC : Nat → ClassId) (dI : Nat → Nat → Nat) (A : Nat → Prop) (ws : va_W) (tys : List (ClassId × FieldType)) (t : State) : Prop := va_P (dC, dI) classes ws t.heap ∧ va_K (dC, dI) classes tys t ∧ va_D A ws
abbrev rm_0 : Room := { frames := 0, cells := 0, slots := 0, locals := 0 }
abbrev rm_1 : Room := { frames := 1, cells := 0, slots := 0, locals := 30 }
abbrev rm_2 : Room := { frames := 2, cells := 0, slots := 0, locals := 60 }
abbrev rm_3 : Room := { frames := 3, cells := 0, slots := 0, locals := 90 }
abbrev rm_t : Room := { frames := 6, cells := 1, slots := 6, locals := 81 }
abbrev rm_u : Room := { frames := 7, cells := 1, slots := 6, locals := 110 }
end
section
/-! ===== lN n to 2^64: shifts, and, or, masks, one bit ===== -/
theorem wb_tb (n : Nat) : (lN n).toBitVec = BitVec.ofNat 64 n := rfl
theorem wb_inj {a b : Int64} (h : a.toBitVec = b.toBitVec) : a = b := Int64.toBitVec_inj.mp h
theorem wb_tn {n : Nat} (h : n < 2 ^ 64) : (lN n).toBitVec.toNat = n := by rw [wb_tb, BitVec.toNat_ofNat, Nat.mod_eq_of_lt h]
theorem wb_of (x : Int64) : ∃ n, n < 2 ^ 64 ∧ x = lN n := ⟨x.toBitVec.toNat, x.toBitVec.isLt, wb_inj (by rw [wb_tb]; simp)⟩
theorem wb_of32 (x : Int32) : ∃ n, n < 2 ^ 32 ∧ x = nI n := ⟨x.toBitVec.toNat, x.toBitVec.isLt, Int32.toBitVec_inj.mp (by show _ = BitVec.ofNat 32 _; simp)⟩
theorem wb_c : ∀ k, k < 64 → ((nI k).toInt64 &&& 63) = lN k := by decide +kernel
theorem wb_cu : ∀ k, k < 64 → ((nI k).toInt64.toUInt64 &&& Int64.toUInt64 63) = UInt64.ofNat k := by decide +kernel
theorem wb_sm : ∀ k, k < 64 → (BitVec.ofNat 64 k).smod 64 = BitVec.ofNat 64 k := by decide +kernel
theorem wb_pw {a b : Nat} (h : a ≤ b) : 2 ^ b = 2 ^ a * 2 ^ (b - a) := by rw [← Nat.pow_add]; congr 1; omega
theorem wb_lt2 {a b : Nat} (h : a < b) : 2 ^ a < 2 ^ b := Nat.pow_lt_pow_right (by decide) h
theorem wb_mod (n : Nat) : lN n = lN (n % 2 ^ 64) := wb_inj (by rw [wb_tb, wb_tb]; apply BitVec.eq_of_toNat_eq; rw [BitVec.toNat_ofNat, BitVec.toNat_ofNat, Nat.mod_mod])
theorem wb_shr {n k : Nat} (hn : n < 2 ^ 64) (hk : k < 64) : ((lN n).toUInt64 >>> ((nI k).toInt64.toUInt64 &&& Int64.toUInt64 63)).toInt64 = lN (n / 2 ^ k) := by
  rw [wb_cu k hk]
  apply wb_inj
  apply BitVec.eq_of_toNat_eq
  show ((lN n).toUInt64 >>> UInt64.ofNat k).toNat = (BitVec.ofNat 64 _).toNat
  have h1 : (UInt64.ofNat k).toNat = k := by
    show (BitVec.ofNat 64 k).toNat = k
    rw [BitVec.toNat_ofNat, Nat.mod_eq_of_lt (by omega)]
  have h2 : (lN n).toUInt64.toNat = n := wb_tn hn
  rw [UInt64.toNat_shiftRight, h1, h2, Nat.mod_eq_of_lt hk, Nat.shiftRight_eq_div_pow, BitVec.toNat_ofNat, Nat.mod_eq_of_lt (Nat.lt_of_le_of_lt (Nat.div_le_self _ _) hn)]
theorem wb_shl (n : Nat) {k : Nat} (hk : k < 64) : lN n <<< ((nI k).toInt64 &&& 63) = lN (n * 2 ^ k) := by
  rw [wb_c k hk]
  apply wb_inj
  rw [Int64.toBitVec_shiftLeft, wb_tb, wb_tb, wb_tb, wb_sm k hk]
  apply BitVec.eq_of_toNat_eq
  rw [BitVec.shiftLeft_eq', BitVec.toNat_shiftLeft, BitVec.toNat_ofNat, BitVec.toNat_ofNat, BitVec.toNat_ofNat, Nat.mod_eq_of_lt (show k < 2 ^ 64 by omega), Nat.shiftLeft_eq, Nat.mul_mod, Nat.mod_mod, ← Nat.mul_mod]
theorem wb_and {a b : Nat} (ha : a < 2 ^ 64) (hb : b < 2 ^ 64) : lN a &&& lN b = lN (a &&& b) := by
  apply wb_inj
  rw [Int64.toBitVec_and, wb_tb, wb_tb, wb_tb]
  apply BitVec.eq_of_toNat_eq
  rw [BitVec.toNat_and, BitVec.toNat_ofNat, BitVec.toNat_ofNat, BitVec.toNat_ofNat, Nat.mod_eq_of_lt ha, Nat.mod_eq_of_lt hb, Nat.mod_eq_of_lt (Nat.and_lt_two_pow _ hb)]
theorem wb_or {a b : Nat} (ha : a < 2 ^ 64) (hb : b < 2 ^ 64) : lN a ||| lN b = lN (a ||| b) := by
  apply wb_inj
  rw [Int64.toBitVec_or, wb_tb, wb_tb, wb_tb]
  apply BitVec.eq_of_toNat_eq
  rw [BitVec.toNat_or, BitVec.toNat_ofNat, BitVec.toNat_ofNat, BitVec.toNat_ofNat, Nat.mod_eq_of_lt ha, Nat.mod_eq_of_lt hb, Nat.mod_eq_of_lt (Nat.or_lt_two_pow ha hb)]
theorem wb_mask {n k : Nat} (hn : n < 2 ^ 64) (hk : k < 64) : lN n &&& lN (2 ^ k - 1) = lN (n % 2 ^ k) := by
  rw [wb_and hn (by have := wb_lt2 hk; omega), Nat.and_two_pow_sub_one_eq_mod]
theorem wb_a1 {n : Nat} (hn : n < 2 ^ 64) : lN n &&& 1 = lN (n % 2) := wb_mask (k := 1) hn (by decide)
theorem wb_bit {n k : Nat} (hn : n < 2 ^ 64) (hk : k < 64) : ((lN n).toUInt64 >>> ((nI k).toInt64.toUInt64 &&& Int64.toUInt64 63)).toInt64 &&& 1 = lN (n / 2 ^ k % 2) := by
  rw [wb_shr hn hk, wb_a1 (Nat.lt_of_le_of_lt (Nat.div_le_self _ _) hn)]
theorem wb_xor {q k : Nat} (hk : k < 63) (h : 2 ^ k ≤ q) (h2 : q < 2 ^ (k + 1)) : lN q ^^^ lN (2 ^ k) = lN (q - 2 ^ k) := by
  obtain ⟨r, rfl⟩ : ∃ r, q = 2 ^ k + r := ⟨q - 2 ^ k, by omega⟩
  have hr : r < 2 ^ k := by rw [Nat.pow_succ] at h2; omega
  have hx : (2 ^ k + r) ^^^ 2 ^ k = r := by
    apply Nat.eq_of_testBit_eq
    intro i
    rw [Nat.testBit_xor, Nat.testBit_two_pow]
    rcases Nat.lt_trichotomy i k with h | h | h
    · rw [Nat.testBit_two_pow_add_gt h]
      simp [show ¬ k = i by omega]
    · subst h
      rw [Nat.testBit_two_pow_add_eq]
      simp
    · have a1 : 2 ^ (k + 1) ≤ 2 ^ i := Nat.pow_le_pow_right (by decide) h
      rw [Nat.testBit_lt_two_pow (show 2 ^ k + r < 2 ^ i by omega), Nat.testBit_lt_two_pow (show r < 2 ^ i by omega)]
      simp [show ¬ k = i by omega]
  have b1 := wb_lt2 (show k + 1 < 64 by omega)
  have b2 := wb_lt2 (show k < 64 by omega)
  apply wb_inj
  rw [Int64.toBitVec_xor, wb_tb, wb_tb, wb_tb]
  apply BitVec.eq_of_toNat_eq
  rw [BitVec.toNat_xor, BitVec.toNat_ofNat, BitVec.toNat_ofNat, BitVec.toNat_ofNat, Nat.mod_eq_of_lt (by omega : 2 ^ k + r < 2 ^ 64), Nat.mod_eq_of_lt b2, hx, Nat.add_sub_cancel_left, Nat.mod_eq_of_lt (by omega)]
/-! our own: bits of a mask M < 2^64, counts -/
theorem mb_bit {M d : Nat} (hM : M < 2 ^ 64) (hd : d < 64) : lg_cmp (((lN M).toUInt64 >>> ((nI d).toInt64.toUInt64 &&& Int64.toUInt64 63)).toInt64 &&& 1) 1 = 0 ↔ M.testBit d = true := by
  rw [lg_cmp_eq, wb_bit hM hd, show (1 : Int64) = lN 1 from rfl, lN_eq (by omega) (by omega), Nat.testBit_eq_decide_div_mod_eq, decide_eq_true_eq]
theorem mb_bit0 {M d : Nat} (hM : M < 2 ^ 64) (hd : d < 64) : lg_cmp (((lN M).toUInt64 >>> ((nI d).toInt64.toUInt64 &&& Int64.toUInt64 63)).toInt64 &&& 1) 0 = 0 ↔ M.testBit d = false := by
  rw [lg_cmp_eq, wb_bit hM hd, show (0 : Int64) = lN 0 from rfl, lN_eq (by omega) (by omega), Nat.testBit_eq_decide_div_mod_eq, decide_eq_false_iff_not]
  omega
theorem mb_odd {M : Nat} (hM : M < 2 ^ 64) : lg_cmp (lN M &&& 1) 1 = 0 ↔ M.testBit 0 = true := by
  rw [lg_cmp_eq, wb_a1 hM, show (1 : Int64) = lN 1 from rfl, lN_eq (by omega) (by omega), Nat.testBit_zero, decide_eq_true_eq]
theorem mb_inj {a b : Nat} (ha : a < 2 ^ 64) (hb : b < 2 ^ 64) : lN a = lN b ↔ a = b := by
  constructor
  · intro h
    have := congrArg (fun z : Int64 => z.toBitVec.toNat) h
    simpa [wb_tn ha, wb_tn hb] using this
  · rintro rfl; rfl
theorem mb_zero {v : Nat} (hv : v < 2 ^ 64) : lg_cmp (lN v) 0 = 0 ↔ v = 0 := by
  rw [lg_cmp_eq, show (0 : Int64) = lN 0 from rfl, mb_inj hv (by omega)]
theorem mb_set {M d : Nat} (hM : M < 2 ^ 64) (hd : d < 64) : lN M ||| ((1 : Int64) <<< ((nI d).toInt64 &&& 63)) = lN (M ||| 2 ^ d) := by
  rw [show (1 : Int64) = lN 1 from rfl, wb_shl 1 hd, Nat.one_mul, wb_or hM (wb_lt2 hd)]
theorem mb_lt {M d : Nat} (hM : M < 2 ^ 64) (hd : d < 64) : M ||| 2 ^ d < 2 ^ 64 := Nat.or_lt_two_pow hM (wb_lt2 hd)
theorem mb_tst {M d i : Nat} : (M ||| 2 ^ d).testBit i = (M.testBit i || decide (d = i)) := by rw [Nat.testBit_or, Nat.testBit_two_pow]
theorem mb_half {M : Nat} (hM : M < 2 ^ 64) : ((lN M).toUInt64 >>> ((1 : Int32).toInt64.toUInt64 &&& Int64.toUInt64 63)).toInt64 = lN (M / 2) := by
  have := wb_shr (k := 1) hM (by omega)
  rw [Nat.pow_one] at this
  exact this
theorem mb_big {M i : Nat} (hM : M < 2 ^ 64) (hi : 64 ≤ i) : M.testBit i = false := Nat.testBit_lt_two_pow (Nat.lt_of_lt_of_le hM (Nat.pow_le_pow_right (by decide) hi))
theorem mb_div {M d i : Nat} : (M / 2 ^ d).testBit i = M.testBit (d + i) := by rw [Nat.testBit_div_two_pow, Nat.add_comm]
/-- bits at which a block begins -/
def bg (M : Nat) : Nat := M &&& ((2 * M % 2 ^ 64) ^^^ (2 ^ 64 - 1))
theorem bg_lt {M : Nat} (hM : M < 2 ^ 64) : bg M < 2 ^ 64 := Nat.and_lt_two_pow _ (Nat.xor_lt_two_pow (Nat.mod_lt _ (by decide)) (by decide))
theorem bg_eq {M : Nat} (hM : M < 2 ^ 64) : lN M &&& ((lN M <<< ((1 : Int32).toInt64 &&& 63)) ^^^ (-1)) = lN (bg M) := by
  have h1 : lN M <<< ((1 : Int32).toInt64 &&& 63) = lN (2 * M % 2 ^ 64) := by
    have := wb_shl M (k := 1) (by omega)
    rw [Nat.pow_one, Nat.mul_comm] at this
    rw [← wb_mod]; exact this
  have h2 : (-1 : Int64) = lN (2 ^ 64 - 1) := by decide +kernel
  have h3 : lN (2 * M % 2 ^ 64) ^^^ lN (2 ^ 64 - 1) = lN ((2 * M % 2 ^ 64) ^^^ (2 ^ 64 - 1)) := by
    have hlt : 2 * M % 2 ^ 64 < 2 ^ 64 := Nat.mod_lt _ (by decide)
    apply wb_inj
    rw [Int64.toBitVec_xor, wb_tb, wb_tb, wb_tb]
    apply BitVec.eq_of_toNat_eq
    rw [BitVec.toNat_xor, BitVec.toNat_ofNat, BitVec.toNat_ofNat, BitVec.toNat_ofNat, Nat.mod_eq_of_lt hlt, Nat.mod_eq_of_lt (show 2 ^ 64 - 1 < 2 ^ 64 by decide), Nat.mod_eq_of_lt (Nat.xor_lt_two_pow hlt (by decide))]
  rw [h1, h2, h3, wb_and hM (Nat.xor_lt_two_pow (Nat.mod_lt _ (by decide)) (by decide))]
  rfl
theorem bg_bit {M i : Nat} (hi : i < 64) : (bg M).testBit i = (M.testBit i && (decide (i = 0) || !M.testBit (i - 1))) := by
  unfold bg
  rw [Nat.testBit_and, Nat.testBit_xor, Nat.testBit_mod_two_pow, Nat.testBit_two_pow_sub_one]
  simp only [hi, decide_true, Bool.true_and, Bool.bne_true]
  cases i with
  | zero => simp [Nat.testBit_zero]
  | succ j =>
    have h9 : (2 * M).testBit (j + 1) = M.testBit j := by rw [Nat.testBit_succ, Nat.mul_div_cancel_left _ (by decide : 0 < 2)]
    rw [h9]
    simp
/-- how many of the places below n have p -/
def cn (p : Nat → Bool) : Nat → Nat
  | 0 => 0
  | n + 1 => cn p n + if p n = true then 1 else 0
theorem cn_le (p : Nat → Bool) : ∀ n, cn p n ≤ n
  | 0 => Nat.le_refl _
  | n + 1 => by have := cn_le p n; simp only [cn]; split <;> omega
theorem cn_mono (p : Nat → Bool) : ∀ {a b : Nat}, a ≤ b → cn p a ≤ cn p b := by
  intro a b h
  induction h with
  | refl => exact Nat.le_refl _
  | step _ ih => simp only [cn]; omega
theorem cn_lt {p : Nat → Bool} {a b : Nat} (h : a < b) (hp : p a = true) : cn p a < cn p b := by
  have h1 : cn p (a + 1) = cn p a + 1 := by simp only [cn, hp, if_true]
  have h2 := cn_mono p (show a + 1 ≤ b from h)
  omega
/-- the place with p that has i such places below it is one alone -/
theorem cn_uniq {p : Nat → Bool} {a b : Nat} (ha : p a = true) (hb : p b = true) (h : cn p a = cn p b) : a = b := by
  rcases Nat.lt_trichotomy a b with h1 | h1 | h1
  · have := cn_lt h1 ha; omega
  · exact h1
  · have := cn_lt h1 hb; omega
theorem cn_congr {p q : Nat → Bool} : ∀ {n : Nat}, (∀ i, i < n → p i = q i) → cn p n = cn q n
  | 0, _ => rfl
  | n + 1, h => by simp only [cn]; rw [cn_congr (fun i hi => h i (by omega)), h n (by omega)]
theorem cn_drop {p q : Nat → Bool} {b : Nat} (hb : p b = true) (hq : ∀ i, q i = (p i && !decide (i = b))) : ∀ {n : Nat}, (n ≤ b → cn q n = cn p n) ∧ (b < n → cn q n + 1 = cn p n) := by
  intro n
  induction n with
  | zero => exact ⟨fun _ => rfl, fun h => absurd h (Nat.not_lt_zero _)⟩
  | succ n ih =>
    refine ⟨fun h => ?_, fun h => ?_⟩
    · have := ih.1 (by omega)
      simp only [cn]; rw [this, hq n]; simp [show ¬ n = b by omega]
    · by_cases e : n = b
      · subst e
        have := ih.1 (Nat.le_refl _)
        simp only [cn]; rw [this, hq n]; simp [hb]
      · have := ih.2 (by omega)
        simp only [cn]; rw [hq n]; simp only [e, decide_false, Bool.not_false, Bool.and_true]; omega
/-- v and v-1: the lowest bit goes -/
theorem lb_spec : ∀ (v : Nat), v ≠ 0 → ∃ b, v.testBit b = true ∧ (∀ i, i < b → v.testBit i = false) ∧ ∀ i, (v &&& (v - 1)).testBit i = (v.testBit i && !decide (i = b)) := by
  intro v
  induction v using Nat.strongRecOn with
  | ind v ih =>
    intro hv
    by_cases hodd : v % 2 = 1
    · refine ⟨0, by rw [Nat.testBit_zero]; simp [hodd], fun i hi => absurd hi (Nat.not_lt_zero _), fun i => ?_⟩
      rw [Nat.testBit_and]
      cases i with
      | zero => rw [Nat.testBit_zero, Nat.testBit_zero]; simp; omega
      | succ j => rw [Nat.testBit_succ, Nat.testBit_succ, show (v - 1) / 2 = v / 2 by omega]; simp
    · obtain ⟨b, h1, h2, h3⟩ := ih (v / 2) (by omega) (by omega)
      refine ⟨b + 1, by rw [Nat.testBit_succ]; exact h1, fun i hi => ?_, fun i => ?_⟩
      · cases i with
        | zero => rw [Nat.testBit_zero]; simp; omega
        | succ j => rw [Nat.testBit_succ]; exact h2 j (by omega)
      · cases i with
        | zero => rw [Nat.testBit_and, Nat.testBit_zero, Nat.testBit_zero]; simp; omega
        | succ j =>
          have := h3 j
          rw [Nat.testBit_and] at this ⊢
          rw [Nat.testBit_succ, Nat.testBit_succ, show (v - 1) / 2 = v / 2 - 1 by omega, this]
          simp
theorem lb_eq {v : Nat} (hv : v ≠ 0) (hl : v < 2 ^ 64) : lN v &&& (lN v - 1) = lN (v &&& (v - 1)) := by
  rw [show (1 : Int64) = lN 1 from rfl, lN_sub (by omega), wb_and hl (by omega)]
theorem lb_lt {v : Nat} (hl : v < 2 ^ 64) : v &&& (v - 1) < 2 ^ 64 := Nat.and_lt_two_pow _ (by omega)
theorem lb_dec {v : Nat} (hv : v ≠ 0) : v &&& (v - 1) < v := Nat.lt_of_le_of_lt Nat.and_le_right (by omega)
theorem lb_cn {v : Nat} (hv : v ≠ 0) (hl : v < 2 ^ 64) : cn (v &&& (v - 1)).testBit 64 + 1 = cn v.testBit 64 := by
  obtain ⟨b, h1, h2, h3⟩ := lb_spec v hv
  have hb : b < 64 := by
    rcases Nat.lt_or_ge b 64 with h | h
    · exact h
    · rw [mb_big hl h] at h1; cases h1
  exact (cn_drop h1 h3 (n := 64)).2 hb
theorem cn_none {p : Nat → Bool} : ∀ {n : Nat}, (∀ i, i < n → p i = false) → cn p n = 0
  | 0, _ => rfl
  | n + 1, h => by simp only [cn]; rw [cn_none (fun i hi => h i (by omega)), h n (by omega)]; rfl
theorem cn_zero : cn (Nat.testBit 0) 64 = 0 := cn_none fun i _ => Nat.zero_testBit i
end
section
/-! SegmentBox: the methods that change nothing -/
/-- a place d, counted from the next byte, is in the window -/
def bx_near (u en lf d : Int32) : Prop := ¬ d < 0 ∧ d < 64 - u ∧ (en = 0 ∨ d < lf)
set_option maxHeartbeats 4000000 in
set_option maxRecDepth 100000 in
/-- window(): 64 less what is unread -/
theorem c_Box_window (l : Launch) (dC : Nat → ClassId) (dI : Nat → Nat → Nat) (h0 hr : Nat) (cB : ClassId) (f u nx : Int32) (M : Nat) (en lf : Int32) (rg : Nat → Int32) : Met l y_Box_window w_Box_window rm_0 (va_Pc [.ref h0] (wd dC dI [(h0, .inr (0, [.ref hr, .int f, .int u, .int nx, .long (lN M), .int en, .int lf])), (hr, .inl (cB, 64, .inl rg))] [(cB, .byte)])) (vp_Si (fun r => r = 64 - u)) 0 0 (fun _ => False) := by
  refine Met.ofW (cc := b_Box_window) (maxL := 1) (ret := (some .int)) (by decide) rfl ?_
  intro p e s m args below meth c s₁ B hml hv
  obtain ⟨rfl, hP, hK⟩ := hv
  have hx := B.exec
  have hb := B.bytes
  have hr_ := B.returns
  have hT : ∀ w ∈ tb, w.before _ s = true := fun w hw => atoms_spec (ws := w_Box_window) B.pre w (List.mem_cons_of_mem _ hw)
  have hown : s.vm.findClass R_Box = some m.cls := findClass_of_methodNamed B.named
  have hlocks := B.notSynchronized
  have hP : va_P (dC, dI) classes [(h0, .inr (0, [.ref hr, .int f, .int u, .int nx, .long (lN M), .int en, .int lf])), (hr, .inl (cB, 64, .inl rg))] s.heap := hP
  have hl := lv_entry ([.ref h0]) (n := 1) (Nat.le_of_ble_eq_true rfl)
  rw [lg_entry_eq]
  generalize (lg_sl ([.ref h0]) ++ List.replicate (1 - (lg_sl ([.ref h0])).length) Slot.unset).toArray = ls at hl ⊢
  have hl : lv_has ls 1 [(0, .ref h0)] := hl
  refine lv_bipush (v := 64) hx hb d_Box_window_0 (by decide) ?_
  refine lv_aload_n hx hb d_Box_window_2 rfl (lv_at hl 0 rfl) ?_
  refine va_get (D := (dC, dI)) (ci := 0) (v := .int u) (C := R_Box) (T := F_Box) (N := 7) hx hb hT in_Box hown hK hP 0 rfl rfl 2 (by decide) (hT _ tw_18) (fun _ h9 => h9) rfl d_Box_window_3 ?_
  refine lv_isub hx hb d_Box_window_6 ?_
  exact W.iret (v := 64 - u) hx hb hr_ (fun t ht hW => ⟨64 - u, rfl, rfl, ht⟩) (fun q hq => by cases hq) d_Box_window_7
set_option maxHeartbeats 4000000 in
set_option maxRecDepth 100000 in
/-- isNear(d) -/
theorem c_Box_isNear (l : Launch) (dC : Nat → ClassId) (dI : Nat → Nat → Nat) (h0 hr : Nat) (cB : ClassId) (f u nx : Int32) (M : Nat) (en lf : Int32) (rg : Nat → Int32) (d : Int32) : Met l y_Box_isNear w_Box_isNear rm_1 (va_Pc [.ref h0, .int d] (wd dC dI [(h0, .inr (0, [.ref hr, .int f, .int u, .int nx, .long (lN M), .int en, .int lf])), (hr, .inl (cB, 64, .inl rg))] [(cB, .byte)])) (vp_Si (fun r => (r = 1 ∧ bx_near u en lf d) ∨ (r = 0 ∧ ¬ bx_near u en lf d))) 0 0 (fun _ => False) := by
  refine Met.ofW (cc := b_Box_isNear) (maxL := 2) (ret := (some .boolean)) (by decide) rfl ?_
  intro p e s m args below meth c s₁ B hml hv
  obtain ⟨rfl, hP, hK⟩ := hv
  have hx := B.exec
  have hb := B.bytes
  have hr_ := B.returns
  have hT : ∀ w ∈ tb, w.before _ s = true := fun w hw => atoms_spec (ws := w_Box_isNear) B.pre w (List.mem_cons_of_mem _ hw)
  have hown : s.vm.findClass R_Box = some m.cls := findClass_of_methodNamed B.named
  have hlocks := B.notSynchronized
  have hP : va_P (dC, dI) classes [(h0, .inr (0, [.ref hr, .int f, .int u, .int nx, .long (lN M), .int en, .int lf])), (hr, .inl (cB, 64, .inl rg))] s.heap := hP
  have hl := lv_entry ([.ref h0, .int d]) (n := 2) (Nat.le_of_ble_eq_true rfl)
  rw [lg_entry_eq]
  generalize (lg_sl ([.ref h0, .int d]) ++ List.replicate (2 - (lg_sl ([.ref h0, .int d])).length) Slot.unset).toArray = ls at hl ⊢
  have hl : lv_has ls 2 [(0, .ref h0), (1, .int d)] := hl
  refine lv_iload_n hx hb d_Box_isNear_0 rfl (lv_at hl 1 rfl) ?_
  refine lv_if_lt (tgt := 31) hx hb d_Box_isNear_1 rfl (fun h1 => ?_) (fun h1 => ?_)
  · refine lv_iconst (v := 0) hx hb d_Box_isNear_31 (by decide) ?_
    exact W.zret (v := 0) hx hb hr_ rfl (fun t ht hW => ⟨0, rfl, Or.inr ⟨rfl, fun hn => hn.1 h1⟩, ht⟩) (fun q hq => by cases hq) d_Box_isNear_32
  · refine lv_iload_n hx hb d_Box_isNear_4 rfl (lv_at hl 1 rfl) ?_
    refine lv_aload_n hx hb d_Box_isNear_5 rfl (lv_at hl 0 rfl) ?_
    refine vp_callSi (W.runV (As := []) (rest := [.int d]) ⟨hx, hb, hml, hown, hT⟩ (c_Box_window l dC dI h0 hr cB f u nx M en lf rg) (cwV 0 hT (tb_wsV tw_47 tw_49 ts_0 tw_1 tw_50) rfl rfl rfl (by decide +kernel) ⟨Nat.le_of_ble_eq_true rfl, Nat.le_of_ble_eq_true rfl⟩) ⟨wd_blind, va_recv hK hP (q0 := 0) rfl rfl, wd_at hK hP⟩ rfl rfl hl.1 rfl (lv_room (Nat.le_of_ble_eq_true rfl)) d_Box_isNear_6 ⟨Nat.le_of_ble_eq_true rfl, Nat.le_of_ble_eq_true rfl⟩) (fun r hr9 => ?_)
    subst hr9
    refine lv_icmp_ge (tgt := 31) hx hb d_Box_isNear_9 rfl (fun h2 => ?_) (fun h2 => ?_)
    · refine lv_iconst (v := 0) hx hb d_Box_isNear_31 (by decide) ?_
      exact W.zret (v := 0) hx hb hr_ rfl (fun t ht hW => ⟨0, rfl, Or.inr ⟨rfl, fun hn => absurd h2 (Int32.not_le.mpr hn.2.1)⟩, ht⟩) (fun q hq => by cases hq) d_Box_isNear_32
    · refine lv_aload_n hx hb d_Box_isNear_12 rfl (lv_at hl 0 rfl) ?_
      refine va_get (D := (dC, dI)) (ci := 0) (v := .int en) (C := R_Box) (T := F_Box) (N := 7) hx hb hT in_Box hown hK hP 0 rfl rfl 5 (by decide) (hT _ tw_21) (fun _ h9 => h9) rfl d_Box_isNear_13 ?_
      refine lv_if_eq (tgt := 27) hx hb d_Box_isNear_16 rfl (fun h3 => ?_) (fun h3 => ?_)
      · refine lv_iconst (v := 1) hx hb d_Box_isNear_27 (by decide) ?_
        refine lv_goto (tgt := 32) hx hb d_Box_isNear_28 rfl ?_
        exact W.zret (v := 1) hx hb hr_ rfl (fun t ht hW => ⟨1, rfl, Or.inl ⟨rfl, h1, Int32.not_le.mp h2, Or.inl h3⟩, ht⟩) (fun q hq => by cases hq) d_Box_isNear_32
      · refine lv_iload_n hx hb d_Box_isNear_19 rfl (lv_at hl 1 rfl) ?_
        refine lv_aload_n hx hb d_Box_isNear_20 rfl (lv_at hl 0 rfl) ?_
        refine va_get (D := (dC, dI)) (ci := 0) (v := .int lf) (C := R_Box) (T := F_Box) (N := 7) hx hb hT in_Box hown hK hP 0 rfl rfl 6 (by decide) (hT _ tw_22) (fun _ h9 => h9) rfl d_Box_isNear_21 ?_
        refine lv_icmp_ge (tgt := 31) hx hb d_Box_isNear_24 rfl (fun h4 => ?_) (fun h4 => ?_)
        · refine lv_iconst (v := 0) hx hb d_Box_isNear_31 (by decide) ?_
          exact W.zret (v := 0) hx hb hr_ rfl (fun t ht hW => ⟨0, rfl, Or.inr ⟨rfl, fun hn => by rcases hn.2.2 with e | e; exact absurd e h3; exact absurd h4 (Int32.not_le.mpr e)⟩, ht⟩) (fun q hq => by cases hq) d_Box_isNear_32
        · refine lv_iconst (v := 1) hx hb d_Box_isNear_27 (by decide) ?_
          refine lv_goto (tgt := 32) hx hb d_Box_isNear_28 rfl ?_
          exact W.zret (v := 1) hx hb hr_ rfl (fun t ht hW => ⟨1, rfl, Or.inl ⟨rfl, h1, Int32.not_le.mp h2, Or.inr (Int32.not_le.mp h4)⟩, ht⟩) (fun q hq => by cases hq) d_Box_isNear_32
set_option maxHeartbeats 4000000 in
set_option maxRecDepth 100000 in
/-- Box_counted(): how many bits -/
theorem c_Box_counted (l : Launch) (dC : Nat → ClassId) (dI : Nat → Nat → Nat) (h0 hr : Nat) (cB : ClassId) (f u nx : Int32) (M : Nat) (en lf : Int32) (rg : Nat → Int32) (hM : M < 2 ^ 64) : Met l y_Box_counted w_Box_counted rm_0 (va_Pc [.ref h0] (wd dC dI [(h0, .inr (0, [.ref hr, .int f, .int u, .int nx, .long (lN M), .int en, .int lf])), (hr, .inl (cB, 64, .inl rg))] [(cB, .byte)])) (vp_Si (fun r => r = nI (cn (Nat.testBit (M)) 64))) 0 0 (fun _ => False) := by
  refine Met.ofW (cc := b_Box_counted) (maxL := 4) (ret := (some .int)) (by decide) rfl ?_
  intro p e s m args below meth c s₁ B hml hv
  obtain ⟨rfl, hP, hK⟩ := hv
  have hx := B.exec
  have hb := B.bytes
  have hr_ := B.returns
  have hT : ∀ w ∈ tb, w.before _ s = true := fun w hw => atoms_spec (ws := w_Box_counted) B.pre w (List.mem_cons_of_mem _ hw)
  have hown : s.vm.findClass R_Box = some m.cls := findClass_of_methodNamed B.named
  have hlocks := B.notSynchronized
  have hP : va_P (dC, dI) classes [(h0, .inr (0, [.ref hr, .int f, .int u, .int nx, .long (lN M), .int en, .int lf])), (hr, .inl (cB, 64, .inl rg))] s.heap := hP
  have hl := lv_entry ([.ref h0]) (n := 4) (Nat.le_of_ble_eq_true rfl)
  rw [lg_entry_eq]
  generalize (lg_sl ([.ref h0]) ++ List.replicate (4 - (lg_sl ([.ref h0])).length) Slot.unset).toArray = ls at hl ⊢
  have hl : lv_has ls 4 [(0, .ref h0)] := hl
  have loop : ∀ v : Nat, v < 2 ^ 64 → ∀ (k : Nat) (ls : Array Slot), k + cn v.testBit 64 = cn (Nat.testBit (M)) 64 → lv_has ls 4 [(2, .long (lN v)), (1, .int (nI k)), (0, .ref h0)] → W p l e (headSpec w_Box_counted rm_0).room s m ([.ref h0] : List Value).toArray below meth c s.heap [] 0 0 (MQ below (vp_Si (fun r => r = nI (cn (Nat.testBit (M)) 64))) ([.ref h0] : List Value).toArray s 0 0 (fun _ => False)) (F0 m 7 ls []) := by
    intro v
    induction v using Nat.strongRecOn with
    | ind v ih =>
      intro hv k ls hk hl
      refine lv_lload_n hx hb d_Box_counted_7 rfl (lv_at hl 0 rfl) ?_
      refine lv_lconst (v := 0) hx hb d_Box_counted_8 (by decide) ?_
      refine W.lcmp hx hb d_Box_counted_9 ?_
      refine lv_if_eq (tgt := 25) hx hb d_Box_counted_10 rfl (fun h1 => ?_) (fun h1 => ?_)
      · have hv0 := (mb_zero hv).mp h1
        subst hv0
        rw [cn_zero, Nat.add_zero] at hk
        refine lv_iload_n hx hb d_Box_counted_25 rfl (lv_at hl 1 rfl) ?_
        exact W.iret (v := nI k) hx hb hr_ (fun t ht hW => ⟨nI k, rfl, by rw [hk], ht⟩) (fun q hq => by cases hq) d_Box_counted_26
      · have hv0 : v ≠ 0 := fun h => h1 ((mb_zero hv).mpr h)
        refine lv_iinc (v := nI (k + 1)) hx hb d_Box_counted_13 hl (k := 1) rfl (by rw [← nI_1]; rfl) (by decide) rfl (fun ls hl => ?_)
        have hl : lv_has ls 4 [(1, .int (nI (k + 1))), (2, .long (lN v)), (0, .ref h0)] := hl
        refine lv_lload_n hx hb d_Box_counted_16 rfl (lv_at hl 1 rfl) ?_
        refine lv_lload_n hx hb d_Box_counted_17 rfl (lv_at hl 1 rfl) ?_
        refine lv_lconst (v := 1) hx hb d_Box_counted_18 (by decide) ?_
        refine lv_lsub hx hb d_Box_counted_19 ?_
        refine lv_land hx hb d_Box_counted_20 ?_
        refine lv_topl (fun y9 e9 => ?_)
        obtain rfl : y9 = (lN (v &&& (v - 1)) : Int64) := by rw [e9]; rw [lb_eq hv0 hv]
        refine lv_lstore_n hx hb d_Box_counted_21 rfl hl (by decide) rfl (fun ls hl => ?_)
        have hl : lv_has ls 4 [(2, .long (lN (v &&& (v - 1)))), (1, .int (nI (k + 1))), (0, .ref h0)] := hl
        refine lv_goto (tgt := 7) hx hb d_Box_counted_22 rfl ?_
        exact ih _ (lb_dec hv0) (lb_lt hv) (k + 1) ls (by have := lb_cn hv0 hv; omega) (lv_sub hl [0, 1, 2] rfl)
  refine lv_iconst (v := 0) hx hb d_Box_counted_0 (by decide) ?_
  refine lv_istore_n hx hb d_Box_counted_1 rfl hl (by decide) rfl (fun ls hl => ?_)
  have hl : lv_has ls 4 [(1, .int 0), (0, .ref h0)] := hl
  refine lv_aload_n hx hb d_Box_counted_2 rfl (lv_at hl 1 rfl) ?_
  refine va_get (D := (dC, dI)) (ci := 0) (v := .long (lN M)) (C := R_Box) (T := F_Box) (N := 7) hx hb hT in_Box hown hK hP 0 rfl rfl 4 (by decide) (hT _ tw_20) (fun _ h9 => h9) rfl d_Box_counted_3 ?_
  refine lv_lstore_n hx hb d_Box_counted_6 rfl hl (by decide) rfl (fun ls hl => ?_)
  have hl : lv_has ls 4 [(2, .long (lN M)), (1, .int 0), (0, .ref h0)] := hl
  exact loop (M) hM 0 ls (by omega) (lv_sub hl [0, 1, 2] rfl)
set_option maxHeartbeats 4000000 in
set_option maxRecDepth 100000 in
/-- begins() -/
theorem c_Box_begins (l : Launch) (dC : Nat → ClassId) (dI : Nat → Nat → Nat) (h0 hr : Nat) (cB : ClassId) (f u nx : Int32) (M : Nat) (en lf : Int32) (rg : Nat → Int32) (hM : M < 2 ^ 64) : Met l y_Box_begins w_Box_begins rm_0 (va_Pc [.ref h0] (wd dC dI [(h0, .inr (0, [.ref hr, .int f, .int u, .int nx, .long (lN M), .int en, .int lf])), (hr, .inl (cB, 64, .inl rg))] [(cB, .byte)])) (vp_Sl (fun r => r = lN (bg M))) 0 0 (fun _ => False) := by
  refine Met.ofW (cc := b_Box_begins) (maxL := 1) (ret := (some .long)) (by decide) rfl ?_
  intro p e s m args below meth c s₁ B hml hv
  obtain ⟨rfl, hP, hK⟩ := hv
  have hx := B.exec
  have hb := B.bytes
  have hr_ := B.returns
  have hT : ∀ w ∈ tb, w.before _ s = true := fun w hw => atoms_spec (ws := w_Box_begins) B.pre w (List.mem_cons_of_mem _ hw)
  have hown : s.vm.findClass R_Box = some m.cls := findClass_of_methodNamed B.named
  have hlocks := B.notSynchronized
  have hP : va_P (dC, dI) classes [(h0, .inr (0, [.ref hr, .int f, .int u, .int nx, .long (lN M), .int en, .int lf])), (hr, .inl (cB, 64, .inl rg))] s.heap := hP
  have hl := lv_entry ([.ref h0]) (n := 1) (Nat.le_of_ble_eq_true rfl)
  rw [lg_entry_eq]
  generalize (lg_sl ([.ref h0]) ++ List.replicate (1 - (lg_sl ([.ref h0])).length) Slot.unset).toArray = ls at hl ⊢
  have hl : lv_has ls 1 [(0, .ref h0)] := hl
  refine lv_aload_n hx hb d_Box_begins_0 rfl (lv_at hl 0 rfl) ?_
  refine va_get (D := (dC, dI)) (ci := 0) (v := .long (lN M)) (C := R_Box) (T := F_Box) (N := 7) hx hb hT in_Box hown hK hP 0 rfl rfl 4 (by decide) (hT _ tw_20) (fun _ h9 => h9) rfl d_Box_begins_1 ?_
  refine lv_aload_n hx hb d_Box_begins_4 rfl (lv_at hl 0 rfl) ?_
  refine va_get (D := (dC, dI)) (ci := 0) (v := .long (lN M)) (C := R_Box) (T := F_Box) (N := 7) hx hb hT in_Box hown hK hP 0 rfl rfl 4 (by decide) (hT _ tw_20) (fun _ h9 => h9) rfl d_Box_begins_5 ?_
  refine lv_iconst (v := 1) hx hb d_Box_begins_8 (by decide) ?_
  refine lv_lshl hx hb d_Box_begins_9 rfl ?_
  refine lv_ldc2 hx hb hown (hT _ tw_152) d_Box_begins_10 ?_
  refine lv_lxor hx hb d_Box_begins_13 ?_
  refine lv_land hx hb d_Box_begins_14 ?_
  exact W.lret (v := (lN M) &&& (((lN M) <<< ((1 : Int32).toInt64 &&& 63)) ^^^ (-1))) hx hb hr_ (fun t ht hW => ⟨(lN M) &&& (((lN M) <<< ((1 : Int32).toInt64 &&& 63)) ^^^ (-1)), rfl, bg_eq hM, ht⟩) (fun q hq => by cases hq) d_Box_begins_15
set_option maxHeartbeats 4000000 in
set_option maxRecDepth 100000 in
/-- Box_blocks(): how many bits -/
theorem c_Box_blocks (l : Launch) (dC : Nat → ClassId) (dI : Nat → Nat → Nat) (h0 hr : Nat) (cB : ClassId) (f u nx : Int32) (M : Nat) (en lf : Int32) (rg : Nat → Int32) (hM : M < 2 ^ 64) : Met l y_Box_blocks w_Box_blocks rm_1 (va_Pc [.ref h0] (wd dC dI [(h0, .inr (0, [.ref hr, .int f, .int u, .int nx, .long (lN M), .int en, .int lf])), (hr, .inl (cB, 64, .inl rg))] [(cB, .byte)])) (vp_Si (fun r => r = nI (cn (Nat.testBit (bg M)) 64))) 0 0 (fun _ => False) := by
  refine Met.ofW (cc := b_Box_blocks) (maxL := 4) (ret := (some .int)) (by decide) rfl ?_
  intro p e s m args below meth c s₁ B hml hv
  obtain ⟨rfl, hP, hK⟩ := hv
  have hx := B.exec
  have hb := B.bytes
  have hr_ := B.returns
  have hT : ∀ w ∈ tb, w.before _ s = true := fun w hw => atoms_spec (ws := w_Box_blocks) B.pre w (List.mem_cons_of_mem _ hw)
  have hown : s.vm.findClass R_Box = some m.cls := findClass_of_methodNamed B.named
  have hlocks := B.notSynchronized
  have hP : va_P (dC, dI) classes [(h0, .inr (0, [.ref hr, .int f, .int u, .int nx, .long (lN M), .int en, .int lf])), (hr, .inl (cB, 64, .inl rg))] s.heap := hP
  have hl := lv_entry ([.ref h0]) (n := 4) (Nat.le_of_ble_eq_true rfl)
  rw [lg_entry_eq]
  generalize (lg_sl ([.ref h0]) ++ List.replicate (4 - (lg_sl ([.ref h0])).length) Slot.unset).toArray = ls at hl ⊢
  have hl : lv_has ls 4 [(0, .ref h0)] := hl
  have loop : ∀ v : Nat, v < 2 ^ 64 → ∀ (k : Nat) (ls : Array Slot), k + cn v.testBit 64 = cn (Nat.testBit (bg M)) 64 → lv_has ls 4 [(2, .long (lN v)), (1, .int (nI k)), (0, .ref h0)] → W p l e (headSpec w_Box_blocks rm_1).room s m ([.ref h0] : List Value).toArray below meth c s.heap [] 0 0 (MQ below (vp_Si (fun r => r = nI (cn (Nat.testBit (bg M)) 64))) ([.ref h0] : List Value).toArray s 0 0 (fun _ => False)) (F0 m 7 ls []) := by
    intro v
    induction v using Nat.strongRecOn with
    | ind v ih =>
      intro hv k ls hk hl
      refine lv_lload_n hx hb d_Box_blocks_7 rfl (lv_at hl 0 rfl) ?_
      refine lv_lconst (v := 0) hx hb d_Box_blocks_8 (by decide) ?_
      refine W.lcmp hx hb d_Box_blocks_9 ?_
      refine lv_if_eq (tgt := 25) hx hb d_Box_blocks_10 rfl (fun h1 => ?_) (fun h1 => ?_)
      · have hv0 := (mb_zero hv).mp h1
        subst hv0
        rw [cn_zero, Nat.add_zero] at hk
        refine lv_iload_n hx hb d_Box_blocks_25 rfl (lv_at hl 1 rfl) ?_
        exact W.iret (v := nI k) hx hb hr_ (fun t ht hW => ⟨nI k, rfl, by rw [hk], ht⟩) (fun q hq => by cases hq) d_Box_blocks_26
      · have hv0 : v ≠ 0 := fun h => h1 ((mb_zero hv).mpr h)
        refine lv_iinc (v := nI (k + 1)) hx hb d_Box_blocks_13 hl (k := 1) rfl (by rw [← nI_1]; rfl) (by decide) rfl (fun ls hl => ?_)
        have hl : lv_has ls 4 [(1, .int (nI (k + 1))), (2, .long (lN v)), (0, .ref h0)] := hl
        refine lv_lload_n hx hb d_Box_blocks_16 rfl (lv_at hl 1 rfl) ?_
        refine lv_lload_n hx hb d_Box_blocks_17 rfl (lv_at hl 1 rfl) ?_
        refine lv_lconst (v := 1) hx hb d_Box_blocks_18 (by decide) ?_
        refine lv_lsub hx hb d_Box_blocks_19 ?_
        refine lv_land hx hb d_Box_blocks_20 ?_
        refine lv_topl (fun y9 e9 => ?_)
        obtain rfl : y9 = (lN (v &&& (v - 1)) : Int64) := by rw [e9]; rw [lb_eq hv0 hv]
        refine lv_lstore_n hx hb d_Box_blocks_21 rfl hl (by decide) rfl (fun ls hl => ?_)
        have hl : lv_has ls 4 [(2, .long (lN (v &&& (v - 1)))), (1, .int (nI (k + 1))), (0, .ref h0)] := hl
        refine lv_goto (tgt := 7) hx hb d_Box_blocks_22 rfl ?_
        exact ih _ (lb_dec hv0) (lb_lt hv) (k + 1) ls (by have := lb_cn hv0 hv; omega) (lv_sub hl [0, 1, 2] rfl)
  refine lv_iconst (v := 0) hx hb d_Box_blocks_0 (by decide) ?_
  refine lv_istore_n hx hb d_Box_blocks_1 rfl hl (by decide) rfl (fun ls hl => ?_)
  have hl : lv_has ls 4 [(1, .int 0), (0, .ref h0)] := hl
  refine lv_aload_n hx hb d_Box_blocks_2 rfl (lv_at hl 1 rfl) ?_
  refine vp_callSl (W.runV (As := []) (rest := []) ⟨hx, hb, hml, hown, hT⟩ (c_Box_begins l dC dI h0 hr cB f u nx M en lf rg hM) (cwV 0 hT (tb_wsV tw_148 tw_150 ts_5 tw_1 tw_151) rfl rfl rfl (by decide +kernel) ⟨Nat.le_of_ble_eq_true rfl, Nat.le_of_ble_eq_true rfl⟩) ⟨wd_blind, va_recv hK hP (q0 := 0) rfl rfl, wd_at hK hP⟩ rfl rfl hl.1 rfl (lv_room (Nat.le_of_ble_eq_true rfl)) d_Box_blocks_3 ⟨Nat.le_of_ble_eq_true rfl, Nat.le_of_ble_eq_true rfl⟩) (fun r hr9 => ?_)
  subst hr9
  refine lv_lstore_n hx hb d_Box_blocks_6 rfl hl (by decide) rfl (fun ls hl => ?_)
  have hl : lv_has ls 4 [(2, .long (lN (bg M))), (1, .int 0), (0, .ref h0)] := hl
  exact loop (bg M) (bg_lt hM) 0 ls (by omega) (lv_sub hl [0, 1, 2] rfl)
set_option maxHeartbeats 4000000 in
set_option maxRecDepth 100000 in
/-- held(n) -/
theorem c_Box_held (l : Launch) (dC : Nat → ClassId) (dI : Nat → Nat → Nat) (h0 hr : Nat) (cB : ClassId) (f u nx : Int32) (M : Nat) (en lf : Int32) (rg : Nat → Int32) (n : Int32) (hM : M < 2 ^ 64) : Met l y_Box_held w_Box_held rm_0 (va_Pc [.ref h0, .int n] (wd dC dI [(h0, .inr (0, [.ref hr, .int f, .int u, .int nx, .long (lN M), .int en, .int lf])), (hr, .inl (cB, 64, .inl rg))] [(cB, .byte)])) (vp_Si (fun r => (r = 1 ∧ ∃ d, d < 64 ∧ n - nx = nI d ∧ M.testBit d = true) ∨ (r = 0 ∧ ¬ ∃ d, d < 64 ∧ n - nx = nI d ∧ M.testBit d = true))) 0 0 (fun _ => False) := by
  refine Met.ofW (cc := b_Box_held) (maxL := 3) (ret := (some .boolean)) (by decide) rfl ?_
  intro p e s m args below meth c s₁ B hml hv
  obtain ⟨rfl, hP, hK⟩ := hv
  have hx := B.exec
  have hb := B.bytes
  have hr_ := B.returns
  have hT : ∀ w ∈ tb, w.before _ s = true := fun w hw => atoms_spec (ws := w_Box_held) B.pre w (List.mem_cons_of_mem _ hw)
  have hown : s.vm.findClass R_Box = some m.cls := findClass_of_methodNamed B.named
  have hlocks := B.notSynchronized
  have hP : va_P (dC, dI) classes [(h0, .inr (0, [.ref hr, .int f, .int u, .int nx, .long (lN M), .int en, .int lf])), (hr, .inl (cB, 64, .inl rg))] s.heap := hP
  have hl := lv_entry ([.ref h0, .int n]) (n := 3) (Nat.le_of_ble_eq_true rfl)
  rw [lg_entry_eq]
  generalize (lg_sl ([.ref h0, .int n]) ++ List.replicate (3 - (lg_sl ([.ref h0, .int n])).length) Slot.unset).toArray = ls at hl ⊢
  have hl : lv_has ls 3 [(0, .ref h0), (1, .int n)] := hl
  refine lv_iload_n hx hb d_Box_held_0 rfl (lv_at hl 1 rfl) ?_
  refine lv_aload_n hx hb d_Box_held_1 rfl (lv_at hl 0 rfl) ?_
  refine va_get (D := (dC, dI)) (ci := 0) (v := .int nx) (C := R_Box) (T := F_Box) (N := 7) hx hb hT in_Box hown hK hP 0 rfl rfl 3 (by decide) (hT _ tw_19) (fun _ h9 => h9) rfl d_Box_held_2 ?_
  refine lv_isub hx hb d_Box_held_5 ?_
  refine lv_topi (fun d0 e_d0 => ?_)
  refine lv_istore_n hx hb d_Box_held_6 rfl hl (by decide) rfl (fun ls hl => ?_)
  have hl : lv_has ls 3 [(2, .int d0), (0, .ref h0), (1, .int n)] := hl
  refine lv_iload_n hx hb d_Box_held_7 rfl (lv_at hl 0 rfl) ?_
  refine lv_if_lt (tgt := 34) hx hb d_Box_held_8 rfl (fun h1 => ?_) (fun h1 => ?_)
  · refine lv_iconst (v := 0) hx hb d_Box_held_34 (by decide) ?_
    exact W.zret (v := 0) hx hb hr_ rfl (fun t ht hW => ⟨0, rfl, Or.inr ⟨rfl, fun ⟨d, hd, he, hb9⟩ => absurd h1 (by rw [e_d0, he]; exact nI_pos (by omega))⟩, ht⟩) (fun q hq => by cases hq) d_Box_held_35
  · refine lv_iload_n hx hb d_Box_held_11 rfl (lv_at hl 0 rfl) ?_
    refine lv_bipush (v := 64) hx hb d_Box_held_12 (by decide) ?_
    refine lv_icmp_ge (tgt := 34) hx hb d_Box_held_14 rfl (fun h2 => ?_) (fun h2 => ?_)
    · refine lv_iconst (v := 0) hx hb d_Box_held_34 (by decide) ?_
      exact W.zret (v := 0) hx hb hr_ rfl (fun t ht hW => ⟨0, rfl, Or.inr ⟨rfl, fun ⟨d, hd, he, hb9⟩ => absurd h2 (by rw [e_d0, he]; exact (show ¬ nI 64 ≤ nI d from Int32.not_le.mpr (nI_lt hd (by decide))))⟩, ht⟩) (fun q hq => by cases hq) d_Box_held_35
    · obtain ⟨d, hd31, rfl⟩ := nI_of h1
      have hd : d < 64 := by rcases Nat.lt_or_ge d 64 with h | h; exact h; exact absurd (nI_le h hd31) h2
      refine lv_aload_n hx hb d_Box_held_17 rfl (lv_at hl 1 rfl) ?_
      refine va_get (D := (dC, dI)) (ci := 0) (v := .long (lN M)) (C := R_Box) (T := F_Box) (N := 7) hx hb hT in_Box hown hK hP 0 rfl rfl 4 (by decide) (hT _ tw_20) (fun _ h9 => h9) rfl d_Box_held_18 ?_
      refine lv_iload_n hx hb d_Box_held_21 rfl (lv_at hl 0 rfl) ?_
      refine lv_lushr hx hb d_Box_held_22 rfl ?_
      refine lv_lconst (v := 1) hx hb d_Box_held_23 (by decide) ?_
      refine lv_land hx hb d_Box_held_24 ?_
      refine lv_lconst (v := 1) hx hb d_Box_held_25 (by decide) ?_
      refine W.lcmp hx hb d_Box_held_26 ?_
      refine lv_if_ne (tgt := 34) hx hb d_Box_held_27 rfl (fun h3 => ?_) (fun h3 => ?_)
      · refine lv_iconst (v := 0) hx hb d_Box_held_34 (by decide) ?_
        exact W.zret (v := 0) hx hb hr_ rfl (fun t ht hW => ⟨0, rfl, Or.inr ⟨rfl, fun ⟨d9, hd9, he, hb9⟩ => h3 ((mb_bit hM hd).mpr (by rw [(nI_eq (by omega) (by omega)).mp (e_d0.trans he)]; exact hb9))⟩, ht⟩) (fun q hq => by cases hq) d_Box_held_35
      · refine lv_iconst (v := 1) hx hb d_Box_held_30 (by decide) ?_
        refine lv_goto (tgt := 35) hx hb d_Box_held_31 rfl ?_
        exact W.zret (v := 1) hx hb hr_ rfl (fun t ht hW => ⟨1, rfl, Or.inl ⟨rfl, d, hd, e_d0.symm, (mb_bit hM hd).mp h3⟩, ht⟩) (fun q hq => by cases hq) d_Box_held_35
end
section
/-! the i-th bit of a set -/
theorem cn_sel {p : Nat → Bool} {j : Nat} : ∀ {n : Nat}, j < cn p n → ∃ i, i < n ∧ p i = true ∧ cn p i = j
  | 0, h => absurd h (Nat.not_lt_zero _)
  | n + 1, h => by
    simp only [cn] at h
    rcases Nat.lt_or_ge j (cn p n) with h1 | h1
    · obtain ⟨i, h2, h3, h4⟩ := cn_sel h1
      exact ⟨i, by omega, h3, h4⟩
    · by_cases hp : p n = true
      · rw [if_pos hp] at h
        exact ⟨n, Nat.lt_succ_self _, hp, by omega⟩
      · rw [if_neg hp] at h; omega
/-- v: the bits of b that have at least j bits of b below them -/
def bk_I (b j v : Nat) : Prop := v < 2 ^ 64 ∧ ∀ i, v.testBit i = (b.testBit i && decide (j ≤ cn b.testBit i))
theorem bk_0 {b : Nat} (h : b < 2 ^ 64) : bk_I b 0 b := ⟨h, fun i => by simp⟩
theorem bk_ne {b j v : Nat} (h : bk_I b j v) (hj : j < cn b.testBit 64) : v ≠ 0 := by
  obtain ⟨i, -, h2, h3⟩ := cn_sel hj
  intro h0
  have := h.2 i
  rw [h0, Nat.zero_testBit, h2, h3] at this
  simp at this
theorem bk_low {b j v c : Nat} (h : bk_I b j v) (hc : v.testBit c = true) (hl : ∀ i, i < c → v.testBit i = false) : b.testBit c = true ∧ cn b.testBit c = j ∧ c < 64 := by
  have h1 := h.2 c
  rw [hc] at h1
  have h2 : b.testBit c = true ∧ j ≤ cn b.testBit c := by
    have := h1.symm
    simpa using this
  refine ⟨h2.1, ?_, ?_⟩
  · rcases Nat.lt_or_ge j (cn b.testBit c) with h3 | h3
    · obtain ⟨i, a1, a2, a3⟩ := cn_sel h3
      have := h.2 i
      rw [hl i a1, a2, a3] at this
      simp at this
    · omega
  · rcases Nat.lt_or_ge c 64 with h3 | h3
    · exact h3
    · rw [mb_big h.1 h3] at hc; cases hc
theorem bk_s {b j v : Nat} (h : bk_I b j v) (hj : j < cn b.testBit 64) : bk_I b (j + 1) (v &&& (v - 1)) := by
  obtain ⟨c, h1, h2, h3⟩ := lb_spec v (bk_ne h hj)
  obtain ⟨g1, g2, g3⟩ := bk_low h h1 h2
  refine ⟨lb_lt h.1, fun i => ?_⟩
  rw [h3 i, h.2 i]
  by_cases hp : b.testBit i = true
  · rw [hp]
    by_cases e : i = c
    · subst e
      simp [g2]
    · have hne : cn b.testBit i ≠ j := fun q => e (cn_uniq hp g1 (q.trans g2.symm))
      simp only [e, decide_false, Bool.not_false, Bool.and_true, Bool.true_and]
      rw [decide_eq_decide]; omega
  · have hp' : b.testBit i = false := by simpa using hp
    rw [hp']; simp
theorem bk_first {b j v : Nat} (h : bk_I b j v) (hj : j < cn b.testBit 64) : ∃ c, c < 64 ∧ v.testBit c = true ∧ (∀ i, i < c → v.testBit i = false) ∧ b.testBit c = true ∧ cn b.testBit c = j := by
  obtain ⟨c, h1, h2, -⟩ := lb_spec v (bk_ne h hj)
  obtain ⟨g1, g2, g3⟩ := bk_low h h1 h2
  exact ⟨c, g3, h1, h2, g1, g2⟩
/-- n places from d on are held, and no more -/
def bk_run (M d n : Nat) : Prop := d + n ≤ 64 ∧ (∀ i, i < n → M.testBit (d + i) = true) ∧ (d + n < 64 → M.testBit (d + n) = false)
theorem bk_run_uniq {M d a b : Nat} (ha : bk_run M d a) (hb : bk_run M d b) : a = b := by
  rcases Nat.lt_trichotomy a b with h | h | h
  · have h1 := hb.2.1 a h
    rw [ha.2.2 (by have := hb.1; omega)] at h1; cases h1
  · exact h
  · have h1 := ha.2.1 b h
    rw [hb.2.2 (by have := ha.1; omega)] at h1; cases h1
/-- what told(k) answers -/
def bx_told (u nx : Int32) (M : Nat) (en : Int32) : Nat → Int32
  | 0 => nx
  | 1 => 64 - u
  | 2 => u
  | 3 => nI (cn M.testBit 64)
  | 4 => nI (cn (bg M).testBit 64)
  | _ => if en = 0 then 0 else 1
/-- a contract's start that may throw -/
def wt (dC : Nat → ClassId) (dI : Nat → Nat → Nat) (X : String) (ws : va_W) (tys : List (ClassId × FieldType)) (U : State) : Prop := th_ok X U ∧ wd dC dI ws tys U
theorem wt_blind {dC : Nat → ClassId} {dI : Nat → Nat → Nat} {X : String} {ws : va_W} {tys : List (ClassId × FieldType)} {av : List Value} : FrameBlind (va_Pc av (wt dC dI X ws tys)) := fun a U g mk q => ⟨q.1, th_calling q.2.1, q.2.2.1, va_K.moved (u := U) (U := U.calling g mk a) (Vm.Alike.refl U.vm) q.2.2.2⟩
theorem wt_at {dC : Nat → ClassId} {dI : Nat → Nat → Nat} {X : String} {ws : va_W} {tys : List (ClassId × FieldType)} {s : State} {H : Heap} {av : List Value} (ho : th_ok X s) (hh : ∀ q : Nat, q < s.heap.size → H[q]? = s.heap[q]?) (hK : va_K (dC, dI) classes tys s) (hP : va_P (dC, dI) classes ws H) : ∀ U : State, U.heap = H → s.WarmedH U.vm → va_Pc av (wt dC dI X ws tys) av.toArray U := fun U hU hW => ⟨rfl, th_move hW (by rw [hU]; exact hh) ho, by rw [hU]; exact hP, va_K.moved hW.alike hK⟩
end
section
/-! SegmentBox: told, block, and the three throws -/
set_option maxHeartbeats 4000000 in
set_option maxRecDepth 100000 in
/-- told(k), k in 0..5 -/
theorem c_Box_told (l : Launch) (dC : Nat → ClassId) (dI : Nat → Nat → Nat) (h0 hr : Nat) (cB : ClassId) (f u nx : Int32) (M : Nat) (en lf : Int32) (rg : Nat → Int32) (k : Nat) (hk : k < 6) (hM : M < 2 ^ 64) : Met l y_Box_told w_Box_told rm_2 (va_Pc [.ref h0, .int (nI k)] (wd dC dI [(h0, .inr (0, [.ref hr, .int f, .int u, .int nx, .long (lN M), .int en, .int lf])), (hr, .inl (cB, 64, .inl rg))] [(cB, .byte)])) (vp_Si (fun r => r = bx_told u nx M en k)) 0 0 (fun _ => False) := by
  refine Met.ofW (cc := b_Box_told) (maxL := 2) (ret := (some .int)) (by decide) rfl ?_
  intro p e s m args below meth c s₁ B hml hv
  obtain ⟨rfl, hP, hK⟩ := hv
  have hx := B.exec
  have hb := B.bytes
  have hr_ := B.returns
  have hT : ∀ w ∈ tb, w.before _ s = true := fun w hw => atoms_spec (ws := w_Box_told) B.pre w (List.mem_cons_of_mem _ hw)
  have hown : s.vm.findClass R_Box = some m.cls := findClass_of_methodNamed B.named
  have hlocks := B.notSynchronized
  have hP : va_P (dC, dI) classes [(h0, .inr (0, [.ref hr, .int f, .int u, .int nx, .long (lN M), .int en, .int lf])), (hr, .inl (cB, 64, .inl rg))] s.heap := hP
  have hl := lv_entry ([.ref h0, .int (nI k)]) (n := 2) (Nat.le_of_ble_eq_true rfl)
  rw [lg_entry_eq]
  generalize (lg_sl ([.ref h0, .int (nI k)]) ++ List.replicate (2 - (lg_sl ([.ref h0, .int (nI k)])).length) Slot.unset).toArray = ls at hl ⊢
  have hl : lv_has ls 2 [(0, .ref h0), (1, .int (nI k))] := hl
  refine lv_iload_n hx hb d_Box_told_0 rfl (lv_at hl 1 rfl) ?_
  have hk6 : k = 0 ∨ k = 1 ∨ k = 2 ∨ k = 3 ∨ k = 4 ∨ k = 5 := by omega
  rcases hk6 with rfl | rfl | rfl | rfl | rfl | rfl
  · refine lv_tableIn (off := 39) (tgt := 40) hx hb d_Box_told_1 (by decide) (by decide) (by decide) rfl ?_
    refine lv_aload_n hx hb d_Box_told_40 rfl (lv_at hl 0 rfl) ?_
    refine va_get (D := (dC, dI)) (ci := 0) (v := .int nx) (C := R_Box) (T := F_Box) (N := 7) hx hb hT in_Box hown hK hP 0 rfl rfl 3 (by decide) (hT _ tw_19) (fun _ h9 => h9) rfl d_Box_told_41 ?_
    exact W.iret (v := nx) hx hb hr_ (fun t ht hW => ⟨nx, rfl, rfl, ht⟩) (fun q hq => by cases hq) d_Box_told_44
  · refine lv_tableIn (off := 44) (tgt := 45) hx hb d_Box_told_1 (by decide) (by decide) (by decide) rfl ?_
    refine lv_aload_n hx hb d_Box_told_45 rfl (lv_at hl 0 rfl) ?_
    refine vp_callSi (W.runV (As := []) (rest := []) ⟨hx, hb, hml, hown, hT⟩ (c_Box_window l dC dI h0 hr cB f u nx M en lf rg) (cwV 0 hT (tb_wsV tw_47 tw_49 ts_0 tw_1 tw_50) rfl rfl rfl (by decide +kernel) ⟨Nat.le_of_ble_eq_true rfl, Nat.le_of_ble_eq_true rfl⟩) ⟨wd_blind, va_recv hK hP (q0 := 0) rfl rfl, wd_at hK hP⟩ rfl rfl hl.1 rfl (lv_room (Nat.le_of_ble_eq_true rfl)) d_Box_told_46 ⟨Nat.le_of_ble_eq_true rfl, Nat.le_of_ble_eq_true rfl⟩) (fun r hr9 => ?_)
    exact W.iret (v := r) hx hb hr_ (fun t ht hW => ⟨r, rfl, hr9, ht⟩) (fun q hq => by cases hq) d_Box_told_49
  · refine lv_tableIn (off := 49) (tgt := 50) hx hb d_Box_told_1 (by decide) (by decide) (by decide) rfl ?_
    refine lv_aload_n hx hb d_Box_told_50 rfl (lv_at hl 0 rfl) ?_
    refine va_get (D := (dC, dI)) (ci := 0) (v := .int u) (C := R_Box) (T := F_Box) (N := 7) hx hb hT in_Box hown hK hP 0 rfl rfl 2 (by decide) (hT _ tw_18) (fun _ h9 => h9) rfl d_Box_told_51 ?_
    exact W.iret (v := u) hx hb hr_ (fun t ht hW => ⟨u, rfl, rfl, ht⟩) (fun q hq => by cases hq) d_Box_told_54
  · refine lv_tableIn (off := 54) (tgt := 55) hx hb d_Box_told_1 (by decide) (by decide) (by decide) rfl ?_
    refine lv_aload_n hx hb d_Box_told_55 rfl (lv_at hl 0 rfl) ?_
    refine vp_callSi (W.runV (As := []) (rest := []) ⟨hx, hb, hml, hown, hT⟩ (c_Box_counted l dC dI h0 hr cB f u nx M en lf rg hM) (cwV 0 hT (tb_wsV tw_140 tw_142 ts_3 tw_1 tw_143) rfl rfl rfl (by decide +kernel) ⟨Nat.le_of_ble_eq_true rfl, Nat.le_of_ble_eq_true rfl⟩) ⟨wd_blind, va_recv hK hP (q0 := 0) rfl rfl, wd_at hK hP⟩ rfl rfl hl.1 rfl (lv_room (Nat.le_of_ble_eq_true rfl)) d_Box_told_56 ⟨Nat.le_of_ble_eq_true rfl, Nat.le_of_ble_eq_true rfl⟩) (fun r hr9 => ?_)
    exact W.iret (v := r) hx hb hr_ (fun t ht hW => ⟨r, rfl, hr9, ht⟩) (fun q hq => by cases hq) d_Box_told_59
  · refine lv_tableIn (off := 59) (tgt := 60) hx hb d_Box_told_1 (by decide) (by decide) (by decide) rfl ?_
    refine lv_aload_n hx hb d_Box_told_60 rfl (lv_at hl 0 rfl) ?_
    refine vp_callSi (W.runV (As := []) (rest := []) ⟨hx, hb, hml, hown, hT⟩ (c_Box_blocks l dC dI h0 hr cB f u nx M en lf rg hM) (cwV 0 hT (tb_wsV tw_144 tw_146 ts_4 tw_1 tw_147) rfl rfl rfl (by decide +kernel) ⟨Nat.le_of_ble_eq_true rfl, Nat.le_of_ble_eq_true rfl⟩) ⟨wd_blind, va_recv hK hP (q0 := 0) rfl rfl, wd_at hK hP⟩ rfl rfl hl.1 rfl (lv_room (Nat.le_of_ble_eq_true rfl)) d_Box_told_61 ⟨Nat.le_of_ble_eq_true rfl, Nat.le_of_ble_eq_true rfl⟩) (fun r hr9 => ?_)
    exact W.iret (v := r) hx hb hr_ (fun t ht hW => ⟨r, rfl, hr9, ht⟩) (fun q hq => by cases hq) d_Box_told_64
  · refine lv_tableIn (off := 64) (tgt := 65) hx hb d_Box_told_1 (by decide) (by decide) (by decide) rfl ?_
    refine lv_aload_n hx hb d_Box_told_65 rfl (lv_at hl 0 rfl) ?_
    refine va_get (D := (dC, dI)) (ci := 0) (v := .int en) (C := R_Box) (T := F_Box) (N := 7) hx hb hT in_Box hown hK hP 0 rfl rfl 5 (by decide) (hT _ tw_21) (fun _ h9 => h9) rfl d_Box_told_66 ?_
    refine lv_if_eq (tgt := 76) hx hb d_Box_told_69 rfl (fun h1 => ?_) (fun h1 => ?_)
    · refine lv_iconst (v := 0) hx hb d_Box_told_76 (by decide) ?_
      exact W.iret (v := 0) hx hb hr_ (fun t ht hW => ⟨0, rfl, by simp [bx_told, h1], ht⟩) (fun q hq => by cases hq) d_Box_told_77
    · refine lv_iconst (v := 1) hx hb d_Box_told_72 (by decide) ?_
      refine lv_goto (tgt := 77) hx hb d_Box_told_73 rfl ?_
      exact W.iret (v := 1) hx hb hr_ (fun t ht hW => ⟨1, rfl, by simp [bx_told, h1], ht⟩) (fun q hq => by cases hq) d_Box_told_77
set_option maxHeartbeats 4000000 in
set_option maxRecDepth 100000 in
/-- block(k, many), k a block -/
theorem c_Box_block (l : Launch) (dC : Nat → ClassId) (dI : Nat → Nat → Nat) (h0 hr : Nat) (cB : ClassId) (f u nx : Int32) (M : Nat) (en lf : Int32) (rg : Nat → Int32) (k : Nat) (mb : Int32) (hM : M < 2 ^ 64) (hk : k < cn (bg M).testBit 64) : Met l y_Box_block w_Box_block rm_2 (va_Pc [.ref h0, .int (nI k), .int mb] (wd dC dI [(h0, .inr (0, [.ref hr, .int f, .int u, .int nx, .long (lN M), .int en, .int lf])), (hr, .inl (cB, 64, .inl rg))] [(cB, .byte)])) (vp_Si (fun r => ∃ d, d < 64 ∧ (bg M).testBit d = true ∧ cn (bg M).testBit d = k ∧ ((mb = 0 ∧ r = nx + nI d) ∨ (¬ mb = 0 ∧ ∃ n, r = nI n ∧ bk_run M d n)))) 0 0 (fun _ => False) := by
  refine Met.ofW (cc := b_Box_block) (maxL := 7) (ret := (some .int)) (by decide) rfl ?_
  intro p e s m args below meth c s₁ B hml hv
  obtain ⟨rfl, hP, hK⟩ := hv
  have hx := B.exec
  have hb := B.bytes
  have hr_ := B.returns
  have hT : ∀ w ∈ tb, w.before _ s = true := fun w hw => atoms_spec (ws := w_Box_block) B.pre w (List.mem_cons_of_mem _ hw)
  have hown : s.vm.findClass R_Box = some m.cls := findClass_of_methodNamed B.named
  have hlocks := B.notSynchronized
  have hP : va_P (dC, dI) classes [(h0, .inr (0, [.ref hr, .int f, .int u, .int nx, .long (lN M), .int en, .int lf])), (hr, .inl (cB, 64, .inl rg))] s.heap := hP
  have hl := lv_entry ([.ref h0, .int (nI k), .int mb]) (n := 7) (Nat.le_of_ble_eq_true rfl)
  rw [lg_entry_eq]
  generalize (lg_sl ([.ref h0, .int (nI k), .int mb]) ++ List.replicate (7 - (lg_sl ([.ref h0, .int (nI k), .int mb])).length) Slot.unset).toArray = ls at hl ⊢
  have hl : lv_has ls 7 [(0, .ref h0), (1, .int (nI k)), (2, .int mb)] := hl
  have hk64 : k < 64 := Nat.lt_of_lt_of_le hk (cn_le _ _)
  have loopC : ∀ (c0 d : Nat), d < 64 → (bg M).testBit d = true → cn (bg M).testBit d = k → ¬ mb = 0 → ∀ (n : Nat) (ls : Array Slot), c0 + (d + n) = 64 → (∀ i, i < n → M.testBit (d + i) = true) → lv_has ls 7 [(6, .int (nI n)), (5, .int (nI d)), (0, .ref h0)] → W p l e (headSpec w_Box_block rm_2).room s m ([.ref h0, .int (nI k), .int mb] : List Value).toArray below meth c s.heap [] 0 0 (MQ below (vp_Si (fun r => ∃ d, d < 64 ∧ (bg M).testBit d = true ∧ cn (bg M).testBit d = k ∧ ((mb = 0 ∧ r = nx + nI d) ∨ (¬ mb = 0 ∧ ∃ n, r = nI n ∧ bk_run M d n)))) ([.ref h0, .int (nI k), .int mb] : List Value).toArray s 0 0 (fun _ => False)) (F0 m 81 ls []) := by
    intro c0 d hd64 hdb hdc hmb
    induction c0 with
    | zero =>
      intro n ls hs hall hl
      refine lv_iload hx hb d_Box_block_81 (lv_at hl 1 rfl) ?_
      refine lv_iload hx hb d_Box_block_83 (lv_at hl 0 rfl) ?_
      refine lv_iadd hx hb d_Box_block_85 ?_
      refine lv_topi (fun y9 e9 => ?_)
      obtain rfl : y9 = (nI (d + n) : Int32) := by rw [e9]; rw [nI_add]
      refine lv_bipush (v := 64) hx hb d_Box_block_86 (by decide) ?_
      refine lv_icmp_ge (tgt := 114) hx hb d_Box_block_88 rfl (fun h1 => ?_) (fun h1 => ?_)
      · refine lv_iload hx hb d_Box_block_114 (lv_at hl 0 rfl) ?_
        exact W.iret (v := nI n) hx hb hr_ (fun t ht hW => ⟨nI n, rfl, ⟨d, hd64, hdb, hdc, Or.inr ⟨hmb, n, rfl, by omega, hall, fun h => by omega⟩⟩, ht⟩) (fun q hq => by cases hq) d_Box_block_116
      · exact absurd (nI_le (a := 64) (b := d + n) (by omega) (by omega)) h1
    | succ c0 ih =>
      intro n ls hs hall hl
      refine lv_iload hx hb d_Box_block_81 (lv_at hl 1 rfl) ?_
      refine lv_iload hx hb d_Box_block_83 (lv_at hl 0 rfl) ?_
      refine lv_iadd hx hb d_Box_block_85 ?_
      refine lv_topi (fun y9 e9 => ?_)
      obtain rfl : y9 = (nI (d + n) : Int32) := by rw [e9]; rw [nI_add]
      refine lv_bipush (v := 64) hx hb d_Box_block_86 (by decide) ?_
      refine lv_icmp_ge (tgt := 114) hx hb d_Box_block_88 rfl (fun h1 => ?_) (fun h1 => ?_)
      · exact absurd h1 (Int32.not_le.mpr (nI_lt (a := d + n) (b := 64) (by omega) (by omega)))
      · refine lv_aload_n hx hb d_Box_block_91 rfl (lv_at hl 2 rfl) ?_
        refine va_get (D := (dC, dI)) (ci := 0) (v := .long (lN M)) (C := R_Box) (T := F_Box) (N := 7) hx hb hT in_Box hown hK hP 0 rfl rfl 4 (by decide) (hT _ tw_20) (fun _ h9 => h9) rfl d_Box_block_92 ?_
        refine lv_iload hx hb d_Box_block_95 (lv_at hl 1 rfl) ?_
        refine lv_iload hx hb d_Box_block_97 (lv_at hl 0 rfl) ?_
        refine lv_iadd hx hb d_Box_block_99 ?_
        refine lv_topi (fun y9 e9 => ?_)
        obtain rfl : y9 = (nI (d + n) : Int32) := by rw [e9]; rw [nI_add]
        refine lv_lushr hx hb d_Box_block_100 rfl ?_
        refine lv_lconst (v := 1) hx hb d_Box_block_101 (by decide) ?_
        refine lv_land hx hb d_Box_block_102 ?_
        refine lv_lconst (v := 1) hx hb d_Box_block_103 (by decide) ?_
        refine W.lcmp hx hb d_Box_block_104 ?_
        refine lv_if_ne (tgt := 114) hx hb d_Box_block_105 rfl (fun h2 => ?_) (fun h2 => ?_)
        · refine lv_iload hx hb d_Box_block_114 (lv_at hl 0 rfl) ?_
          exact W.iret (v := nI n) hx hb hr_ (fun t ht hW => ⟨nI n, rfl, ⟨d, hd64, hdb, hdc, Or.inr ⟨hmb, n, rfl, by omega, hall, fun h => by simpa using (fun q => h2 ((mb_bit hM (by omega)).mpr q))⟩⟩, ht⟩) (fun q hq => by cases hq) d_Box_block_116
        · refine lv_iinc (v := nI (n + 1)) hx hb d_Box_block_108 hl (k := 0) rfl (by rw [← nI_1]; rfl) (by decide) rfl (fun ls hl => ?_)
          have hl : lv_has ls 7 [(6, .int (nI (n + 1))), (5, .int (nI d)), (0, .ref h0)] := hl
          refine lv_goto (tgt := 81) hx hb d_Box_block_111 rfl ?_
          refine ih (n + 1) ls (by omega) ?_ (lv_sub hl [0, 1, 2] rfl)
          exact lt_s hall ((mb_bit hM (by omega)).mp h2)
  have loopB : ∀ (v d : Nat), v < 2 ^ 64 → d < 64 → v.testBit d = true → (∀ i, i < d → v.testBit i = false) → (bg M).testBit d = true → cn (bg M).testBit d = k → ∀ (c0 j : Nat) (ls : Array Slot), c0 + j = d → lv_has ls 7 [(5, .int (nI j)), (3, .long (lN v)), (2, .int mb), (0, .ref h0)] → W p l e (headSpec w_Box_block rm_2).room s m ([.ref h0, .int (nI k), .int mb] : List Value).toArray below meth c s.heap [] 0 0 (MQ below (vp_Si (fun r => ∃ d, d < 64 ∧ (bg M).testBit d = true ∧ cn (bg M).testBit d = k ∧ ((mb = 0 ∧ r = nx + nI d) ∨ (¬ mb = 0 ∧ ∃ n, r = nI n ∧ bk_run M d n)))) ([.ref h0, .int (nI k), .int mb] : List Value).toArray s 0 0 (fun _ => False)) (F0 m 49 ls []) := by
    intro v d hv hd64 hvd hlow hdb hdc c0
    induction c0 with
    | zero =>
      intro j ls hj hl
      obtain rfl : j = d := by omega
      refine lv_lload_n hx hb d_Box_block_49 rfl (lv_at hl 1 rfl) ?_
      refine lv_iload hx hb d_Box_block_50 (lv_at hl 0 rfl) ?_
      refine lv_lushr hx hb d_Box_block_52 rfl ?_
      refine lv_lconst (v := 1) hx hb d_Box_block_53 (by decide) ?_
      refine lv_land hx hb d_Box_block_54 ?_
      refine lv_lconst (v := 0) hx hb d_Box_block_55 (by decide) ?_
      refine W.lcmp hx hb d_Box_block_56 ?_
      refine lv_if_ne (tgt := 66) hx hb d_Box_block_57 rfl (fun h2 => ?_) (fun h2 => ?_)
      · refine lv_iload_n hx hb d_Box_block_66 rfl (lv_at hl 2 rfl) ?_
        refine lv_if_ne (tgt := 78) hx hb d_Box_block_67 rfl (fun h3 => ?_) (fun h3 => ?_)
        · refine lv_iconst (v := 0) hx hb d_Box_block_78 (by decide) ?_
          refine lv_istore hx hb d_Box_block_79 hl (by decide) rfl (fun ls hl => ?_)
          have hl : lv_has ls 7 [(6, .int 0), (5, .int (nI j)), (3, .long (lN v)), (2, .int mb), (0, .ref h0)] := hl
          exact loopC (64 - j) j hd64 hdb hdc h3 0 ls (by omega) lt_0 (lv_sub hl [0, 1, 4] rfl)
        · refine lv_aload_n hx hb d_Box_block_70 rfl (lv_at hl 3 rfl) ?_
          refine va_get (D := (dC, dI)) (ci := 0) (v := .int nx) (C := R_Box) (T := F_Box) (N := 7) hx hb hT in_Box hown hK hP 0 rfl rfl 3 (by decide) (hT _ tw_19) (fun _ h9 => h9) rfl d_Box_block_71 ?_
          refine lv_iload hx hb d_Box_block_74 (lv_at hl 0 rfl) ?_
          refine lv_iadd hx hb d_Box_block_76 ?_
          exact W.iret (v := nx + (nI j)) hx hb hr_ (fun t ht hW => ⟨nx + (nI j), rfl, ⟨j, hd64, hdb, hdc, Or.inl ⟨h3, rfl⟩⟩, ht⟩) (fun q hq => by cases hq) d_Box_block_77
      · exact absurd ((mb_bit0 hv hd64).mp h2) (by rw [hvd]; decide)
    | succ c0 ih =>
      intro j ls hj hl
      refine lv_lload_n hx hb d_Box_block_49 rfl (lv_at hl 1 rfl) ?_
      refine lv_iload hx hb d_Box_block_50 (lv_at hl 0 rfl) ?_
      refine lv_lushr hx hb d_Box_block_52 rfl ?_
      refine lv_lconst (v := 1) hx hb d_Box_block_53 (by decide) ?_
      refine lv_land hx hb d_Box_block_54 ?_
      refine lv_lconst (v := 0) hx hb d_Box_block_55 (by decide) ?_
      refine W.lcmp hx hb d_Box_block_56 ?_
      refine lv_if_ne (tgt := 66) hx hb d_Box_block_57 rfl (fun h2 => ?_) (fun h2 => ?_)
      · exact absurd ((mb_bit0 hv (by omega)).mpr (hlow j (by omega))) h2
      · refine lv_iinc (v := nI (j + 1)) hx hb d_Box_block_60 hl (k := 0) rfl (by rw [← nI_1]; rfl) (by decide) rfl (fun ls hl => ?_)
        have hl : lv_has ls 7 [(5, .int (nI (j + 1))), (3, .long (lN v)), (2, .int mb), (0, .ref h0)] := hl
        refine lv_goto (tgt := 49) hx hb d_Box_block_63 rfl ?_
        exact ih (j + 1) ls (by omega) (lv_sub hl [0, 1, 2, 3] rfl)
  have loopA : ∀ (c0 j v : Nat) (ls : Array Slot), c0 + j = k → bk_I (bg M) j v → lv_has ls 7 [(5, .int (nI j)), (3, .long (lN v)), (2, .int mb), (1, .int (nI k)), (0, .ref h0)] → W p l e (headSpec w_Box_block rm_2).room s m ([.ref h0, .int (nI k), .int mb] : List Value).toArray below meth c s.heap [] 0 0 (MQ below (vp_Si (fun r => ∃ d, d < 64 ∧ (bg M).testBit d = true ∧ cn (bg M).testBit d = k ∧ ((mb = 0 ∧ r = nx + nI d) ∨ (¬ mb = 0 ∧ ∃ n, r = nI n ∧ bk_run M d n)))) ([.ref h0, .int (nI k), .int mb] : List Value).toArray s 0 0 (fun _ => False)) (F0 m 28 ls []) := by
    intro c0
    induction c0 with
    | zero =>
      intro j v ls hj hI hl
      refine lv_iload hx hb d_Box_block_28 (lv_at hl 0 rfl) ?_
      refine lv_iload_n hx hb d_Box_block_30 rfl (lv_at hl 3 rfl) ?_
      refine lv_icmp_ge (tgt := 46) hx hb d_Box_block_31 rfl (fun h1 => ?_) (fun h1 => ?_)
      · obtain rfl : k = j := by omega
        obtain ⟨d, a1, a2, a3, a4, a5⟩ := bk_first hI hk
        refine lv_iconst (v := 0) hx hb d_Box_block_46 (by decide) ?_
        refine lv_istore hx hb d_Box_block_47 hl (by decide) rfl (fun ls hl => ?_)
        have hl : lv_has ls 7 [(5, .int 0), (3, .long (lN v)), (2, .int mb), (1, .int (nI k)), (0, .ref h0)] := hl
        exact loopB v d hI.1 a1 a2 a3 a4 a5 d 0 ls (by omega) (lv_sub hl [0, 1, 2, 4] rfl)
      · exact absurd (nI_le (a := k) (b := j) (by omega) (by omega)) h1
    | succ c0 ih =>
      intro j v ls hj hI hl
      refine lv_iload hx hb d_Box_block_28 (lv_at hl 0 rfl) ?_
      refine lv_iload_n hx hb d_Box_block_30 rfl (lv_at hl 3 rfl) ?_
      refine lv_icmp_ge (tgt := 46) hx hb d_Box_block_31 rfl (fun h1 => ?_) (fun h1 => ?_)
      · exact absurd h1 (Int32.not_le.mpr (nI_lt (by omega) (by omega)))
      · have hjc : j < cn (bg M).testBit 64 := by omega
        refine lv_lload_n hx hb d_Box_block_34 rfl (lv_at hl 1 rfl) ?_
        refine lv_lload_n hx hb d_Box_block_35 rfl (lv_at hl 1 rfl) ?_
        refine lv_lconst (v := 1) hx hb d_Box_block_36 (by decide) ?_
        refine lv_lsub hx hb d_Box_block_37 ?_
        refine lv_land hx hb d_Box_block_38 ?_
        refine lv_topl (fun y9 e9 => ?_)
        obtain rfl : y9 = (lN (v &&& (v - 1)) : Int64) := by rw [e9]; rw [lb_eq (bk_ne hI hjc) hI.1]
        refine lv_lstore_n hx hb d_Box_block_39 rfl hl (by decide) rfl (fun ls hl => ?_)
        have hl : lv_has ls 7 [(3, .long (lN (v &&& (v - 1)))), (5, .int (nI j)), (2, .int mb), (1, .int (nI k)), (0, .ref h0)] := hl
        refine lv_iinc (v := nI (j + 1)) hx hb d_Box_block_40 hl (k := 1) rfl (by rw [← nI_1]; rfl) (by decide) rfl (fun ls hl => ?_)
        have hl : lv_has ls 7 [(5, .int (nI (j + 1))), (3, .long (lN (v &&& (v - 1)))), (2, .int mb), (1, .int (nI k)), (0, .ref h0)] := hl
        refine lv_goto (tgt := 28) hx hb d_Box_block_43 rfl ?_
        exact ih (j + 1) _ ls (by omega) (bk_s hI hjc) (lv_sub hl [0, 1, 2, 3, 4] rfl)
  refine lv_iload_n hx hb d_Box_block_0 rfl (lv_at hl 1 rfl) ?_
  refine lv_if_lt (tgt := 12) hx hb d_Box_block_1 rfl (fun h1 => ?_) (fun h1 => ?_)
  · exact absurd h1 (nI_pos (by omega))
  · refine lv_iload_n hx hb d_Box_block_4 rfl (lv_at hl 1 rfl) ?_
    refine lv_aload_n hx hb d_Box_block_5 rfl (lv_at hl 0 rfl) ?_
    refine vp_callSi (W.runV (As := []) (rest := [.int (nI k)]) ⟨hx, hb, hml, hown, hT⟩ (c_Box_blocks l dC dI h0 hr cB f u nx M en lf rg hM) (cwV 0 hT (tb_wsV tw_144 tw_146 ts_4 tw_1 tw_147) rfl rfl rfl (by decide +kernel) ⟨Nat.le_of_ble_eq_true rfl, Nat.le_of_ble_eq_true rfl⟩) ⟨wd_blind, va_recv hK hP (q0 := 0) rfl rfl, wd_at hK hP⟩ rfl rfl hl.1 rfl (lv_room (Nat.le_of_ble_eq_true rfl)) d_Box_block_6 ⟨Nat.le_of_ble_eq_true rfl, Nat.le_of_ble_eq_true rfl⟩) (fun r hr9 => ?_)
    subst hr9
    refine lv_icmp_lt (tgt := 20) hx hb d_Box_block_9 rfl (fun h2 => ?_) (fun h2 => ?_)
    · refine lv_aload_n hx hb d_Box_block_20 rfl (lv_at hl 0 rfl) ?_
      refine vp_callSl (W.runV (As := []) (rest := []) ⟨hx, hb, hml, hown, hT⟩ (c_Box_begins l dC dI h0 hr cB f u nx M en lf rg hM) (cwV 0 hT (tb_wsV tw_148 tw_150 ts_5 tw_1 tw_151) rfl rfl rfl (by decide +kernel) ⟨Nat.le_of_ble_eq_true rfl, Nat.le_of_ble_eq_true rfl⟩) ⟨wd_blind, va_recv hK hP (q0 := 0) rfl rfl, wd_at hK hP⟩ rfl rfl hl.1 rfl (lv_room (Nat.le_of_ble_eq_true rfl)) d_Box_block_21 ⟨Nat.le_of_ble_eq_true rfl, Nat.le_of_ble_eq_true rfl⟩) (fun r hr9 => ?_)
      subst hr9
      refine lv_lstore_n hx hb d_Box_block_24 rfl hl (by decide) rfl (fun ls hl => ?_)
      have hl : lv_has ls 7 [(3, .long (lN (bg M))), (0, .ref h0), (1, .int (nI k)), (2, .int mb)] := hl
      refine lv_iconst (v := 0) hx hb d_Box_block_25 (by decide) ?_
      refine lv_istore hx hb d_Box_block_26 hl (by decide) rfl (fun ls hl => ?_)
      have hl : lv_has ls 7 [(5, .int 0), (3, .long (lN (bg M))), (0, .ref h0), (1, .int (nI k)), (2, .int mb)] := hl
      exact loopA k 0 (bg M) ls (by omega) (bk_0 (bg_lt hM)) (lv_sub hl [0, 1, 4, 3, 2] rfl)
    · exact absurd (nI_lt hk (by have := cn_le (bg M).testBit 64; omega)) h2
set_option maxHeartbeats 4000000 in
set_option maxRecDepth 100000 in
/-- told(k) beyond 0..5 throws -/
theorem c_Box_told_T (l : Launch) (hfl : l.stackTraces = false) (dC : Nat → ClassId) (dI : Nat → Nat → Nat) (h0 hr : Nat) (cB : ClassId) (f u nx : Int32) (M : Nat) (en lf : Int32) (rg : Nat → Int32) (k : Int32) (hk : k.toInt < 0 ∨ 5 < k.toInt) : kx_Met l y_Box_told w_Box_told rm_t (va_Pc [.ref h0, .int k] (wt dC dI th_IA [(h0, .inr (0, [.ref hr, .int f, .int u, .int nx, .long (lN M), .int en, .int lf])), (hr, .inl (cB, 64, .inl rg))] [(cB, .byte)])) th_IA 1 6 := by
  refine kx_ofW (cc := b_Box_told) (maxL := 2) (ret := some .int) (by decide) rfl ?_
  intro p e s m args below meth c s₁ B hml hem hv
  obtain ⟨rfl, hth, hP, hK⟩ := hv
  have hx := B.exec
  have hb := B.bytes
  have hr_ := B.returns
  have hT : ∀ w ∈ tb, w.before _ s = true := fun w hw => atoms_spec (ws := w_Box_told) B.pre w (List.mem_cons_of_mem _ hw)
  have hown : s.vm.findClass R_Box = some m.cls := findClass_of_methodNamed B.named
  have hlocks := B.notSynchronized
  have hP : va_P (dC, dI) classes [(h0, .inr (0, [.ref hr, .int f, .int u, .int nx, .long (lN M), .int en, .int lf])), (hr, .inl (cB, 64, .inl rg))] s.heap := hP
  have hl := lv_entry ([.ref h0, .int k]) (n := 2) (Nat.le_of_ble_eq_true rfl)
  rw [lg_entry_eq]
  generalize (lg_sl ([.ref h0, .int k]) ++ List.replicate (2 - (lg_sl ([.ref h0, .int k])).length) Slot.unset).toArray = ls at hl ⊢
  have hl : lv_has ls 2 [(0, .ref h0), (1, .int k)] := hl
  refine lv_iload_n hx hb d_Box_told_0 rfl (lv_at hl 1 rfl) ?_
  refine lv_tableOut (tgt := 78) hx hb d_Box_told_1 hk rfl ?_
  exact kx_throw (X := th_IA) hx hb hfl hown (by decide +kernel) (th_all th_ownA hth hT) (hT _ tw_67) (hT _ tw_68) (hT _ tw_6) hem hlocks (hl.1.trans hml.symm) (Nat.le_of_ble_eq_true rfl) (Nat.le_of_ble_eq_true rfl) (Nat.le_of_ble_eq_true rfl) (Nat.le_of_ble_eq_true rfl) d_Box_told_78 d_Box_told_81 d_Box_told_82 d_Box_told_85
set_option maxHeartbeats 4000000 in
set_option maxRecDepth 100000 in
/-- segment(n, v, k), k not in 0..8, throws -/
theorem c_Box_segment_T (l : Launch) (hfl : l.stackTraces = false) (dC : Nat → ClassId) (dI : Nat → Nat → Nat) (h0 hr : Nat) (cB : ClassId) (f u nx : Int32) (M : Nat) (en lf : Int32) (rg : Nat → Int32) (n : Int32) (v : Int64) (k : Int32) (hk : k < 0 ∨ 8 < k) : kx_Met l y_Box_segment w_Box_segment rm_t (va_Pc [.ref h0, .int n, .long v, .int k] (wt dC dI th_IA [(h0, .inr (0, [.ref hr, .int f, .int u, .int nx, .long (lN M), .int en, .int lf])), (hr, .inl (cB, 64, .inl rg))] [(cB, .byte)])) th_IA 1 6 := by
  refine kx_ofW (cc := b_Box_segment) (maxL := 7) (ret := some .int) (by decide) rfl ?_
  intro p e s m args below meth c s₁ B hml hem hv
  obtain ⟨rfl, hth, hP, hK⟩ := hv
  have hx := B.exec
  have hb := B.bytes
  have hr_ := B.returns
  have hT : ∀ w ∈ tb, w.before _ s = true := fun w hw => atoms_spec (ws := w_Box_segment) B.pre w (List.mem_cons_of_mem _ hw)
  have hown : s.vm.findClass R_Box = some m.cls := findClass_of_methodNamed B.named
  have hlocks := B.notSynchronized
  have hP : va_P (dC, dI) classes [(h0, .inr (0, [.ref hr, .int f, .int u, .int nx, .long (lN M), .int en, .int lf])), (hr, .inl (cB, 64, .inl rg))] s.heap := hP
  have hl := lv_entry ([.ref h0, .int n, .long v, .int k]) (n := 7) (Nat.le_of_ble_eq_true rfl)
  rw [lg_entry_eq]
  generalize (lg_sl ([.ref h0, .int n, .long v, .int k]) ++ List.replicate (7 - (lg_sl ([.ref h0, .int n, .long v, .int k])).length) Slot.unset).toArray = ls at hl ⊢
  have hl : lv_has ls 7 [(0, .ref h0), (1, .int n), (2, .long v), (4, .int k)] := hl
  refine lv_iload hx hb d_Box_segment_0 (lv_at hl 3 rfl) ?_
  refine lv_if_lt (tgt := 12) hx hb d_Box_segment_2 rfl (fun h1 => ?_) (fun h1 => ?_)
  · exact kx_throw (X := th_IA) hx hb hfl hown (by decide +kernel) (th_all th_ownA hth hT) (hT _ tw_67) (hT _ tw_68) (hT _ tw_6) hem hlocks (hl.1.trans hml.symm) (Nat.le_of_ble_eq_true rfl) (Nat.le_of_ble_eq_true rfl) (Nat.le_of_ble_eq_true rfl) (Nat.le_of_ble_eq_true rfl) d_Box_segment_12 d_Box_segment_15 d_Box_segment_16 d_Box_segment_19
  · refine lv_iload hx hb d_Box_segment_5 (lv_at hl 3 rfl) ?_
    refine lv_bipush (v := 8) hx hb d_Box_segment_7 (by decide) ?_
    refine lv_icmp_le (tgt := 20) hx hb d_Box_segment_9 rfl (fun h2 => ?_) (fun h2 => ?_)
    · exact absurd h2 (by rcases hk with h | h; exact absurd h h1; exact Int32.not_le.mpr h)
    · exact kx_throw (X := th_IA) hx hb hfl hown (by decide +kernel) (th_all th_ownA hth hT) (hT _ tw_67) (hT _ tw_68) (hT _ tw_6) hem hlocks (hl.1.trans hml.symm) (Nat.le_of_ble_eq_true rfl) (Nat.le_of_ble_eq_true rfl) (Nat.le_of_ble_eq_true rfl) (Nat.le_of_ble_eq_true rfl) d_Box_segment_12 d_Box_segment_15 d_Box_segment_16 d_Box_segment_19
set_option maxHeartbeats 4000000 in
set_option maxRecDepth 100000 in
/-- block(k, many), k no block, throws -/
theorem c_Box_block_T (l : Launch) (hfl : l.stackTraces = false) (dC : Nat → ClassId) (dI : Nat → Nat → Nat) (h0 hr : Nat) (cB : ClassId) (f u nx : Int32) (M : Nat) (en lf : Int32) (rg : Nat → Int32) (k mb : Int32) (hM : M < 2 ^ 64) (hk : k < 0 ∨ nI (cn (bg M).testBit 64) ≤ k) : kx_Met l y_Box_block w_Box_block rm_t (va_Pc [.ref h0, .int k, .int mb] (wt dC dI th_IO [(h0, .inr (0, [.ref hr, .int f, .int u, .int nx, .long (lN M), .int en, .int lf])), (hr, .inl (cB, 64, .inl rg))] [(cB, .byte)])) th_IO 1 6 := by
  refine kx_ofW (cc := b_Box_block) (maxL := 7) (ret := some .int) (by decide) rfl ?_
  intro p e s m args below meth c s₁ B hml hem hv
  obtain ⟨rfl, hth, hP, hK⟩ := hv
  have hx := B.exec
  have hb := B.bytes
  have hr_ := B.returns
  have hT : ∀ w ∈ tb, w.before _ s = true := fun w hw => atoms_spec (ws := w_Box_block) B.pre w (List.mem_cons_of_mem _ hw)
  have hown : s.vm.findClass R_Box = some m.cls := findClass_of_methodNamed B.named
  have hlocks := B.notSynchronized
  have hP : va_P (dC, dI) classes [(h0, .inr (0, [.ref hr, .int f, .int u, .int nx, .long (lN M), .int en, .int lf])), (hr, .inl (cB, 64, .inl rg))] s.heap := hP
  have hl := lv_entry ([.ref h0, .int k, .int mb]) (n := 7) (Nat.le_of_ble_eq_true rfl)
  rw [lg_entry_eq]
  generalize (lg_sl ([.ref h0, .int k, .int mb]) ++ List.replicate (7 - (lg_sl ([.ref h0, .int k, .int mb])).length) Slot.unset).toArray = ls at hl ⊢
  have hl : lv_has ls 7 [(0, .ref h0), (1, .int k), (2, .int mb)] := hl
  refine lv_iload_n hx hb d_Box_block_0 rfl (lv_at hl 1 rfl) ?_
  refine lv_if_lt (tgt := 12) hx hb d_Box_block_1 rfl (fun h1 => ?_) (fun h1 => ?_)
  · exact kx_throw (X := th_IO) hx hb hfl hown (by decide +kernel) (th_all th_ownO hth hT) (hT _ tw_161) (hT _ tw_162) (hT _ tw_7) hem hlocks (hl.1.trans hml.symm) (Nat.le_of_ble_eq_true rfl) (Nat.le_of_ble_eq_true rfl) (Nat.le_of_ble_eq_true rfl) (Nat.le_of_ble_eq_true rfl) d_Box_block_12 d_Box_block_15 d_Box_block_16 d_Box_block_19
  · refine lv_iload_n hx hb d_Box_block_4 rfl (lv_at hl 1 rfl) ?_
    refine lv_aload_n hx hb d_Box_block_5 rfl (lv_at hl 0 rfl) ?_
    refine vp_callSi (W.runV (As := []) (rest := [.int k]) ⟨hx, hb, hml, hown, hT⟩ (c_Box_blocks l dC dI h0 hr cB f u nx M en lf rg hM) (cwV 0 hT (tb_wsV tw_144 tw_146 ts_4 tw_1 tw_147) rfl rfl rfl (by decide +kernel) ⟨Nat.le_of_ble_eq_true rfl, Nat.le_of_ble_eq_true rfl⟩) ⟨wd_blind, va_recv hK hP (q0 := 0) rfl rfl, wd_at hK hP⟩ rfl rfl hl.1 rfl (lv_room (Nat.le_of_ble_eq_true rfl)) d_Box_block_6 ⟨Nat.le_of_ble_eq_true rfl, Nat.le_of_ble_eq_true rfl⟩) (fun r hr9 => ?_)
    subst hr9
    refine lv_icmp_lt (tgt := 20) hx hb d_Box_block_9 rfl (fun h2 => ?_) (fun h2 => ?_)
    · exact absurd h2 (by rcases hk with h | h; exact absurd h h1; exact Int32.not_lt.mpr h)
    · exact kx_throw (X := th_IO) hx hb hfl hown (by decide +kernel) (th_all th_ownO hth hT) (hT _ tw_161) (hT _ tw_162) (hT _ tw_7) hem hlocks (hl.1.trans hml.symm) (Nat.le_of_ble_eq_true rfl) (Nat.le_of_ble_eq_true rfl) (Nat.le_of_ble_eq_true rfl) (Nat.le_of_ble_eq_true rfl) d_Box_block_12 d_Box_block_15 d_Box_block_16 d_Box_block_19
end
section
/-! what segment does to mask and ring -/
def bx_nearB (u en lf d : Int32) : Bool := !decide (d < 0) && (decide (d < 64 - u) && (decide (en = 0) || decide (d < lf)))
theorem bx_nearB_iff {u en lf d : Int32} : bx_nearB u en lf d = true ↔ bx_near u en lf d := by simp [bx_nearB, bx_near]
/-- the byte that goes into the ring -/
def bs_b (v : Int64) (k : Nat) : Int32 := vp_nar .byte ((v.toUInt64 >>> ((8 * nI k).toInt64.toUInt64 &&& Int64.toUInt64 63)).toInt64.toInt32.toInt8.toInt32)
def bs_put (ff uu : Nat) (nx en lf n : Int32) (v : Int64) (k : Nat) (x : Nat × (Nat → Int32)) : Nat × (Nat → Int32) :=
  if (bx_nearB (nI uu) en lf (n + nI k - nx) && !x.1.testBit (n + nI k - nx).toNatClampNeg) = true then (x.1 ||| 2 ^ (n + nI k - nx).toNatClampNeg, upd x.2 ((ff + uu + (n + nI k - nx).toNatClampNeg) % 64) (bs_b v k)) else x
def bs_fill (ff uu : Nat) (nx en lf n : Int32) (v : Int64) : Nat → Nat × (Nat → Int32) → Nat × (Nat → Int32)
  | 0, x => x
  | k + 1, x => bs_put ff uu nx en lf n v k (bs_fill ff uu nx en lf n v k x)
theorem bs_skip {ff uu : Nat} {nx en lf n : Int32} {v : Int64} {k : Nat} {x : Nat × (Nat → Int32)} (h : ¬ (bx_near (nI uu) en lf (n + nI k - nx) ∧ x.1.testBit (n + nI k - nx).toNatClampNeg = false)) : bs_put ff uu nx en lf n v k x = x := by
  unfold bs_put
  rw [if_neg]
  rw [Bool.and_eq_true, bx_nearB_iff, Bool.not_eq_true']
  exact h
theorem bs_take {ff uu : Nat} {nx en lf n : Int32} {v : Int64} {k d : Nat} {x : Nat × (Nat → Int32)} (hd : d < 2 ^ 31) (e : n + nI k - nx = nI d) (h1 : bx_near (nI uu) en lf (nI d)) (h2 : x.1.testBit d = false) :
    bs_put ff uu nx en lf n v k x = (x.1 ||| 2 ^ d, upd x.2 ((ff + uu + d) % 64) (bs_b v k)) := by
  unfold bs_put
  rw [e, nI_clamp hd, if_pos]
  rw [Bool.and_eq_true, bx_nearB_iff, Bool.not_eq_true']
  exact ⟨h1, h2⟩
theorem bs_d {uu : Nat} {en lf d : Int32} (hu : uu ≤ 64) (h : bx_near (nI uu) en lf d) : ∃ j, j < 64 - uu ∧ d = nI j := by
  obtain ⟨j, hj, rfl⟩ := nI_of h.1
  have h2 := h.2.1
  rw [show (64 : Int32) = nI 64 from rfl, pk_sub hu, nI_ltI hj (by omega)] at h2
  exact ⟨j, h2, rfl⟩
theorem bs_lt {ff uu : Nat} {nx en lf n : Int32} {v : Int64} {k : Nat} {x : Nat × (Nat → Int32)} (hu : uu ≤ 64) (h : x.1 < 2 ^ 64) : (bs_put ff uu nx en lf n v k x).1 < 2 ^ 64 := by
  by_cases hc : bx_near (nI uu) en lf (n + nI k - nx) ∧ x.1.testBit (n + nI k - nx).toNatClampNeg = false
  · obtain ⟨j, hj, e⟩ := bs_d hu hc.1
    rw [bs_take (d := j) (by omega) e (by rw [← e]; exact hc.1) (by have := hc.2; rwa [e, nI_clamp (by omega)] at this)]
    exact mb_lt h (by omega)
  · rw [bs_skip hc]; exact h
theorem i_add1 (a : Int32) (i : Nat) : a + nI i + 1 = a + nI (i + 1) := by rw [Int32.add_assoc, nI_1]
theorem i_sub1 (a : Int32) (i : Nat) : a - nI i - 1 = a - nI (i + 1) := by rw [← nI_1, Int32.sub_eq_add_neg, Int32.sub_eq_add_neg, Int32.sub_eq_add_neg, Int32.neg_add, Int32.sub_eq_add_neg, Int32.add_assoc]
/-- the end can be said at d -/
def bx_ends (u en : Int32) (M : Nat) (d : Int32) : Prop := en = 0 ∧ ¬ d < 0 ∧ d ≤ 64 - u ∧ ∀ i, d.toNatClampNeg ≤ i → M.testBit i = false
theorem mb_none {M d : Nat} : M / 2 ^ d = 0 ↔ ∀ i, d ≤ i → M.testBit i = false := by
  constructor
  · intro h i hi
    have h1 : (M / 2 ^ d).testBit (i - d) = false := by rw [h, Nat.zero_testBit]
    rw [mb_div] at h1
    rwa [show d + (i - d) = i by omega] at h1
  · intro h
    apply Nat.eq_of_testBit_eq
    intro i
    rw [mb_div, Nat.zero_testBit]
    exact h _ (by omega)
theorem mb_shr0 {M d : Nat} (hM : M < 2 ^ 64) (hd : d < 64) : lg_cmp ((lN M).toUInt64 >>> ((nI d).toInt64.toUInt64 &&& Int64.toUInt64 63)).toInt64 0 = 0 ↔ ∀ i, d ≤ i → M.testBit i = false := by
  rw [wb_shr hM hd, mb_zero (Nat.lt_of_le_of_lt (Nat.div_le_self _ _) hM), mb_none]
end
section
/-! SegmentBox: the methods that write -/
set_option maxHeartbeats 4000000 in
set_option maxRecDepth 100000 in
/-- open(n) -/
theorem c_Box_open (l : Launch) (dC : Nat → ClassId) (dI : Nat → Nat → Nat) (h0 hr : Nat) (cB : ClassId) (f u nx : Int32) (M : Nat) (en lf : Int32) (rg : Nat → Int32) (sz : Nat) (n : Int32) : Met l y_Box_open w_Box_open rm_0 (va_Pc [.ref h0, .int n] (we dC dI sz [(h0, .inr (0, [.ref hr, .int f, .int u, .int nx, .long (lN M), .int en, .int lf])), (hr, .inl (cB, 64, .inl rg))] [(cB, .byte)])) (va_Qv (fun _ : Unit => True) (fun _ => wz dC dI (va_A [(h0, .inr (0, [.ref hr, .int f, .int u, .int nx, .long (lN M), .int en, .int lf])), (hr, .inl (cB, 64, .inl rg))] sz) [(h0, .inr (0, [.ref hr, .int 0, .int 0, .int n, .long 0, .int 0, .int 0])), (hr, .inl (cB, 64, .inl rg))] [(cB, .byte)]) (va_A [(h0, .inr (0, [.ref hr, .int f, .int u, .int nx, .long (lN M), .int en, .int lf])), (hr, .inl (cB, 64, .inl rg))] sz)) 0 0 (va_A [(h0, .inr (0, [.ref hr, .int f, .int u, .int nx, .long (lN M), .int en, .int lf])), (hr, .inl (cB, 64, .inl rg))] sz) := by
  refine Met.ofW (cc := b_Box_open) (maxL := 2) (ret := none) (by decide) rfl ?_
  intro p e s m args below meth c s₁ B hml hv
  obtain ⟨rfl, hsz, hP, hK, hD0⟩ := hv
  have hx := B.exec
  have hb := B.bytes
  have hr_ := B.returns
  have hT : ∀ w ∈ tb, w.before _ s = true := fun w hw => atoms_spec (ws := w_Box_open) B.pre w (List.mem_cons_of_mem _ hw)
  have hown : s.vm.findClass R_Box = some m.cls := findClass_of_methodNamed B.named
  have hlocks := B.notSynchronized
  subst hsz
  have hD := hD0.self (sz := s.heap.size)
  generalize hAe : va_A [(h0, .inr (0, [.ref hr, .int f, .int u, .int nx, .long (lN M), .int en, .int lf])), (hr, .inl (cB, 64, .inl rg))] s.heap.size = A at hD ⊢
  have hA : ∀ q : Nat, s.heap.size ≤ q → A q := fun q h => by rw [← hAe]; exact Or.inr h
  have hS : va_S A s.heap s.heap [] := va_S.rf
  have hP : va_P (dC, dI) classes [(h0, .inr (0, [.ref hr, .int f, .int u, .int nx, .long (lN M), .int en, .int lf])), (hr, .inl (cB, 64, .inl rg))] s.heap := hP
  have hl := lv_entry ([.ref h0, .int n]) (n := 2) (Nat.le_of_ble_eq_true rfl)
  rw [lg_entry_eq]
  generalize (lg_sl ([.ref h0, .int n]) ++ List.replicate (2 - (lg_sl ([.ref h0, .int n])).length) Slot.unset).toArray = ls at hl ⊢
  have hl : lv_has ls 2 [(0, .ref h0), (1, .int n)] := hl
  refine lv_aload_n hx hb d_Box_open_0 rfl (lv_at hl 0 rfl) ?_
  refine lv_iconst (v := 0) hx hb d_Box_open_1 (by decide) ?_
  refine va_put (D := (dC, dI)) (ci := 0) (v := .int 0) (ty := .int) (C := R_Box) (T := F_Box) (N := 7) hx hb hT in_Box t_Box t_Box_ok n_Box hown hK hP hD hS 0 rfl rfl 1 (by decide) (hT _ tw_17) (fun _ h9 => h9) rfl (by decide +kernel) rfl rfl (Nat.le_of_ble_eq_true rfl) d_Box_open_2 (fun H locs hP hD hS => ?_)
  have hP : va_P (dC, dI) classes [(h0, .inr (0, [.ref hr, .int 0, .int u, .int nx, .long (lN M), .int en, .int lf])), (hr, .inl (cB, 64, .inl rg))] H := hP
  have hD : va_D A [(h0, .inr (0, [.ref hr, .int 0, .int u, .int nx, .long (lN M), .int en, .int lf])), (hr, .inl (cB, 64, .inl rg))] := hD
  refine lv_aload_n hx hb d_Box_open_5 rfl (lv_at hl 0 rfl) ?_
  refine lv_iconst (v := 0) hx hb d_Box_open_6 (by decide) ?_
  refine va_put (D := (dC, dI)) (ci := 0) (v := .int 0) (ty := .int) (C := R_Box) (T := F_Box) (N := 7) hx hb hT in_Box t_Box t_Box_ok n_Box hown hK hP hD hS 0 rfl rfl 2 (by decide) (hT _ tw_18) (fun _ h9 => h9) rfl (by decide +kernel) rfl rfl (Nat.le_of_ble_eq_true rfl) d_Box_open_7 (fun H locs hP hD hS => ?_)
  have hP : va_P (dC, dI) classes [(h0, .inr (0, [.ref hr, .int 0, .int 0, .int nx, .long (lN M), .int en, .int lf])), (hr, .inl (cB, 64, .inl rg))] H := hP
  have hD : va_D A [(h0, .inr (0, [.ref hr, .int 0, .int 0, .int nx, .long (lN M), .int en, .int lf])), (hr, .inl (cB, 64, .inl rg))] := hD
  refine lv_aload_n hx hb d_Box_open_10 rfl (lv_at hl 0 rfl) ?_
  refine lv_iload_n hx hb d_Box_open_11 rfl (lv_at hl 1 rfl) ?_
  refine va_put (D := (dC, dI)) (ci := 0) (v := .int n) (ty := .int) (C := R_Box) (T := F_Box) (N := 7) hx hb hT in_Box t_Box t_Box_ok n_Box hown hK hP hD hS 0 rfl rfl 3 (by decide) (hT _ tw_19) (fun _ h9 => h9) rfl (by decide +kernel) rfl rfl (Nat.le_of_ble_eq_true rfl) d_Box_open_12 (fun H locs hP hD hS => ?_)
  have hP : va_P (dC, dI) classes [(h0, .inr (0, [.ref hr, .int 0, .int 0, .int n, .long (lN M), .int en, .int lf])), (hr, .inl (cB, 64, .inl rg))] H := hP
  have hD : va_D A [(h0, .inr (0, [.ref hr, .int 0, .int 0, .int n, .long (lN M), .int en, .int lf])), (hr, .inl (cB, 64, .inl rg))] := hD
  refine lv_aload_n hx hb d_Box_open_15 rfl (lv_at hl 0 rfl) ?_
  refine lv_lconst (v := 0) hx hb d_Box_open_16 (by decide) ?_
  refine va_put (D := (dC, dI)) (ci := 0) (v := .long 0) (ty := .long) (C := R_Box) (T := F_Box) (N := 7) hx hb hT in_Box t_Box t_Box_ok n_Box hown hK hP hD hS 0 rfl rfl 4 (by decide) (hT _ tw_20) (fun _ h9 => h9) rfl (by decide +kernel) rfl rfl (Nat.le_of_ble_eq_true rfl) d_Box_open_17 (fun H locs hP hD hS => ?_)
  have hP : va_P (dC, dI) classes [(h0, .inr (0, [.ref hr, .int 0, .int 0, .int n, .long 0, .int en, .int lf])), (hr, .inl (cB, 64, .inl rg))] H := hP
  have hD : va_D A [(h0, .inr (0, [.ref hr, .int 0, .int 0, .int n, .long 0, .int en, .int lf])), (hr, .inl (cB, 64, .inl rg))] := hD
  refine lv_aload_n hx hb d_Box_open_20 rfl (lv_at hl 0 rfl) ?_
  refine lv_iconst (v := 0) hx hb d_Box_open_21 (by decide) ?_
  refine va_put (D := (dC, dI)) (ci := 0) (v := .int 0) (ty := .boolean) (C := R_Box) (T := F_Box) (N := 7) hx hb hT in_Box t_Box t_Box_ok n_Box hown hK hP hD hS 0 rfl rfl 5 (by decide) (hT _ tw_21) (fun _ h9 => h9) rfl (by decide +kernel) rfl rfl (Nat.le_of_ble_eq_true rfl) d_Box_open_22 (fun H locs hP hD hS => ?_)
  have hP : va_P (dC, dI) classes [(h0, .inr (0, [.ref hr, .int 0, .int 0, .int n, .long 0, .int 0, .int lf])), (hr, .inl (cB, 64, .inl rg))] H := hP
  have hD : va_D A [(h0, .inr (0, [.ref hr, .int 0, .int 0, .int n, .long 0, .int 0, .int lf])), (hr, .inl (cB, 64, .inl rg))] := hD
  refine lv_aload_n hx hb d_Box_open_25 rfl (lv_at hl 0 rfl) ?_
  refine lv_iconst (v := 0) hx hb d_Box_open_26 (by decide) ?_
  refine va_put (D := (dC, dI)) (ci := 0) (v := .int 0) (ty := .int) (C := R_Box) (T := F_Box) (N := 7) hx hb hT in_Box t_Box t_Box_ok n_Box hown hK hP hD hS 0 rfl rfl 6 (by decide) (hT _ tw_22) (fun _ h9 => h9) rfl (by decide +kernel) rfl rfl (Nat.le_of_ble_eq_true rfl) d_Box_open_27 (fun H locs hP hD hS => ?_)
  have hP : va_P (dC, dI) classes [(h0, .inr (0, [.ref hr, .int 0, .int 0, .int n, .long 0, .int 0, .int 0])), (hr, .inl (cB, 64, .inl rg))] H := hP
  have hD : va_D A [(h0, .inr (0, [.ref hr, .int 0, .int 0, .int n, .long 0, .int 0, .int 0])), (hr, .inl (cB, 64, .inl rg))] := hD
  exact W.vret hx hb hr_ (fun t ht hW => ⟨⟨(), rfl, trivial, by rw [ht]; exact hP, va_K.moved hW.alike hK, hD⟩, hS.F ht⟩) hS.2.2 d_Box_open_30
set_option maxHeartbeats 4000000 in
set_option maxRecDepth 100000 in
/-- end(n) -/
theorem c_Box_end (l : Launch) (dC : Nat → ClassId) (dI : Nat → Nat → Nat) (h0 hr : Nat) (cB : ClassId) (f u nx : Int32) (M : Nat) (en lf : Int32) (rg : Nat → Int32) (sz : Nat) (n : Int32) (hM : M < 2 ^ 64) (hu : ∃ uu : Nat, uu ≤ 64 ∧ u = nI uu) : Met l y_Box_end w_Box_end rm_1 (va_Pc [.ref h0, .int n] (we dC dI sz [(h0, .inr (0, [.ref hr, .int f, .int u, .int nx, .long (lN M), .int en, .int lf])), (hr, .inl (cB, 64, .inl rg))] [(cB, .byte)])) (va_Qi (fun r (q : Int32 × Int32) => (r = 1 ∧ bx_ends u en M (n - nx) ∧ q = (1, n - nx)) ∨ (r = 0 ∧ ¬ bx_ends u en M (n - nx) ∧ q = (en, lf))) (fun q => wz dC dI (va_A [(h0, .inr (0, [.ref hr, .int f, .int u, .int nx, .long (lN M), .int en, .int lf])), (hr, .inl (cB, 64, .inl rg))] sz) [(h0, .inr (0, [.ref hr, .int f, .int u, .int nx, .long (lN M), .int (q.1), .int (q.2)])), (hr, .inl (cB, 64, .inl rg))] [(cB, .byte)]) (va_A [(h0, .inr (0, [.ref hr, .int f, .int u, .int nx, .long (lN M), .int en, .int lf])), (hr, .inl (cB, 64, .inl rg))] sz)) 0 0 (va_A [(h0, .inr (0, [.ref hr, .int f, .int u, .int nx, .long (lN M), .int en, .int lf])), (hr, .inl (cB, 64, .inl rg))] sz) := by
  refine Met.ofW (cc := b_Box_end) (maxL := 3) (ret := (some .boolean)) (by decide) rfl ?_
  intro p e s m args below meth c s₁ B hml hv
  obtain ⟨rfl, hsz, hP, hK, hD0⟩ := hv
  have hx := B.exec
  have hb := B.bytes
  have hr_ := B.returns
  have hT : ∀ w ∈ tb, w.before _ s = true := fun w hw => atoms_spec (ws := w_Box_end) B.pre w (List.mem_cons_of_mem _ hw)
  have hown : s.vm.findClass R_Box = some m.cls := findClass_of_methodNamed B.named
  have hlocks := B.notSynchronized
  subst hsz
  have hD := hD0.self (sz := s.heap.size)
  generalize hAe : va_A [(h0, .inr (0, [.ref hr, .int f, .int u, .int nx, .long (lN M), .int en, .int lf])), (hr, .inl (cB, 64, .inl rg))] s.heap.size = A at hD ⊢
  have hA : ∀ q : Nat, s.heap.size ≤ q → A q := fun q h => by rw [← hAe]; exact Or.inr h
  have hS : va_S A s.heap s.heap [] := va_S.rf
  have hP : va_P (dC, dI) classes [(h0, .inr (0, [.ref hr, .int f, .int u, .int nx, .long (lN M), .int en, .int lf])), (hr, .inl (cB, 64, .inl rg))] s.heap := hP
  have hl := lv_entry ([.ref h0, .int n]) (n := 3) (Nat.le_of_ble_eq_true rfl)
  rw [lg_entry_eq]
  generalize (lg_sl ([.ref h0, .int n]) ++ List.replicate (3 - (lg_sl ([.ref h0, .int n])).length) Slot.unset).toArray = ls at hl ⊢
  have hl : lv_has ls 3 [(0, .ref h0), (1, .int n)] := hl
  obtain ⟨uu, huu, hue⟩ := hu
  refine lv_iload_n hx hb d_Box_end_0 rfl (lv_at hl 1 rfl) ?_
  refine lv_aload_n hx hb d_Box_end_1 rfl (lv_at hl 0 rfl) ?_
  refine va_get (D := (dC, dI)) (ci := 0) (v := .int nx) (C := R_Box) (T := F_Box) (N := 7) hx hb hT in_Box hown hK hP 0 rfl rfl 3 (by decide) (hT _ tw_19) (fun _ h9 => h9) rfl d_Box_end_2 ?_
  refine lv_isub hx hb d_Box_end_5 ?_
  refine lv_topi (fun d0 e_d0 => ?_)
  refine lv_istore_n hx hb d_Box_end_6 rfl hl (by decide) rfl (fun ls hl => ?_)
  have hl : lv_has ls 3 [(2, .int d0), (0, .ref h0), (1, .int n)] := hl
  refine lv_aload_n hx hb d_Box_end_7 rfl (lv_at hl 1 rfl) ?_
  refine va_get (D := (dC, dI)) (ci := 0) (v := .int en) (C := R_Box) (T := F_Box) (N := 7) hx hb hT in_Box hown hK hP 0 rfl rfl 5 (by decide) (hT _ tw_21) (fun _ h9 => h9) rfl d_Box_end_8 ?_
  refine lv_if_ne (tgt := 26) hx hb d_Box_end_11 rfl (fun h1 => ?_) (fun h1 => ?_)
  · refine lv_iconst (v := 0) hx hb d_Box_end_26 (by decide) ?_
    exact W.zret (v := 0) hx hb hr_ rfl (fun t ht hW => ⟨⟨0, (en, lf), rfl, Or.inr ⟨rfl, fun hn => h1 hn.1, rfl⟩, by rw [ht]; exact hP, va_K.moved hW.alike hK, hD⟩, hS.F ht⟩) hS.2.2 d_Box_end_27
  · refine lv_iload_n hx hb d_Box_end_14 rfl (lv_at hl 0 rfl) ?_
    refine lv_if_lt (tgt := 26) hx hb d_Box_end_15 rfl (fun h2 => ?_) (fun h2 => ?_)
    · refine lv_iconst (v := 0) hx hb d_Box_end_26 (by decide) ?_
      exact W.zret (v := 0) hx hb hr_ rfl (fun t ht hW => ⟨⟨0, (en, lf), rfl, Or.inr ⟨rfl, fun hn => hn.2.1 (by rw [← e_d0]; exact h2), rfl⟩, by rw [ht]; exact hP, va_K.moved hW.alike hK, hD⟩, hS.F ht⟩) hS.2.2 d_Box_end_27
    · refine lv_iload_n hx hb d_Box_end_18 rfl (lv_at hl 0 rfl) ?_
      refine lv_aload_n hx hb d_Box_end_19 rfl (lv_at hl 1 rfl) ?_
      refine vp_callSi (W.runV (As := []) (rest := [.int d0]) ⟨hx, hb, hml, hown, hT⟩ (c_Box_window l dC dI h0 hr cB f u nx M en lf rg) (cwV 0 hT (tb_wsV tw_47 tw_49 ts_0 tw_1 tw_50) rfl rfl rfl (by decide +kernel) ⟨Nat.le_of_ble_eq_true rfl, Nat.le_of_ble_eq_true rfl⟩) ⟨wd_blind, va_recv hK hP (q0 := 0) rfl rfl, wd_at hK hP⟩ rfl rfl hl.1 rfl (lv_room (Nat.le_of_ble_eq_true rfl)) d_Box_end_20 ⟨Nat.le_of_ble_eq_true rfl, Nat.le_of_ble_eq_true rfl⟩) (fun r hr9 => ?_)
      subst hr9
      refine lv_icmp_le (tgt := 28) hx hb d_Box_end_23 rfl (fun h3 => ?_) (fun h3 => ?_)
      · obtain ⟨d, hd31, rfl⟩ := nI_of h2
        have hd : d ≤ 64 := by rw [hue, show (64 : Int32) = nI 64 from rfl, pk_sub huu, nI_leI hd31 (by omega)] at h3; omega
        refine lv_iload_n hx hb d_Box_end_28 rfl (lv_at hl 0 rfl) ?_
        refine lv_bipush (v := 64) hx hb d_Box_end_29 (by decide) ?_
        refine lv_icmp_ge (tgt := 47) hx hb d_Box_end_31 rfl (fun h4 => ?_) (fun h4 => ?_)
        · refine lv_aload_n hx hb d_Box_end_47 rfl (lv_at hl 1 rfl) ?_
          refine lv_iconst (v := 1) hx hb d_Box_end_48 (by decide) ?_
          refine va_put (D := (dC, dI)) (ci := 0) (v := .int 1) (ty := .boolean) (C := R_Box) (T := F_Box) (N := 7) hx hb hT in_Box t_Box t_Box_ok n_Box hown hK hP hD hS 0 rfl rfl 5 (by decide) (hT _ tw_21) (fun _ h9 => h9) rfl (by decide +kernel) rfl rfl (Nat.le_of_ble_eq_true rfl) d_Box_end_49 (fun H locs hP hD hS => ?_)
          have hP : va_P (dC, dI) classes [(h0, .inr (0, [.ref hr, .int f, .int u, .int nx, .long (lN M), .int 1, .int lf])), (hr, .inl (cB, 64, .inl rg))] H := hP
          have hD : va_D A [(h0, .inr (0, [.ref hr, .int f, .int u, .int nx, .long (lN M), .int 1, .int lf])), (hr, .inl (cB, 64, .inl rg))] := hD
          refine lv_aload_n hx hb d_Box_end_52 rfl (lv_at hl 1 rfl) ?_
          refine lv_iload_n hx hb d_Box_end_53 rfl (lv_at hl 0 rfl) ?_
          refine va_put (D := (dC, dI)) (ci := 0) (v := .int (nI d)) (ty := .int) (C := R_Box) (T := F_Box) (N := 7) hx hb hT in_Box t_Box t_Box_ok n_Box hown hK hP hD hS 0 rfl rfl 6 (by decide) (hT _ tw_22) (fun _ h9 => h9) rfl (by decide +kernel) rfl rfl (Nat.le_of_ble_eq_true rfl) d_Box_end_54 (fun H locs hP hD hS => ?_)
          have hP : va_P (dC, dI) classes [(h0, .inr (0, [.ref hr, .int f, .int u, .int nx, .long (lN M), .int 1, .int (nI d)])), (hr, .inl (cB, 64, .inl rg))] H := hP
          have hD : va_D A [(h0, .inr (0, [.ref hr, .int f, .int u, .int nx, .long (lN M), .int 1, .int (nI d)])), (hr, .inl (cB, 64, .inl rg))] := hD
          refine lv_iconst (v := 1) hx hb d_Box_end_57 (by decide) ?_
          exact W.zret (v := 1) hx hb hr_ rfl (fun t ht hW => ⟨⟨1, (1, nI d), rfl, Or.inl ⟨rfl, ⟨h1, by rw [← e_d0]; exact h2, by rw [← e_d0]; exact h3, fun i hi => mb_big hM (by rw [← e_d0, nI_clamp hd31] at hi; have h9 := (nI_leI (a := 64) (b := d) (by omega) (by omega)).mp h4; omega)⟩, by rw [e_d0]⟩, by rw [ht]; exact hP, va_K.moved hW.alike hK, hD⟩, hS.F ht⟩) hS.2.2 d_Box_end_58
        · have hd4 : d < 64 := by rcases Nat.lt_or_ge d 64 with h | h; exact h; exact absurd (nI_le h hd31) h4
          refine lv_aload_n hx hb d_Box_end_34 rfl (lv_at hl 1 rfl) ?_
          refine va_get (D := (dC, dI)) (ci := 0) (v := .long (lN M)) (C := R_Box) (T := F_Box) (N := 7) hx hb hT in_Box hown hK hP 0 rfl rfl 4 (by decide) (hT _ tw_20) (fun _ h9 => h9) rfl d_Box_end_35 ?_
          refine lv_iload_n hx hb d_Box_end_38 rfl (lv_at hl 0 rfl) ?_
          refine lv_lushr hx hb d_Box_end_39 rfl ?_
          refine lv_lconst (v := 0) hx hb d_Box_end_40 (by decide) ?_
          refine W.lcmp hx hb d_Box_end_41 ?_
          refine lv_if_eq (tgt := 47) hx hb d_Box_end_42 rfl (fun h5 => ?_) (fun h5 => ?_)
          · refine lv_aload_n hx hb d_Box_end_47 rfl (lv_at hl 1 rfl) ?_
            refine lv_iconst (v := 1) hx hb d_Box_end_48 (by decide) ?_
            refine va_put (D := (dC, dI)) (ci := 0) (v := .int 1) (ty := .boolean) (C := R_Box) (T := F_Box) (N := 7) hx hb hT in_Box t_Box t_Box_ok n_Box hown hK hP hD hS 0 rfl rfl 5 (by decide) (hT _ tw_21) (fun _ h9 => h9) rfl (by decide +kernel) rfl rfl (Nat.le_of_ble_eq_true rfl) d_Box_end_49 (fun H locs hP hD hS => ?_)
            have hP : va_P (dC, dI) classes [(h0, .inr (0, [.ref hr, .int f, .int u, .int nx, .long (lN M), .int 1, .int lf])), (hr, .inl (cB, 64, .inl rg))] H := hP
            have hD : va_D A [(h0, .inr (0, [.ref hr, .int f, .int u, .int nx, .long (lN M), .int 1, .int lf])), (hr, .inl (cB, 64, .inl rg))] := hD
            refine lv_aload_n hx hb d_Box_end_52 rfl (lv_at hl 1 rfl) ?_
            refine lv_iload_n hx hb d_Box_end_53 rfl (lv_at hl 0 rfl) ?_
            refine va_put (D := (dC, dI)) (ci := 0) (v := .int (nI d)) (ty := .int) (C := R_Box) (T := F_Box) (N := 7) hx hb hT in_Box t_Box t_Box_ok n_Box hown hK hP hD hS 0 rfl rfl 6 (by decide) (hT _ tw_22) (fun _ h9 => h9) rfl (by decide +kernel) rfl rfl (Nat.le_of_ble_eq_true rfl) d_Box_end_54 (fun H locs hP hD hS => ?_)
            have hP : va_P (dC, dI) classes [(h0, .inr (0, [.ref hr, .int f, .int u, .int nx, .long (lN M), .int 1, .int (nI d)])), (hr, .inl (cB, 64, .inl rg))] H := hP
            have hD : va_D A [(h0, .inr (0, [.ref hr, .int f, .int u, .int nx, .long (lN M), .int 1, .int (nI d)])), (hr, .inl (cB, 64, .inl rg))] := hD
            refine lv_iconst (v := 1) hx hb d_Box_end_57 (by decide) ?_
            exact W.zret (v := 1) hx hb hr_ rfl (fun t ht hW => ⟨⟨1, (1, nI d), rfl, Or.inl ⟨rfl, ⟨h1, by rw [← e_d0]; exact h2, by rw [← e_d0]; exact h3, by rw [← e_d0, nI_clamp hd31]; exact (mb_shr0 hM hd4).mp h5⟩, by rw [e_d0]⟩, by rw [ht]; exact hP, va_K.moved hW.alike hK, hD⟩, hS.F ht⟩) hS.2.2 d_Box_end_58
          · refine lv_iconst (v := 0) hx hb d_Box_end_45 (by decide) ?_
            exact W.zret (v := 0) hx hb hr_ rfl (fun t ht hW => ⟨⟨0, (en, lf), rfl, Or.inr ⟨rfl, fun hn => h5 ((mb_shr0 hM hd4).mpr (by have h9 := hn.2.2.2; rwa [← e_d0, nI_clamp hd31] at h9)), rfl⟩, by rw [ht]; exact hP, va_K.moved hW.alike hK, hD⟩, hS.F ht⟩) hS.2.2 d_Box_end_46
      · refine lv_iconst (v := 0) hx hb d_Box_end_26 (by decide) ?_
        exact W.zret (v := 0) hx hb hr_ rfl (fun t ht hW => ⟨⟨0, (en, lf), rfl, Or.inr ⟨rfl, fun hn => h3 (by rw [e_d0]; exact hn.2.2.1), rfl⟩, by rw [ht]; exact hP, va_K.moved hW.alike hK, hD⟩, hS.F ht⟩) hS.2.2 d_Box_end_27
set_option maxHeartbeats 4000000 in
set_option maxRecDepth 100000 in
/-- read(), nothing unread -/
theorem c_Box_read_0 (l : Launch) (dC : Nat → ClassId) (dI : Nat → Nat → Nat) (h0 hr : Nat) (cB : ClassId) (f nx : Int32) (M : Nat) (en lf : Int32) (rg : Nat → Int32) : Met l y_Box_read w_Box_read rm_0 (va_Pc [.ref h0] (wd dC dI [(h0, .inr (0, [.ref hr, .int f, .int 0, .int nx, .long (lN M), .int en, .int lf])), (hr, .inl (cB, 64, .inl rg))] [(cB, .byte)])) (vp_Si (fun r => (r = -2 ∧ ¬ en = 0 ∧ lf = 0) ∨ (r = -1 ∧ ¬ (¬ en = 0 ∧ lf = 0)))) 0 0 (fun _ => False) := by
  refine Met.ofW (cc := b_Box_read) (maxL := 2) (ret := (some .int)) (by decide) rfl ?_
  intro p e s m args below meth c s₁ B hml hv
  obtain ⟨rfl, hP, hK⟩ := hv
  have hx := B.exec
  have hb := B.bytes
  have hr_ := B.returns
  have hT : ∀ w ∈ tb, w.before _ s = true := fun w hw => atoms_spec (ws := w_Box_read) B.pre w (List.mem_cons_of_mem _ hw)
  have hown : s.vm.findClass R_Box = some m.cls := findClass_of_methodNamed B.named
  have hlocks := B.notSynchronized
  have hP : va_P (dC, dI) classes [(h0, .inr (0, [.ref hr, .int f, .int 0, .int nx, .long (lN M), .int en, .int lf])), (hr, .inl (cB, 64, .inl rg))] s.heap := hP
  have hl := lv_entry ([.ref h0]) (n := 2) (Nat.le_of_ble_eq_true rfl)
  rw [lg_entry_eq]
  generalize (lg_sl ([.ref h0]) ++ List.replicate (2 - (lg_sl ([.ref h0])).length) Slot.unset).toArray = ls at hl ⊢
  have hl : lv_has ls 2 [(0, .ref h0)] := hl
  refine lv_aload_n hx hb d_Box_read_0 rfl (lv_at hl 0 rfl) ?_
  refine va_get (D := (dC, dI)) (ci := 0) (v := .int 0) (C := R_Box) (T := F_Box) (N := 7) hx hb hT in_Box hown hK hP 0 rfl rfl 2 (by decide) (hT _ tw_18) (fun _ h9 => h9) rfl d_Box_read_1 ?_
  refine lv_if_ne (tgt := 28) hx hb d_Box_read_4 rfl (fun h1 => ?_) (fun h1 => ?_)
  · exact absurd rfl h1
  · refine lv_aload_n hx hb d_Box_read_7 rfl (lv_at hl 0 rfl) ?_
    refine va_get (D := (dC, dI)) (ci := 0) (v := .int en) (C := R_Box) (T := F_Box) (N := 7) hx hb hT in_Box hown hK hP 0 rfl rfl 5 (by decide) (hT _ tw_21) (fun _ h9 => h9) rfl d_Box_read_8 ?_
    refine lv_if_eq (tgt := 26) hx hb d_Box_read_11 rfl (fun h2 => ?_) (fun h2 => ?_)
    · refine lv_iconst (v := (-1)) hx hb d_Box_read_26 (by decide) ?_
      exact W.iret (v := (-1)) hx hb hr_ (fun t ht hW => ⟨(-1), rfl, Or.inr ⟨rfl, fun hn => hn.1 h2⟩, ht⟩) (fun q hq => by cases hq) d_Box_read_27
    · refine lv_aload_n hx hb d_Box_read_14 rfl (lv_at hl 0 rfl) ?_
      refine va_get (D := (dC, dI)) (ci := 0) (v := .int lf) (C := R_Box) (T := F_Box) (N := 7) hx hb hT in_Box hown hK hP 0 rfl rfl 6 (by decide) (hT _ tw_22) (fun _ h9 => h9) rfl d_Box_read_15 ?_
      refine lv_if_ne (tgt := 26) hx hb d_Box_read_18 rfl (fun h3 => ?_) (fun h3 => ?_)
      · refine lv_iconst (v := (-1)) hx hb d_Box_read_26 (by decide) ?_
        exact W.iret (v := (-1)) hx hb hr_ (fun t ht hW => ⟨(-1), rfl, Or.inr ⟨rfl, fun hn => h3 hn.2⟩, ht⟩) (fun q hq => by cases hq) d_Box_read_27
      · refine lv_bipush (v := (-2)) hx hb d_Box_read_21 (by decide) ?_
        refine lv_goto (tgt := 27) hx hb d_Box_read_23 rfl ?_
        exact W.iret (v := (-2)) hx hb hr_ (fun t ht hW => ⟨(-2), rfl, Or.inl ⟨rfl, h2, h3⟩, ht⟩) (fun q hq => by cases hq) d_Box_read_27
set_option maxHeartbeats 4000000 in
set_option maxRecDepth 100000 in
/-- read(), something unread -/
theorem c_Box_read_1 (l : Launch) (dC : Nat → ClassId) (dI : Nat → Nat → Nat) (h0 hr : Nat) (cB : ClassId) (ff uu : Nat) (nx : Int32) (M : Nat) (en lf : Int32) (rg : Nat → Int32) (sz : Nat) (hff : ff < 64) (huu : uu < 64) : Met l y_Box_read w_Box_read rm_0 (va_Pc [.ref h0] (we dC dI sz [(h0, .inr (0, [.ref hr, .int (nI ff), .int (nI (uu + 1)), .int nx, .long (lN M), .int en, .int lf])), (hr, .inl (cB, 64, .inl rg))] [(cB, .byte)])) (va_Qi (fun r (_ : Unit) => r = rg ff &&& 255) (fun _ => wz dC dI (va_A [(h0, .inr (0, [.ref hr, .int (nI ff), .int (nI (uu + 1)), .int nx, .long (lN M), .int en, .int lf])), (hr, .inl (cB, 64, .inl rg))] sz) [(h0, .inr (0, [.ref hr, .int (nI ((ff + 1) % 64)), .int (nI uu), .int nx, .long (lN M), .int en, .int lf])), (hr, .inl (cB, 64, .inl rg))] [(cB, .byte)]) (va_A [(h0, .inr (0, [.ref hr, .int (nI ff), .int (nI (uu + 1)), .int nx, .long (lN M), .int en, .int lf])), (hr, .inl (cB, 64, .inl rg))] sz)) 0 0 (va_A [(h0, .inr (0, [.ref hr, .int (nI ff), .int (nI (uu + 1)), .int nx, .long (lN M), .int en, .int lf])), (hr, .inl (cB, 64, .inl rg))] sz) := by
  refine Met.ofW (cc := b_Box_read) (maxL := 2) (ret := (some .int)) (by decide) rfl ?_
  intro p e s m args below meth c s₁ B hml hv
  obtain ⟨rfl, hsz, hP, hK, hD0⟩ := hv
  have hx := B.exec
  have hb := B.bytes
  have hr_ := B.returns
  have hT : ∀ w ∈ tb, w.before _ s = true := fun w hw => atoms_spec (ws := w_Box_read) B.pre w (List.mem_cons_of_mem _ hw)
  have hown : s.vm.findClass R_Box = some m.cls := findClass_of_methodNamed B.named
  have hlocks := B.notSynchronized
  subst hsz
  have hD := hD0.self (sz := s.heap.size)
  generalize hAe : va_A [(h0, .inr (0, [.ref hr, .int (nI ff), .int (nI (uu + 1)), .int nx, .long (lN M), .int en, .int lf])), (hr, .inl (cB, 64, .inl rg))] s.heap.size = A at hD ⊢
  have hA : ∀ q : Nat, s.heap.size ≤ q → A q := fun q h => by rw [← hAe]; exact Or.inr h
  have hS : va_S A s.heap s.heap [] := va_S.rf
  have hP : va_P (dC, dI) classes [(h0, .inr (0, [.ref hr, .int (nI ff), .int (nI (uu + 1)), .int nx, .long (lN M), .int en, .int lf])), (hr, .inl (cB, 64, .inl rg))] s.heap := hP
  have hl := lv_entry ([.ref h0]) (n := 2) (Nat.le_of_ble_eq_true rfl)
  rw [lg_entry_eq]
  generalize (lg_sl ([.ref h0]) ++ List.replicate (2 - (lg_sl ([.ref h0])).length) Slot.unset).toArray = ls at hl ⊢
  have hl : lv_has ls 2 [(0, .ref h0)] := hl
  refine lv_aload_n hx hb d_Box_read_0 rfl (lv_at hl 0 rfl) ?_
  refine va_get (D := (dC, dI)) (ci := 0) (v := .int (nI (uu + 1))) (C := R_Box) (T := F_Box) (N := 7) hx hb hT in_Box hown hK hP 0 rfl rfl 2 (by decide) (hT _ tw_18) (fun _ h9 => h9) rfl d_Box_read_1 ?_
  refine lv_if_ne (tgt := 28) hx hb d_Box_read_4 rfl (fun h1 => ?_) (fun h1 => ?_)
  · refine lv_aload_n hx hb d_Box_read_28 rfl (lv_at hl 0 rfl) ?_
    refine va_get (D := (dC, dI)) (ci := 0) (v := .ref hr) (C := R_Box) (T := F_Box) (N := 7) hx hb hT in_Box hown hK hP 0 rfl rfl 0 (by decide) (hT _ tw_16) (fun _ h9 => h9) rfl d_Box_read_29 ?_
    refine lv_aload_n hx hb d_Box_read_32 rfl (lv_at hl 0 rfl) ?_
    refine va_get (D := (dC, dI)) (ci := 0) (v := .int (nI ff)) (C := R_Box) (T := F_Box) (N := 7) hx hb hT in_Box hown hK hP 0 rfl rfl 1 (by decide) (hT _ tw_17) (fun _ h9 => h9) rfl d_Box_read_33 ?_
    refine va_bald hx hb hK hP 1 0 rfl rfl (vp_in_nI hff (by decide)) d_Box_read_36 ?_
    rw [nI_clamp (by omega)]
    refine lv_sipush (v := 255) hx hb d_Box_read_37 (by decide) ?_
    refine lv_iand hx hb d_Box_read_40 ?_
    refine lv_topi (fun r0 e_r0 => ?_)
    refine lv_istore_n hx hb d_Box_read_41 rfl hl (by decide) rfl (fun ls hl => ?_)
    have hl : lv_has ls 2 [(1, .int r0), (0, .ref h0)] := hl
    refine lv_aload_n hx hb d_Box_read_42 rfl (lv_at hl 1 rfl) ?_
    refine lv_aload_n hx hb d_Box_read_43 rfl (lv_at hl 1 rfl) ?_
    refine va_get (D := (dC, dI)) (ci := 0) (v := .int (nI ff)) (C := R_Box) (T := F_Box) (N := 7) hx hb hT in_Box hown hK hP 0 rfl rfl 1 (by decide) (hT _ tw_17) (fun _ h9 => h9) rfl d_Box_read_44 ?_
    refine lv_iconst (v := 1) hx hb d_Box_read_47 (by decide) ?_
    refine lv_iadd hx hb d_Box_read_48 ?_
    refine lv_bipush (v := 63) hx hb d_Box_read_49 (by decide) ?_
    refine lv_iand hx hb d_Box_read_51 ?_
    refine lv_topi (fun y9 e9 => ?_)
    obtain rfl : y9 = (nI ((ff + 1) % 64) : Int32) := by rw [e9]; rw [nI_1, pk_andN (by omega) 6 (by decide)]
    refine va_put (D := (dC, dI)) (ci := 0) (v := .int (nI ((ff + 1) % 64))) (ty := .int) (C := R_Box) (T := F_Box) (N := 7) hx hb hT in_Box t_Box t_Box_ok n_Box hown hK hP hD hS 0 rfl rfl 1 (by decide) (hT _ tw_17) (fun _ h9 => h9) rfl (by decide +kernel) rfl rfl (Nat.le_of_ble_eq_true rfl) d_Box_read_52 (fun H locs hP hD hS => ?_)
    have hP : va_P (dC, dI) classes [(h0, .inr (0, [.ref hr, .int (nI ((ff + 1) % 64)), .int (nI (uu + 1)), .int nx, .long (lN M), .int en, .int lf])), (hr, .inl (cB, 64, .inl rg))] H := hP
    have hD : va_D A [(h0, .inr (0, [.ref hr, .int (nI ((ff + 1) % 64)), .int (nI (uu + 1)), .int nx, .long (lN M), .int en, .int lf])), (hr, .inl (cB, 64, .inl rg))] := hD
    refine lv_aload_n hx hb d_Box_read_55 rfl (lv_at hl 1 rfl) ?_
    refine lv_dup hx hb d_Box_read_56 rfl ?_
    refine va_get (D := (dC, dI)) (ci := 0) (v := .int (nI (uu + 1))) (C := R_Box) (T := F_Box) (N := 7) hx hb hT in_Box hown hK hP 0 rfl rfl 2 (by decide) (hT _ tw_18) (fun _ h9 => h9) rfl d_Box_read_57 ?_
    refine lv_iconst (v := 1) hx hb d_Box_read_60 (by decide) ?_
    refine lv_isub hx hb d_Box_read_61 ?_
    refine lv_topi (fun y9 e9 => ?_)
    obtain rfl : y9 = (nI uu : Int32) := by rw [e9]; rw [nI_pred]
    refine va_put (D := (dC, dI)) (ci := 0) (v := .int (nI uu)) (ty := .int) (C := R_Box) (T := F_Box) (N := 7) hx hb hT in_Box t_Box t_Box_ok n_Box hown hK hP hD hS 0 rfl rfl 2 (by decide) (hT _ tw_18) (fun _ h9 => h9) rfl (by decide +kernel) rfl rfl (Nat.le_of_ble_eq_true rfl) d_Box_read_62 (fun H locs hP hD hS => ?_)
    have hP : va_P (dC, dI) classes [(h0, .inr (0, [.ref hr, .int (nI ((ff + 1) % 64)), .int (nI uu), .int nx, .long (lN M), .int en, .int lf])), (hr, .inl (cB, 64, .inl rg))] H := hP
    have hD : va_D A [(h0, .inr (0, [.ref hr, .int (nI ((ff + 1) % 64)), .int (nI uu), .int nx, .long (lN M), .int en, .int lf])), (hr, .inl (cB, 64, .inl rg))] := hD
    refine lv_iload_n hx hb d_Box_read_65 rfl (lv_at hl 0 rfl) ?_
    exact W.iret (v := r0) hx hb hr_ (fun t ht hW => ⟨⟨r0, (), rfl, e_r0, by rw [ht]; exact hP, va_K.moved hW.alike hK, hD⟩, hS.F ht⟩) hS.2.2 d_Box_read_66
  · exact absurd h1 (nI_ne0 (by omega) (by omega))
set_option maxHeartbeats 4000000 in
set_option maxRecDepth 100000 in
/-- segment(n, v, k), k in 0..8 -/
theorem c_Box_segment (l : Launch) (dC : Nat → ClassId) (dI : Nat → Nat → Nat) (h0 hr : Nat) (cB : ClassId) (ff uu : Nat) (nx : Int32) (M : Nat) (en lf : Int32) (rg : Nat → Int32) (sz : Nat) (n : Int32) (v : Int64) (k : Nat) (hff : ff < 64) (huu : uu ≤ 64) (hk : k ≤ 8) (hM : M < 2 ^ 64) : Met l y_Box_segment w_Box_segment rm_2 (va_Pc [.ref h0, .int n, .long v, .int (nI k)] (we dC dI sz [(h0, .inr (0, [.ref hr, .int (nI ff), .int (nI uu), .int nx, .long (lN M), .int en, .int lf])), (hr, .inl (cB, 64, .inl rg))] [(cB, .byte)])) (va_Qi (fun r (q : Nat × (Nat → Int32) × Nat) => (q.1, q.2.1) = bs_fill ff uu nx en lf n v k (M, rg) ∧ q.1 < 2 ^ 64 ∧ r = nI q.2.2 ∧ (∀ i, i < q.2.2 → q.1.testBit i = true) ∧ q.1.testBit q.2.2 = false) (fun q => wz dC dI (va_A [(h0, .inr (0, [.ref hr, .int (nI ff), .int (nI uu), .int nx, .long (lN M), .int en, .int lf])), (hr, .inl (cB, 64, .inl rg))] sz) [(h0, .inr (0, [.ref hr, .int (nI ff), .int (nI (uu + q.2.2)), .int (nx + nI q.2.2), .long (lN (q.1 / 2 ^ q.2.2)), .int en, .int (lf - nI q.2.2)])), (hr, .inl (cB, 64, .inl (q.2.1)))] [(cB, .byte)]) (va_A [(h0, .inr (0, [.ref hr, .int (nI ff), .int (nI uu), .int nx, .long (lN M), .int en, .int lf])), (hr, .inl (cB, 64, .inl rg))] sz)) 0 0 (va_A [(h0, .inr (0, [.ref hr, .int (nI ff), .int (nI uu), .int nx, .long (lN M), .int en, .int lf])), (hr, .inl (cB, 64, .inl rg))] sz) := by
  refine Met.ofW (cc := b_Box_segment) (maxL := 7) (ret := (some .int)) (by decide) rfl ?_
  intro p e s m args below meth c s₁ B hml hv
  obtain ⟨rfl, hsz, hP, hK, hD0⟩ := hv
  have hx := B.exec
  have hb := B.bytes
  have hr_ := B.returns
  have hT : ∀ w ∈ tb, w.before _ s = true := fun w hw => atoms_spec (ws := w_Box_segment) B.pre w (List.mem_cons_of_mem _ hw)
  have hown : s.vm.findClass R_Box = some m.cls := findClass_of_methodNamed B.named
  have hlocks := B.notSynchronized
  subst hsz
  have hD := hD0.self (sz := s.heap.size)
  generalize hAe : va_A [(h0, .inr (0, [.ref hr, .int (nI ff), .int (nI uu), .int nx, .long (lN M), .int en, .int lf])), (hr, .inl (cB, 64, .inl rg))] s.heap.size = A at hD ⊢
  have hA : ∀ q : Nat, s.heap.size ≤ q → A q := fun q h => by rw [← hAe]; exact Or.inr h
  have hS : va_S A s.heap s.heap [] := va_S.rf
  have hP : va_P (dC, dI) classes [(h0, .inr (0, [.ref hr, .int (nI ff), .int (nI uu), .int nx, .long (lN M), .int en, .int lf])), (hr, .inl (cB, 64, .inl rg))] s.heap := hP
  have hl := lv_entry ([.ref h0, .int n, .long v, .int (nI k)]) (n := 7) (Nat.le_of_ble_eq_true rfl)
  rw [lg_entry_eq]
  generalize (lg_sl ([.ref h0, .int n, .long v, .int (nI k)]) ++ List.replicate (7 - (lg_sl ([.ref h0, .int n, .long v, .int (nI k)])).length) Slot.unset).toArray = ls at hl ⊢
  have hl : lv_has ls 7 [(0, .ref h0), (1, .int n), (2, .long v), (4, .int (nI k))] := hl
  have drain : ∀ (M1 : Nat) (r1 : Nat → Int32), (M1, r1) = bs_fill ff uu nx en lf n v k (M, rg) → M1 < 2 ^ 64 → ∀ (q0 i : Nat) (ls : Array Slot) (H : Heap) (locs : List Loc), M1 / 2 ^ i = q0 → (∀ a, a < i → M1.testBit a = true) → lv_has ls 7 [(5, .int (nI uu)), (0, .ref h0)] → va_P (dC, dI) classes [(h0, .inr (0, [.ref hr, .int (nI ff), .int (nI (uu + i)), .int (nx + nI i), .long (lN (M1 / 2 ^ i)), .int en, .int (lf - nI i)])), (hr, .inl (cB, 64, .inl r1))] H → va_D A [(h0, .inr (0, [.ref hr, .int (nI ff), .int (nI (uu + i)), .int (nx + nI i), .long (lN (M1 / 2 ^ i)), .int en, .int (lf - nI i)])), (hr, .inl (cB, 64, .inl r1))] → va_S A s.heap H locs → W p l e (headSpec w_Box_segment rm_2).room s m ([.ref h0, .int n, .long v, .int (nI k)] : List Value).toArray below meth c H locs 0 0 (MQ below (va_Qi (fun r (q : Nat × (Nat → Int32) × Nat) => (q.1, q.2.1) = bs_fill ff uu nx en lf n v k (M, rg) ∧ q.1 < 2 ^ 64 ∧ r = nI q.2.2 ∧ (∀ i, i < q.2.2 → q.1.testBit i = true) ∧ q.1.testBit q.2.2 = false) (fun q => wz dC dI A [(h0, .inr (0, [.ref hr, .int (nI ff), .int (nI (uu + q.2.2)), .int (nx + nI q.2.2), .long (lN (q.1 / 2 ^ q.2.2)), .int en, .int (lf - nI q.2.2)])), (hr, .inl (cB, 64, .inl (q.2.1)))] [(cB, .byte)]) A) ([.ref h0, .int n, .long v, .int (nI k)] : List Value).toArray s 0 0 A) (F0 m 121 ls []) := by
    intro M1 r1 hfill hM1 q0
    induction q0 using Nat.strongRecOn with
    | ind q0 ih =>
      intro i ls H locs hq hall hl hP hD hS
      have hlt : M1 / 2 ^ i < 2 ^ 64 := Nat.lt_of_le_of_lt (Nat.div_le_self _ _) hM1
      have hb0 : (M1 / 2 ^ i).testBit 0 = M1.testBit i := by rw [mb_div, Nat.add_zero]
      refine lv_aload_n hx hb d_Box_segment_121 rfl (lv_at hl 1 rfl) ?_
      refine va_get (D := (dC, dI)) (ci := 0) (v := .long (lN (M1 / 2 ^ i))) (C := R_Box) (T := F_Box) (N := 7) hx hb hT in_Box hown hK hP 0 rfl rfl 4 (by decide) (hT _ tw_20) (fun _ h9 => h9) rfl d_Box_segment_122 ?_
      refine lv_lconst (v := 1) hx hb d_Box_segment_125 (by decide) ?_
      refine lv_land hx hb d_Box_segment_126 ?_
      refine lv_lconst (v := 1) hx hb d_Box_segment_127 (by decide) ?_
      refine W.lcmp hx hb d_Box_segment_128 ?_
      refine lv_if_ne (tgt := 175) hx hb d_Box_segment_129 rfl (fun h1 => ?_) (fun h1 => ?_)
      · refine lv_aload_n hx hb d_Box_segment_175 rfl (lv_at hl 1 rfl) ?_
        refine va_get (D := (dC, dI)) (ci := 0) (v := .int (nI (uu + i))) (C := R_Box) (T := F_Box) (N := 7) hx hb hT in_Box hown hK hP 0 rfl rfl 2 (by decide) (hT _ tw_18) (fun _ h9 => h9) rfl d_Box_segment_176 ?_
        refine lv_iload hx hb d_Box_segment_179 (lv_at hl 0 rfl) ?_
        refine lv_isub hx hb d_Box_segment_181 ?_
        refine lv_topi (fun y9 e9 => ?_)
        obtain rfl : y9 = (nI i : Int32) := by rw [e9]; rw [pk_sub (by omega)]; congr 1; omega
        exact W.iret (v := nI i) hx hb hr_ (fun t ht hW => ⟨⟨nI i, (M1, r1, i), rfl, ⟨hfill, hM1, rfl, hall, by rw [← hb0]; simpa using (fun q => h1 ((mb_odd hlt).mpr q))⟩, by rw [ht]; exact hP, va_K.moved hW.alike hK, hD⟩, hS.F ht⟩) hS.2.2 d_Box_segment_182
      · have hodd := (mb_odd hlt).mp h1
        refine lv_aload_n hx hb d_Box_segment_132 rfl (lv_at hl 1 rfl) ?_
        refine lv_aload_n hx hb d_Box_segment_133 rfl (lv_at hl 1 rfl) ?_
        refine va_get (D := (dC, dI)) (ci := 0) (v := .long (lN (M1 / 2 ^ i))) (C := R_Box) (T := F_Box) (N := 7) hx hb hT in_Box hown hK hP 0 rfl rfl 4 (by decide) (hT _ tw_20) (fun _ h9 => h9) rfl d_Box_segment_134 ?_
        refine lv_iconst (v := 1) hx hb d_Box_segment_137 (by decide) ?_
        refine lv_lushr (v := lN (M1 / 2 ^ (i + 1))) hx hb d_Box_segment_138 (by rw [mb_half hlt, Nat.div_div_eq_div_mul, ← Nat.pow_succ]) ?_
        refine va_put (D := (dC, dI)) (ci := 0) (v := .long (lN (M1 / 2 ^ (i + 1)))) (ty := .long) (C := R_Box) (T := F_Box) (N := 7) hx hb hT in_Box t_Box t_Box_ok n_Box hown hK hP hD hS 0 rfl rfl 4 (by decide) (hT _ tw_20) (fun _ h9 => h9) rfl (by decide +kernel) rfl rfl (Nat.le_of_ble_eq_true rfl) d_Box_segment_139 (fun H locs hP hD hS => ?_)
        have hP : va_P (dC, dI) classes [(h0, .inr (0, [.ref hr, .int (nI ff), .int (nI (uu + i)), .int (nx + nI i), .long (lN (M1 / 2 ^ (i + 1))), .int en, .int (lf - nI i)])), (hr, .inl (cB, 64, .inl r1))] H := hP
        have hD : va_D A [(h0, .inr (0, [.ref hr, .int (nI ff), .int (nI (uu + i)), .int (nx + nI i), .long (lN (M1 / 2 ^ (i + 1))), .int en, .int (lf - nI i)])), (hr, .inl (cB, 64, .inl r1))] := hD
        refine lv_aload_n hx hb d_Box_segment_142 rfl (lv_at hl 1 rfl) ?_
        refine lv_dup hx hb d_Box_segment_143 rfl ?_
        refine va_get (D := (dC, dI)) (ci := 0) (v := .int (nI (uu + i))) (C := R_Box) (T := F_Box) (N := 7) hx hb hT in_Box hown hK hP 0 rfl rfl 2 (by decide) (hT _ tw_18) (fun _ h9 => h9) rfl d_Box_segment_144 ?_
        refine lv_iconst (v := 1) hx hb d_Box_segment_147 (by decide) ?_
        refine lv_iadd hx hb d_Box_segment_148 ?_
        refine lv_topi (fun y9 e9 => ?_)
        obtain rfl : y9 = (nI (uu + (i + 1)) : Int32) := by rw [e9]; rw [nI_1]; rfl
        refine va_put (D := (dC, dI)) (ci := 0) (v := .int (nI (uu + (i + 1)))) (ty := .int) (C := R_Box) (T := F_Box) (N := 7) hx hb hT in_Box t_Box t_Box_ok n_Box hown hK hP hD hS 0 rfl rfl 2 (by decide) (hT _ tw_18) (fun _ h9 => h9) rfl (by decide +kernel) rfl rfl (Nat.le_of_ble_eq_true rfl) d_Box_segment_149 (fun H locs hP hD hS => ?_)
        have hP : va_P (dC, dI) classes [(h0, .inr (0, [.ref hr, .int (nI ff), .int (nI (uu + (i + 1))), .int (nx + nI i), .long (lN (M1 / 2 ^ (i + 1))), .int en, .int (lf - nI i)])), (hr, .inl (cB, 64, .inl r1))] H := hP
        have hD : va_D A [(h0, .inr (0, [.ref hr, .int (nI ff), .int (nI (uu + (i + 1))), .int (nx + nI i), .long (lN (M1 / 2 ^ (i + 1))), .int en, .int (lf - nI i)])), (hr, .inl (cB, 64, .inl r1))] := hD
        refine lv_aload_n hx hb d_Box_segment_152 rfl (lv_at hl 1 rfl) ?_
        refine lv_dup hx hb d_Box_segment_153 rfl ?_
        refine va_get (D := (dC, dI)) (ci := 0) (v := .int (nx + nI i)) (C := R_Box) (T := F_Box) (N := 7) hx hb hT in_Box hown hK hP 0 rfl rfl 3 (by decide) (hT _ tw_19) (fun _ h9 => h9) rfl d_Box_segment_154 ?_
        refine lv_iconst (v := 1) hx hb d_Box_segment_157 (by decide) ?_
        refine lv_iadd hx hb d_Box_segment_158 ?_
        refine lv_topi (fun y9 e9 => ?_)
        obtain rfl : y9 = (nx + nI (i + 1) : Int32) := by rw [e9]; exact i_add1 _ _
        refine va_put (D := (dC, dI)) (ci := 0) (v := .int (nx + nI (i + 1))) (ty := .int) (C := R_Box) (T := F_Box) (N := 7) hx hb hT in_Box t_Box t_Box_ok n_Box hown hK hP hD hS 0 rfl rfl 3 (by decide) (hT _ tw_19) (fun _ h9 => h9) rfl (by decide +kernel) rfl rfl (Nat.le_of_ble_eq_true rfl) d_Box_segment_159 (fun H locs hP hD hS => ?_)
        have hP : va_P (dC, dI) classes [(h0, .inr (0, [.ref hr, .int (nI ff), .int (nI (uu + (i + 1))), .int (nx + nI (i + 1)), .long (lN (M1 / 2 ^ (i + 1))), .int en, .int (lf - nI i)])), (hr, .inl (cB, 64, .inl r1))] H := hP
        have hD : va_D A [(h0, .inr (0, [.ref hr, .int (nI ff), .int (nI (uu + (i + 1))), .int (nx + nI (i + 1)), .long (lN (M1 / 2 ^ (i + 1))), .int en, .int (lf - nI i)])), (hr, .inl (cB, 64, .inl r1))] := hD
        refine lv_aload_n hx hb d_Box_segment_162 rfl (lv_at hl 1 rfl) ?_
        refine lv_dup hx hb d_Box_segment_163 rfl ?_
        refine va_get (D := (dC, dI)) (ci := 0) (v := .int (lf - nI i)) (C := R_Box) (T := F_Box) (N := 7) hx hb hT in_Box hown hK hP 0 rfl rfl 6 (by decide) (hT _ tw_22) (fun _ h9 => h9) rfl d_Box_segment_164 ?_
        refine lv_iconst (v := 1) hx hb d_Box_segment_167 (by decide) ?_
        refine lv_isub hx hb d_Box_segment_168 ?_
        refine lv_topi (fun y9 e9 => ?_)
        obtain rfl : y9 = (lf - nI (i + 1) : Int32) := by rw [e9]; exact i_sub1 _ _
        refine va_put (D := (dC, dI)) (ci := 0) (v := .int (lf - nI (i + 1))) (ty := .int) (C := R_Box) (T := F_Box) (N := 7) hx hb hT in_Box t_Box t_Box_ok n_Box hown hK hP hD hS 0 rfl rfl 6 (by decide) (hT _ tw_22) (fun _ h9 => h9) rfl (by decide +kernel) rfl rfl (Nat.le_of_ble_eq_true rfl) d_Box_segment_169 (fun H locs hP hD hS => ?_)
        have hP : va_P (dC, dI) classes [(h0, .inr (0, [.ref hr, .int (nI ff), .int (nI (uu + (i + 1))), .int (nx + nI (i + 1)), .long (lN (M1 / 2 ^ (i + 1))), .int en, .int (lf - nI (i + 1))])), (hr, .inl (cB, 64, .inl r1))] H := hP
        have hD : va_D A [(h0, .inr (0, [.ref hr, .int (nI ff), .int (nI (uu + (i + 1))), .int (nx + nI (i + 1)), .long (lN (M1 / 2 ^ (i + 1))), .int en, .int (lf - nI (i + 1))])), (hr, .inl (cB, 64, .inl r1))] := hD
        refine lv_goto (tgt := 121) hx hb d_Box_segment_172 rfl ?_
        have hpos : M1 / 2 ^ i ≠ 0 := fun h0 => by rw [h0, Nat.zero_testBit] at hodd; cases hodd
        refine ih (M1 / 2 ^ (i + 1)) ?_ (i + 1) ls H locs rfl (lt_s hall (by rw [← hb0]; exact hodd)) (lv_sub hl [0, 1] rfl) hP hD hS
        rw [← hq, Nat.pow_succ, ← Nat.div_div_eq_div_mul]; omega
  have fill : ∀ (c0 j : Nat) (M1 : Nat) (r1 : Nat → Int32) (ls : Array Slot) (H : Heap) (locs : List Loc), c0 + j = k → (M1, r1) = bs_fill ff uu nx en lf n v j (M, rg) → M1 < 2 ^ 64 → lv_has ls 7 [(5, .int (nI j)), (4, .int (nI k)), (2, .long v), (1, .int n), (0, .ref h0)] → va_P (dC, dI) classes [(h0, .inr (0, [.ref hr, .int (nI ff), .int (nI uu), .int nx, .long (lN M1), .int en, .int lf])), (hr, .inl (cB, 64, .inl r1))] H → va_D A [(h0, .inr (0, [.ref hr, .int (nI ff), .int (nI uu), .int nx, .long (lN M1), .int en, .int lf])), (hr, .inl (cB, 64, .inl r1))] → va_S A s.heap H locs → W p l e (headSpec w_Box_segment rm_2).room s m ([.ref h0, .int n, .long v, .int (nI k)] : List Value).toArray below meth c H locs 0 0 (MQ below (va_Qi (fun r (q : Nat × (Nat → Int32) × Nat) => (q.1, q.2.1) = bs_fill ff uu nx en lf n v k (M, rg) ∧ q.1 < 2 ^ 64 ∧ r = nI q.2.2 ∧ (∀ i, i < q.2.2 → q.1.testBit i = true) ∧ q.1.testBit q.2.2 = false) (fun q => wz dC dI A [(h0, .inr (0, [.ref hr, .int (nI ff), .int (nI (uu + q.2.2)), .int (nx + nI q.2.2), .long (lN (q.1 / 2 ^ q.2.2)), .int en, .int (lf - nI q.2.2)])), (hr, .inl (cB, 64, .inl (q.2.1)))] [(cB, .byte)]) A) ([.ref h0, .int n, .long v, .int (nI k)] : List Value).toArray s 0 0 A) (F0 m 23 ls []) := by
    intro c0
    induction c0 with
    | zero =>
      intro j M1 r1 ls H locs hj hfill hM1 hl hP hD hS
      obtain rfl : k = j := by omega
      refine lv_iload hx hb d_Box_segment_23 (lv_at hl 0 rfl) ?_
      refine lv_iload hx hb d_Box_segment_25 (lv_at hl 1 rfl) ?_
      refine lv_icmp_ge (tgt := 115) hx hb d_Box_segment_27 rfl (fun h1 => ?_) (fun h1 => ?_)
      · refine lv_aload_n hx hb d_Box_segment_115 rfl (lv_at hl 4 rfl) ?_
        refine va_get (D := (dC, dI)) (ci := 0) (v := .int (nI uu)) (C := R_Box) (T := F_Box) (N := 7) hx hb hT in_Box hown hK hP 0 rfl rfl 2 (by decide) (hT _ tw_18) (fun _ h9 => h9) rfl d_Box_segment_116 ?_
        refine lv_istore hx hb d_Box_segment_119 hl (by decide) rfl (fun ls hl => ?_)
        have hl : lv_has ls 7 [(5, .int (nI uu)), (4, .int (nI k)), (2, .long v), (1, .int n), (0, .ref h0)] := hl
        have e0 : M1 / 2 ^ 0 = M1 := by rw [Nat.pow_zero, Nat.div_one]
        refine drain M1 r1 hfill hM1 M1 0 ls H locs e0 lt_0 (lv_sub hl [0, 4] rfl) ?_ ?_ hS
        · rw [e0, Nat.add_zero, show nx + nI 0 = nx from Int32.add_zero nx, show lf - nI 0 = lf from Int32.sub_zero lf]; exact hP
        · rw [e0, Nat.add_zero, show nx + nI 0 = nx from Int32.add_zero nx, show lf - nI 0 = lf from Int32.sub_zero lf]; exact hD
      · exact absurd (nI_le (Nat.le_refl _) (by omega)) h1
    | succ c0 ih =>
      intro j M1 r1 ls H locs hj hfill hM1 hl hP hD hS
      refine lv_iload hx hb d_Box_segment_23 (lv_at hl 0 rfl) ?_
      refine lv_iload hx hb d_Box_segment_25 (lv_at hl 1 rfl) ?_
      refine lv_icmp_ge (tgt := 115) hx hb d_Box_segment_27 rfl (fun h1 => ?_) (fun h1 => ?_)
      · exact absurd h1 (Int32.not_le.mpr (nI_lt (by omega) (by omega)))
      · refine lv_iload_n hx hb d_Box_segment_30 rfl (lv_at hl 3 rfl) ?_
        refine lv_iload hx hb d_Box_segment_31 (lv_at hl 0 rfl) ?_
        refine lv_iadd hx hb d_Box_segment_33 ?_
        refine lv_aload_n hx hb d_Box_segment_34 rfl (lv_at hl 4 rfl) ?_
        refine va_get (D := (dC, dI)) (ci := 0) (v := .int nx) (C := R_Box) (T := F_Box) (N := 7) hx hb hT in_Box hown hK hP 0 rfl rfl 3 (by decide) (hT _ tw_19) (fun _ h9 => h9) rfl d_Box_segment_35 ?_
        refine lv_isub hx hb d_Box_segment_38 ?_
        refine lv_topi (fun d0 e_d0 => ?_)
        refine lv_istore hx hb d_Box_segment_39 hl (by decide) rfl (fun ls hl => ?_)
        have hl : lv_has ls 7 [(6, .int d0), (5, .int (nI j)), (4, .int (nI k)), (2, .long v), (1, .int n), (0, .ref h0)] := hl
        refine lv_aload_n hx hb d_Box_segment_41 rfl (lv_at hl 5 rfl) ?_
        refine lv_iload hx hb d_Box_segment_42 (lv_at hl 0 rfl) ?_
        refine vp_callSi (W.runV (As := [.int d0]) (rest := []) ⟨hx, hb, hml, hown, hT⟩ (c_Box_isNear l dC dI h0 hr cB (nI ff) (nI uu) nx M1 en lf r1 d0) (cwV 1 hT (tb_wsV tw_129 tw_131 ts_2 tw_1 tw_132) rfl rfl rfl (by decide +kernel) ⟨Nat.le_of_ble_eq_true rfl, Nat.le_of_ble_eq_true rfl⟩) ⟨wd_blind, va_recv hK hP (q0 := 0) rfl rfl, wd_at hK hP⟩ rfl rfl hl.1 rfl (lv_room (Nat.le_of_ble_eq_true rfl)) d_Box_segment_44 ⟨Nat.le_of_ble_eq_true rfl, Nat.le_of_ble_eq_true rfl⟩) (fun r hr9 => ?_)
        refine lv_if_eq (tgt := 109) hx hb d_Box_segment_47 rfl (fun h2 => ?_) (fun h2 => ?_)
        · have hfar : ¬ bx_near (nI uu) en lf (n + nI j - nx) := by rcases hr9 with ⟨e1, e2⟩ | ⟨e1, e2⟩; exact absurd (e1.symm.trans h2) (by decide); rw [← e_d0]; exact e2
          refine lv_iinc (v := nI (j + 1)) hx hb d_Box_segment_109 hl (k := 1) rfl (by rw [← nI_1]; rfl) (by decide) rfl (fun ls hl => ?_)
          have hl : lv_has ls 7 [(5, .int (nI (j + 1))), (6, .int d0), (4, .int (nI k)), (2, .long v), (1, .int n), (0, .ref h0)] := hl
          refine lv_goto (tgt := 23) hx hb d_Box_segment_112 rfl ?_
          refine ih (j + 1) _ _ ls H locs (by omega) ?_ ?_ (lv_sub hl [0, 2, 3, 4, 5] rfl) hP hD hS
          · show _ = bs_put _ _ _ _ _ _ _ _ _; rw [← hfill, bs_skip (fun hn => hfar hn.1)]
          · exact hM1
        · have hnear : bx_near (nI uu) en lf d0 := by rcases hr9 with ⟨e1, e2⟩ | ⟨e1, e2⟩; exact e2; exact absurd e1 h2
          obtain ⟨d, hd, rfl⟩ := bs_d huu hnear
          refine lv_aload_n hx hb d_Box_segment_50 rfl (lv_at hl 5 rfl) ?_
          refine va_get (D := (dC, dI)) (ci := 0) (v := .long (lN M1)) (C := R_Box) (T := F_Box) (N := 7) hx hb hT in_Box hown hK hP 0 rfl rfl 4 (by decide) (hT _ tw_20) (fun _ h9 => h9) rfl d_Box_segment_51 ?_
          refine lv_iload hx hb d_Box_segment_54 (lv_at hl 0 rfl) ?_
          refine lv_lushr hx hb d_Box_segment_56 rfl ?_
          refine lv_lconst (v := 1) hx hb d_Box_segment_57 (by decide) ?_
          refine lv_land hx hb d_Box_segment_58 ?_
          refine lv_lconst (v := 1) hx hb d_Box_segment_59 (by decide) ?_
          refine W.lcmp hx hb d_Box_segment_60 ?_
          refine lv_if_ne (tgt := 67) hx hb d_Box_segment_61 rfl (fun h3 => ?_) (fun h3 => ?_)
          · have hbit : M1.testBit d = false := by simpa using (fun q => h3 ((mb_bit hM1 (by omega)).mpr q))
            refine lv_aload_n hx hb d_Box_segment_67 rfl (lv_at hl 5 rfl) ?_
            refine lv_dup hx hb d_Box_segment_68 rfl ?_
            refine va_get (D := (dC, dI)) (ci := 0) (v := .long (lN M1)) (C := R_Box) (T := F_Box) (N := 7) hx hb hT in_Box hown hK hP 0 rfl rfl 4 (by decide) (hT _ tw_20) (fun _ h9 => h9) rfl d_Box_segment_69 ?_
            refine lv_lconst (v := 1) hx hb d_Box_segment_72 (by decide) ?_
            refine lv_iload hx hb d_Box_segment_73 (lv_at hl 0 rfl) ?_
            refine lv_lshl hx hb d_Box_segment_75 rfl ?_
            refine lv_lor hx hb d_Box_segment_76 ?_
            refine lv_topl (fun y9 e9 => ?_)
            obtain rfl : y9 = (lN (M1 ||| 2 ^ d) : Int64) := by rw [e9]; rw [mb_set hM1 (by omega)]
            refine va_put (D := (dC, dI)) (ci := 0) (v := .long (lN (M1 ||| 2 ^ d))) (ty := .long) (C := R_Box) (T := F_Box) (N := 7) hx hb hT in_Box t_Box t_Box_ok n_Box hown hK hP hD hS 0 rfl rfl 4 (by decide) (hT _ tw_20) (fun _ h9 => h9) rfl (by decide +kernel) rfl rfl (Nat.le_of_ble_eq_true rfl) d_Box_segment_77 (fun H locs hP hD hS => ?_)
            have hP : va_P (dC, dI) classes [(h0, .inr (0, [.ref hr, .int (nI ff), .int (nI uu), .int nx, .long (lN (M1 ||| 2 ^ d)), .int en, .int lf])), (hr, .inl (cB, 64, .inl r1))] H := hP
            have hD : va_D A [(h0, .inr (0, [.ref hr, .int (nI ff), .int (nI uu), .int nx, .long (lN (M1 ||| 2 ^ d)), .int en, .int lf])), (hr, .inl (cB, 64, .inl r1))] := hD
            refine lv_aload_n hx hb d_Box_segment_80 rfl (lv_at hl 5 rfl) ?_
            refine va_get (D := (dC, dI)) (ci := 0) (v := .ref hr) (C := R_Box) (T := F_Box) (N := 7) hx hb hT in_Box hown hK hP 0 rfl rfl 0 (by decide) (hT _ tw_16) (fun _ h9 => h9) rfl d_Box_segment_81 ?_
            refine lv_aload_n hx hb d_Box_segment_84 rfl (lv_at hl 5 rfl) ?_
            refine va_get (D := (dC, dI)) (ci := 0) (v := .int (nI ff)) (C := R_Box) (T := F_Box) (N := 7) hx hb hT in_Box hown hK hP 0 rfl rfl 1 (by decide) (hT _ tw_17) (fun _ h9 => h9) rfl d_Box_segment_85 ?_
            refine lv_aload_n hx hb d_Box_segment_88 rfl (lv_at hl 5 rfl) ?_
            refine va_get (D := (dC, dI)) (ci := 0) (v := .int (nI uu)) (C := R_Box) (T := F_Box) (N := 7) hx hb hT in_Box hown hK hP 0 rfl rfl 2 (by decide) (hT _ tw_18) (fun _ h9 => h9) rfl d_Box_segment_89 ?_
            refine lv_iadd hx hb d_Box_segment_92 ?_
            refine lv_iload hx hb d_Box_segment_93 (lv_at hl 0 rfl) ?_
            refine lv_iadd hx hb d_Box_segment_95 ?_
            refine lv_bipush (v := 63) hx hb d_Box_segment_96 (by decide) ?_
            refine lv_iand hx hb d_Box_segment_98 ?_
            refine lv_topi (fun y9 e9 => ?_)
            obtain rfl : y9 = (nI ((ff + uu + d) % 64) : Int32) := by rw [e9]; rw [nI_add, nI_add, pk_andN (by omega) 6 (by decide)]
            refine lv_lload_n hx hb d_Box_segment_99 rfl (lv_at hl 3 rfl) ?_
            refine lv_bipush (v := 8) hx hb d_Box_segment_100 (by decide) ?_
            refine lv_iload hx hb d_Box_segment_102 (lv_at hl 1 rfl) ?_
            refine lv_imul hx hb d_Box_segment_104 ?_
            refine lv_lushr hx hb d_Box_segment_105 rfl ?_
            refine lv_l2i hx hb d_Box_segment_106 rfl ?_
            refine lv_i2b hx hb d_Box_segment_107 rfl ?_
            refine va_bast hx hb hK hP hD hS 1 0 rfl rfl (vp_in_nI (Nat.mod_lt _ (by decide)) (by decide)) d_Box_segment_108 (fun H locs hP hD hS => ?_)
            rw [nI_clamp (Nat.lt_of_lt_of_le (Nat.mod_lt _ (by decide)) (by decide))] at hP hD
            have hP : va_P (dC, dI) classes [(h0, .inr (0, [.ref hr, .int (nI ff), .int (nI uu), .int nx, .long (lN (M1 ||| 2 ^ d)), .int en, .int lf])), (hr, .inl (cB, 64, .inl (upd r1 ((ff + uu + d) % 64) (bs_b v j))))] H := hP
            have hD : va_D A [(h0, .inr (0, [.ref hr, .int (nI ff), .int (nI uu), .int nx, .long (lN (M1 ||| 2 ^ d)), .int en, .int lf])), (hr, .inl (cB, 64, .inl (upd r1 ((ff + uu + d) % 64) (bs_b v j))))] := hD
            refine lv_iinc (v := nI (j + 1)) hx hb d_Box_segment_109 hl (k := 1) rfl (by rw [← nI_1]; rfl) (by decide) rfl (fun ls hl => ?_)
            have hl : lv_has ls 7 [(5, .int (nI (j + 1))), (6, .int (nI d)), (4, .int (nI k)), (2, .long v), (1, .int n), (0, .ref h0)] := hl
            refine lv_goto (tgt := 23) hx hb d_Box_segment_112 rfl ?_
            refine ih (j + 1) _ _ ls H locs (by omega) ?_ ?_ (lv_sub hl [0, 2, 3, 4, 5] rfl) hP hD hS
            · show _ = bs_put _ _ _ _ _ _ _ _ _; rw [← hfill, bs_take (by omega) e_d0.symm hnear hbit]
            · exact mb_lt hM1 (by omega)
          · have hbit : M1.testBit d = true := (mb_bit hM1 (by omega)).mp h3
            refine lv_goto (tgt := 109) hx hb d_Box_segment_64 rfl ?_
            refine lv_iinc (v := nI (j + 1)) hx hb d_Box_segment_109 hl (k := 1) rfl (by rw [← nI_1]; rfl) (by decide) rfl (fun ls hl => ?_)
            have hl : lv_has ls 7 [(5, .int (nI (j + 1))), (6, .int (nI d)), (4, .int (nI k)), (2, .long v), (1, .int n), (0, .ref h0)] := hl
            refine lv_goto (tgt := 23) hx hb d_Box_segment_112 rfl ?_
            refine ih (j + 1) _ _ ls H locs (by omega) ?_ ?_ (lv_sub hl [0, 2, 3, 4, 5] rfl) hP hD hS
            · show _ = bs_put _ _ _ _ _ _ _ _ _; rw [← hfill, bs_skip (fun hn => by have h9 := hn.2; rw [← e_d0, nI_clamp (by omega)] at h9; rw [h9] at hbit; cases hbit)]
            · exact hM1
  refine lv_iload hx hb d_Box_segment_0 (lv_at hl 3 rfl) ?_
  refine lv_if_lt (tgt := 12) hx hb d_Box_segment_2 rfl (fun h1 => ?_) (fun h1 => ?_)
  · exact absurd h1 (nI_pos (by omega))
  · refine lv_iload hx hb d_Box_segment_5 (lv_at hl 3 rfl) ?_
    refine lv_bipush (v := 8) hx hb d_Box_segment_7 (by decide) ?_
    refine lv_icmp_le (tgt := 20) hx hb d_Box_segment_9 rfl (fun h2 => ?_) (fun h2 => ?_)
    · refine lv_iconst (v := 0) hx hb d_Box_segment_20 (by decide) ?_
      refine lv_istore hx hb d_Box_segment_21 hl (by decide) rfl (fun ls hl => ?_)
      have hl : lv_has ls 7 [(5, .int 0), (0, .ref h0), (1, .int n), (2, .long v), (4, .int (nI k))] := hl
      exact fill k 0 M rg ls s.heap [] (by omega) rfl hM (lv_sub hl [0, 4, 3, 2, 1] rfl) hP hD hS
    · exact absurd (nI_le (a := k) (b := 8) hk (by omega)) h2
set_option maxHeartbeats 4000000 in
set_option maxRecDepth 100000 in
/-- SegmentBox() -/
theorem c_Box_init (l : Launch) (dC : Nat → ClassId) (dI : Nat → Nat → Nat) (h0 : Nat) (sz : Nat) : Met l y_Box_init w_Box_init ({ frames := 1, cells := 1, slots := 64, locals := 30 }) (va_Pc [.ref h0] (we dC dI sz [(h0, .inr (0, [.null, .int 0, .int 0, .int 0, .long 0, .int 0, .int 0]))] [])) (va_Qv (fun _ : Nat × ClassId => True) (fun q => wz dC dI (va_A [(h0, .inr (0, [.null, .int 0, .int 0, .int 0, .long 0, .int 0, .int 0]))] sz) [(h0, .inr (0, [.ref (q.1), .int 0, .int 0, .int 0, .long 0, .int 0, .int 0])), (q.1, .inl (q.2, 64, .inl (fun _ => 0)))] [(q.2, .byte)]) (va_A [(h0, .inr (0, [.null, .int 0, .int 0, .int 0, .long 0, .int 0, .int 0]))] sz)) 1 64 (va_A [(h0, .inr (0, [.null, .int 0, .int 0, .int 0, .long 0, .int 0, .int 0]))] sz) := by
  refine Met.ofW (cc := b_Box_init) (maxL := 1) (ret := none) (by decide) rfl ?_
  intro p e s m args below meth c s₁ B hml hv
  obtain ⟨rfl, hsz, hP, hK, hD0⟩ := hv
  have hx := B.exec
  have hb := B.bytes
  have hr_ := B.returns
  have hT : ∀ w ∈ tb, w.before _ s = true := fun w hw => atoms_spec (ws := w_Box_init) B.pre w (List.mem_cons_of_mem _ hw)
  have hown : s.vm.findClass R_Box = some m.cls := findClass_of_methodNamed B.named
  have hlocks := B.notSynchronized
  have hin : meth.name = "<init>" := (name_of_methodNamed B.named B.method).1
  subst hsz
  have hD := hD0.self (sz := s.heap.size)
  generalize hAe : va_A [(h0, .inr (0, [.null, .int 0, .int 0, .int 0, .long 0, .int 0, .int 0]))] s.heap.size = A at hD ⊢
  have hA : ∀ q : Nat, s.heap.size ≤ q → A q := fun q h => by rw [← hAe]; exact Or.inr h
  have hS : va_S A s.heap s.heap [] := va_S.rf
  have hP : va_P (dC, dI) classes [(h0, .inr (0, [.null, .int 0, .int 0, .int 0, .long 0, .int 0, .int 0]))] s.heap := hP
  have hl := lv_entry ([.ref h0]) (n := 1) (Nat.le_of_ble_eq_true rfl)
  rw [lg_entry_eq]
  generalize (lg_sl ([.ref h0]) ++ List.replicate (1 - (lg_sl ([.ref h0])).length) Slot.unset).toArray = ls at hl ⊢
  have hl : lv_has ls 1 [(0, .ref h0)] := hl
  refine lv_aload_n hx hb d_Box_init_0 rfl (lv_at hl 0 rfl) ?_
  refine W.objInit hx hb hown (hT _ tw_13) (hT _ tw_14) (hT _ tw_15) rfl (by rw [hml]; exact hl.1) rfl d_Box_init_1 (Nat.le_of_ble_eq_true rfl) (Nat.le_of_ble_eq_true rfl) ?_
  refine W.eq (g2 := F0 m 4 ls []) rfl ?_
  refine lv_aload_n hx hb d_Box_init_4 rfl (lv_at hl 0 rfl) ?_
  refine lv_bipush (v := 64) hx hb d_Box_init_5 (by decide) ?_
  refine va_newa (atype := .byte) (ty := .byte) (a0 := (64, .inl (fun _ => 0))) hx hb (hT _ tw_38) rfl hK hP hD hS hA (fun _ => rfl) (by decide) (by decide) (by decide) (Nat.le_of_ble_eq_true rfl) (Nat.le_of_ble_eq_true rfl) d_Box_init_7 (fun hr cB H hK hP hD hS => ?_)
  have hP : va_P (dC, dI) classes [(h0, .inr (0, [.null, .int 0, .int 0, .int 0, .long 0, .int 0, .int 0])), (hr, .inl (cB, 64, .inl (fun _ => 0)))] H := hP
  have hD : va_D A [(h0, .inr (0, [.null, .int 0, .int 0, .int 0, .long 0, .int 0, .int 0])), (hr, .inl (cB, 64, .inl (fun _ => 0)))] := hD
  have hK : va_K (dC, dI) classes [(cB, .byte)] s := hK
  refine va_putF (D := (dC, dI)) (ci := 0) (v := .ref hr) (ty := .array .byte) (C := R_Box) (T := F_Box) (N := 7) hx hb hT in_Box t_Box t_Box_ok n_Box hown hK hP hD hS 0 rfl rfl 0 (by decide) (hT _ tw_16) (fun _ h9 => h9) rfl hin rfl (by decide +kernel) rfl rfl (Nat.le_of_ble_eq_true rfl) d_Box_init_9 (fun H locs hP hD hS => ?_)
  have hP : va_P (dC, dI) classes [(h0, .inr (0, [.ref hr, .int 0, .int 0, .int 0, .long 0, .int 0, .int 0])), (hr, .inl (cB, 64, .inl (fun _ => 0)))] H := hP
  have hD : va_D A [(h0, .inr (0, [.ref hr, .int 0, .int 0, .int 0, .long 0, .int 0, .int 0])), (hr, .inl (cB, 64, .inl (fun _ => 0)))] := hD
  exact W.vret hx hb hr_ (fun t ht hW => ⟨⟨(hr, cB), rfl, trivial, by rw [ht]; exact hP, va_K.moved hW.alike hK, hD⟩, hS.F ht⟩) hS.2.2 d_Box_init_12
end
section
/-! the model's arrays; the tie between box and model (plain) -/
def hm (M : Nat) : Nat → Int32 := fun k => if M.testBit k = true then 1 else 0
theorem hm_z {M k : Nat} : hm M k = 0 ↔ M.testBit k = false := by
  unfold hm
  cases M.testBit k <;> simp
theorem hm_nar (M k : Nat) : vp_nar .boolean (hm M k) = hm M k := by
  unfold hm
  cases M.testBit k <;> decide
theorem hm_set (M d : Nat) : upd (hm M) d (vp_nar .boolean 1) = hm (M ||| 2 ^ d) := by
  funext k
  have h1 : vp_nar .boolean 1 = 1 := by decide
  by_cases e : k = d
  · subst e
    rw [pk_us, h1]; unfold hm; rw [mb_tst]; simp
  · rw [pk_un e]; unfold hm; rw [mb_tst]; simp [show ¬ d = k from fun q => e q.symm]
/-- the first j places moved down by one -/
def md_sh (g : Nat → Int32) (j : Nat) : Nat → Int32 := fun k => if k < j then g (k + 1) else g k
theorem md_sh_0 (g : Nat → Int32) : md_sh g 0 = g := by funext k; simp [md_sh]
theorem md_sh_at (g : Nat → Int32) (j : Nat) : md_sh g j (j + 1) = g (j + 1) := by unfold md_sh; rw [if_neg (by omega)]
theorem md_sh_s (g : Nat → Int32) (j : Nat) : upd (md_sh g j) j (g (j + 1)) = md_sh g (j + 1) := by
  funext k
  by_cases e : k = j
  · subst e; rw [pk_us]; simp [md_sh]
  · rw [pk_un e]; unfold md_sh
    by_cases h : k < j
    · rw [if_pos h, if_pos (by omega)]
    · rw [if_neg h, if_neg (by omega)]
theorem md_up {M : Nat} (hM : M < 2 ^ 64) : upd (md_sh (hm M) 63) 63 (vp_nar .boolean 0) = hm (M / 2) := by
  have h1 : vp_nar .boolean 0 = 0 := by decide
  have hb : ∀ k, (M / 2).testBit k = M.testBit (k + 1) := fun k => by rw [Nat.testBit_succ]
  funext k
  by_cases e : k = 63
  · subst e; rw [pk_us, h1]; unfold hm; rw [hb, mb_big hM (by omega)]; simp
  · rw [pk_un e]; unfold md_sh
    by_cases h : k < 63
    · rw [if_pos h]; unfold hm; rw [hb]
    · rw [if_neg h]; unfold hm; rw [hb, mb_big hM (by omega), mb_big hM (by omega)]
/-- the first j places are 0 -/
def md_cl (g : Nat → Int32) (j : Nat) : Nat → Int32 := fun k => if k < j then 0 else g k
theorem md_cl_0 (g : Nat → Int32) : md_cl g 0 = g := by funext k; simp [md_cl]
theorem md_cl_s (g : Nat → Int32) (j : Nat) : upd (md_cl g j) j (vp_nar .boolean 0) = md_cl g (j + 1) := by
  have h1 : vp_nar .boolean 0 = 0 := by decide
  funext k
  by_cases e : k = j
  · subst e; rw [pk_us, h1]; simp [md_cl]
  · rw [pk_un e]; unfold md_cl
    by_cases h : k < j
    · rw [if_pos h, if_pos (by omega)]
    · rw [if_neg h, if_neg (by omega)]
theorem md_cl_end {M : Nat} (hM : M < 2 ^ 64) : md_cl (hm M) 64 = hm 0 := by
  funext k
  unfold md_cl
  by_cases h : k < 64
  · rw [if_pos h]; unfold hm; rw [Nat.zero_testBit]; simp
  · rw [if_neg h]; unfold hm; rw [mb_big hM (by omega), Nat.zero_testBit]
/-- the bytes: the model's byte is the ring's, read unsigned -/
def md_b (v : Int64) (k : Nat) : Int32 := (v >>> ((8 * nI k).toInt64 &&& 63)).toInt32 &&& 255
theorem md_and (x : Int32) : x &&& 255 = nI (x.toBitVec.toNat % 256) := pk_and x 8 (by decide)
theorem md_byte {x y : BitVec 32} (h : ∀ i, i < 8 → x.getLsbD i = y.getLsbD i) : x.toNat % 256 = y.toNat % 256 := by
  apply Nat.eq_of_testBit_eq
  intro i
  rw [show (256 : Nat) = 2 ^ 8 from rfl, Nat.testBit_mod_two_pow, Nat.testBit_mod_two_pow]
  by_cases hi : i < 8
  · have := h i hi
    simp only [BitVec.getLsbD] at this
    rw [this]
  · simp [hi]
theorem md_b8 (x : Int32) : x.toInt8.toInt32 &&& 255 = x &&& 255 := by
  rw [md_and, md_and]
  congr 1
  apply md_byte
  intro i hi
  show (x.toInt8.toBitVec.signExtend 32).getLsbD i = _
  rw [BitVec.getLsbD_signExtend]
  show (decide (i < 32) && if i < 8 then (x.toBitVec.signExtend 8).getLsbD i else _) = _
  rw [if_pos hi, BitVec.getLsbD_signExtend]
  simp [hi, show i < 32 by omega]
theorem md_nar8 (x : Int32) : vp_nar .byte x.toInt8.toInt32 = x.toInt8.toInt32 := pk_vb x
theorem md_bytes {v : Int64} {k : Nat} (hk : k < 8) : bs_b v k &&& 255 = md_b v k := by
  have hs : 8 * nI k = nI (8 * k) := pk_mul 8 k
  unfold bs_b md_b
  rw [md_nar8, md_b8, hs, wb_cu _ (by omega), wb_c _ (by omega), md_and, md_and]
  congr 1
  apply md_byte
  intro i hi
  show ((v.toUInt64 >>> UInt64.ofNat (8 * k)).toInt64.toBitVec.signExtend 32).getLsbD i = ((v >>> lN (8 * k)).toBitVec.signExtend 32).getLsbD i
  rw [BitVec.getLsbD_signExtend, BitVec.getLsbD_signExtend]
  simp only [show i < 32 by omega, show i < 64 by omega, decide_true, Bool.true_and, if_true]
  rw [Int64.toBitVec_shiftRight, wb_tb, wb_sm _ (by omega)]
  show ((v.toUInt64.toBitVec >>> ((BitVec.ofNat 64 (8 * k)) % 64)).getLsbD i) = _
  have h1 : (BitVec.ofNat 64 (8 * k) % 64).toNat = 8 * k := by
    rw [BitVec.toNat_umod, BitVec.toNat_ofNat, Nat.mod_eq_of_lt (show 8 * k < 2 ^ 64 by omega)]
    exact Nat.mod_eq_of_lt (by show 8 * k < 64; omega)
  rw [BitVec.ushiftRight_eq', h1, BitVec.getLsbD_ushiftRight, BitVec.sshiftRight_eq', BitVec.toNat_ofNat, Nat.mod_eq_of_lt (show 8 * k < 2 ^ 64 by omega), BitVec.getLsbD_sshiftRight]
  simp only [show 8 * k + i < 64 by omega, if_true, show ¬ 64 ≤ i by omega, decide_false, Bool.not_false, Bool.true_and]
  rfl
/-- the tie, i bytes of M1 having come up -/
def sg_Q (ff uu M1 : Nat) (r1 : Nat → Int32) (i : Nat) (un ba : Nat → Int32) : Prop :=
  (∀ a, a < i → M1.testBit a = true) ∧ M1 < 2 ^ (64 - uu) ∧ (∀ a, a < uu + i → un a = r1 ((ff + a) % 64) &&& 255) ∧ ∀ d, M1.testBit (i + d) = true → ba d = r1 ((ff + uu + i + d) % 64) &&& 255
/-- the end, as both know it -/
def sg_E (uu : Nat) (nx en lf e : Int32) (M1 : Nat) : Prop := en = 0 ∨ ∃ ee : Nat, lf = nI ee ∧ ee ≤ 64 - uu ∧ M1 < 2 ^ ee ∧ e = nx + nI ee
theorem sg_bit {M a b : Nat} (h : M < 2 ^ a) (hb : M.testBit b = true) : b < a := by
  rcases Nat.lt_or_ge b a with h1 | h1
  · exact h1
  · rw [Nat.testBit_lt_two_pow (Nat.lt_of_lt_of_le h (Nat.pow_le_pow_right (by decide) h1))] at hb; cases hb
theorem sg_le {M i a : Nat} (h : ∀ b, b < i → M.testBit b = true) (hl : M < 2 ^ a) : i ≤ a := by
  cases i with
  | zero => exact Nat.zero_le _
  | succ j => exact sg_bit hl (h j (Nat.lt_succ_self _))
theorem sg_64 {uu M : Nat} (h : M < 2 ^ (64 - uu)) : M < 2 ^ 64 := Nat.lt_of_lt_of_le h (Nat.pow_le_pow_right (by decide) (by omega))
/-- one byte comes up -/
theorem sg_up {ff uu M1 i : Nat} {r1 un ba : Nat → Int32} (h : sg_Q ff uu M1 r1 i un ba) (hb : M1.testBit i = true) : sg_Q ff uu M1 r1 (i + 1) (upd un (uu + i) (ba 0)) (md_sh ba 63) := by
  obtain ⟨h1, h2, h3, h4⟩ := h
  refine ⟨lt_s h1 hb, h2, fun a ha => ?_, fun d hd => ?_⟩
  · by_cases e : a = uu + i
    · subst e
      rw [pk_us, h4 0 (by rw [Nat.add_zero]; exact hb), Nat.add_zero, Nat.add_assoc]
    · rw [pk_un e]; exact h3 a (by omega)
  · have hlt := sg_bit (sg_64 h2) hd
    unfold md_sh
    rw [if_pos (by omega), h4 (d + 1) (by rw [show i + (d + 1) = i + 1 + d by omega]; exact hd)]
    rw [show ff + uu + i + (d + 1) = ff + uu + (i + 1) + d by omega]
/-- a byte is put at d behind the i that came up -/
theorem sg_put {ff uu M1 i d : Nat} {r1 un ba : Nat → Int32} {b c : Int32} (h : sg_Q ff uu M1 r1 i un ba) (hff : ff < 64) (hd : uu + i + d < 64) (hb : M1.testBit (i + d) = false) (hc : b &&& 255 = c) :
    sg_Q ff uu (M1 ||| 2 ^ (i + d)) (upd r1 ((ff + uu + (i + d)) % 64) b) i un (upd ba d c) := by
  obtain ⟨h1, h2, h3, h4⟩ := h
  have hi : i ≤ 64 - uu := sg_le h1 h2
  refine ⟨fun a ha => by rw [mb_tst, h1 a ha, Bool.true_or], Nat.or_lt_two_pow h2 (wb_lt2 (by omega)), fun a ha => ?_, fun d2 hd2 => ?_⟩
  · rw [pk_un (by omega)]; exact h3 a ha
  · rw [mb_tst] at hd2
    by_cases e : d2 = d
    · subst e
      rw [pk_us, show ff + uu + i + d2 = ff + uu + (i + d2) by omega, pk_us, hc]
    · have hb2 : M1.testBit (i + d2) = true := by
        rw [Bool.or_eq_true, decide_eq_true_eq] at hd2
        rcases hd2 with h9 | h9
        · exact h9
        · omega
      have hlt := sg_bit h2 hb2
      rw [pk_un e, pk_un (by omega)]; exact h4 d2 hb2
theorem sg_Eput {uu M1 D : Nat} {nx en lf e : Int32} (h : sg_E uu nx en lf e M1) (hl : ∀ ee : Nat, lf = nI ee → ¬ en = 0 → D < ee) : sg_E uu nx en lf e (M1 ||| 2 ^ D) := by
  by_cases h0 : en = 0
  · exact Or.inl h0
  · rcases h with h | ⟨ee, h1, h2, h3, h4⟩
    · exact absurd h h0
    · exact Or.inr ⟨ee, h1, h2, Nat.or_lt_two_pow h3 (wb_lt2 (hl ee h1 h0)), h4⟩
/-- the model's offset is the box's less what came up -/
theorem sg_off {n nx : Int32} {k i : Nat} : n + nI k - (nx + nI i) = n + nI k - nx - nI i := by
  rw [Int32.sub_eq_add_neg, Int32.neg_add, Int32.sub_eq_add_neg, Int32.sub_eq_add_neg, Int32.sub_eq_add_neg]
  simp only [Int32.add_assoc]
theorem sg_end {nx : Int32} {ee i : Nat} (h : i ≤ ee) : nx + nI ee - (nx + nI i) = nI (ee - i) := by
  rw [Int32.sub_eq_add_neg, Int32.neg_add, Int32.sub_eq_add_neg, ← pk_sub h, Int32.sub_eq_add_neg, Int32.add_comm nx, Int32.add_assoc, ← Int32.add_assoc nx, Int32.add_right_neg, Int32.zero_add]
/-- where the box would take the byte, the model would -/
theorem sg_near {uu M1 i : Nat} {en lf d : Int32} (hu : uu ≤ 64) (hall : ∀ a, a < i → M1.testBit a = true) (hn : bx_near (nI uu) en lf d) (hb : M1.testBit d.toNatClampNeg = false) :
    ∃ D, d = nI (i + D) ∧ uu + i + D < 64 ∧ d - nI i = nI D ∧ M1.testBit (i + D) = false ∧ (en = 0 ∨ nI (i + D) < lf) := by
  obtain ⟨j, hj, rfl⟩ := bs_d hu hn
  rw [nI_clamp (by omega)] at hb
  have hij : i ≤ j := by
    rcases Nat.lt_or_ge j i with h | h
    · rw [hall j h] at hb; cases hb
    · exact h
  refine ⟨j - i, by rw [Nat.add_sub_cancel' hij], by omega, pk_sub hij, by rw [Nat.add_sub_cancel' hij]; exact hb, by rw [Nat.add_sub_cancel' hij]; exact hn.2.2⟩
/-- where the model takes the byte at D, the box takes it at i + D -/
theorem sg_mnear {uu i D : Nat} {en lf d : Int32} (hu : uu ≤ 64) (hD : uu + i + D < 64) (e : d - nI i = nI D) (hen : en = 0 ∨ nI (i + D) < lf) : d = nI (i + D) ∧ bx_near (nI uu) en lf d := by
  have e1 : d = nI (i + D) := by
    have : d = (d - nI i) + nI i := by rw [Int32.sub_add_cancel]
    rw [this, e, nI_add, Nat.add_comm]
  refine ⟨e1, ?_⟩
  rw [e1]
  refine ⟨nI_pos (by omega), ?_, hen⟩
  rw [show (64 : Int32) = nI 64 from rfl, pk_sub hu]
  exact nI_lt (by omega) (by omega)
end
section
/-! SegmentBoxModel, but for segment -/
set_option maxHeartbeats 4000000 in
set_option maxRecDepth 100000 in
/-- thrown() -/
theorem c_Mod_thrown (l : Launch) (dC : Nat → ClassId) (dI : Nat → Nat → Nat) (g0 gu gb gh : Nat) (cU cV cZ : ClassId) (nx mn en th he : Int32) (un ba : Nat → Int32) (M : Nat) : Met l y_Mod_thrown w_Mod_thrown rm_0 (va_Pc [.ref g0] (wd dC dI [(g0, .inr (1, [.ref gu, .ref gb, .ref gh, .int nx, .int mn, .int en, .int th, .int he])), (gu, .inl (cU, 64, .inl un)), (gb, .inl (cV, 64, .inl ba)), (gh, .inl (cZ, 64, .inl (hm M)))] [(cU, .int), (cV, .int), (cZ, .boolean)])) (vp_Si (fun r => r = th)) 0 0 (fun _ => False) := by
  refine Met.ofW (cc := b_Mod_thrown) (maxL := 1) (ret := (some .int)) (by decide) rfl ?_
  intro p e s m args below meth c s₁ B hml hv
  obtain ⟨rfl, hP, hK⟩ := hv
  have hx := B.exec
  have hb := B.bytes
  have hr_ := B.returns
  have hT : ∀ w ∈ tb, w.before _ s = true := fun w hw => atoms_spec (ws := w_Mod_thrown) B.pre w (List.mem_cons_of_mem _ hw)
  have hown : s.vm.findClass R_Mod = some m.cls := findClass_of_methodNamed B.named
  have hlocks := B.notSynchronized
  have hP : va_P (dC, dI) classes [(g0, .inr (1, [.ref gu, .ref gb, .ref gh, .int nx, .int mn, .int en, .int th, .int he])), (gu, .inl (cU, 64, .inl un)), (gb, .inl (cV, 64, .inl ba)), (gh, .inl (cZ, 64, .inl (hm M)))] s.heap := hP
  have hl := lv_entry ([.ref g0]) (n := 1) (Nat.le_of_ble_eq_true rfl)
  rw [lg_entry_eq]
  generalize (lg_sl ([.ref g0]) ++ List.replicate (1 - (lg_sl ([.ref g0])).length) Slot.unset).toArray = ls at hl ⊢
  have hl : lv_has ls 1 [(0, .ref g0)] := hl
  refine lv_aload_n hx hb d_Mod_thrown_0 rfl (lv_at hl 0 rfl) ?_
  refine va_get (D := (dC, dI)) (ci := 1) (v := .int th) (C := R_Mod) (T := F_Mod) (N := 8) hx hb hT in_Mod hown hK hP 0 rfl rfl 6 (by decide) (hT _ tw_188) (fun _ h9 => h9) rfl d_Mod_thrown_1 ?_
  exact W.iret (v := th) hx hb hr_ (fun t ht hW => ⟨th, rfl, rfl, ht⟩) (fun q hq => by cases hq) d_Mod_thrown_4
set_option maxHeartbeats 4000000 in
set_option maxRecDepth 100000 in
/-- open(n) -/
theorem c_Mod_open (l : Launch) (dC : Nat → ClassId) (dI : Nat → Nat → Nat) (g0 gu gb gh : Nat) (cU cV cZ : ClassId) (nx mn en th he : Int32) (un ba : Nat → Int32) (M : Nat) (sz : Nat) (n : Int32) (hM : M < 2 ^ 64) : Met l y_Mod_open w_Mod_open rm_0 (va_Pc [.ref g0, .int n] (we dC dI sz [(g0, .inr (1, [.ref gu, .ref gb, .ref gh, .int nx, .int mn, .int en, .int th, .int he])), (gu, .inl (cU, 64, .inl un)), (gb, .inl (cV, 64, .inl ba)), (gh, .inl (cZ, 64, .inl (hm M)))] [(cU, .int), (cV, .int), (cZ, .boolean)])) (va_Qv (fun _ : Unit => True) (fun _ => wz dC dI (va_A [(g0, .inr (1, [.ref gu, .ref gb, .ref gh, .int nx, .int mn, .int en, .int th, .int he])), (gu, .inl (cU, 64, .inl un)), (gb, .inl (cV, 64, .inl ba)), (gh, .inl (cZ, 64, .inl (hm M)))] sz) [(g0, .inr (1, [.ref gu, .ref gb, .ref gh, .int n, .int 0, .int en, .int 0, .int 0])), (gu, .inl (cU, 64, .inl un)), (gb, .inl (cV, 64, .inl ba)), (gh, .inl (cZ, 64, .inl (hm 0)))] [(cU, .int), (cV, .int), (cZ, .boolean)]) (va_A [(g0, .inr (1, [.ref gu, .ref gb, .ref gh, .int nx, .int mn, .int en, .int th, .int he])), (gu, .inl (cU, 64, .inl un)), (gb, .inl (cV, 64, .inl ba)), (gh, .inl (cZ, 64, .inl (hm M)))] sz)) 0 0 (va_A [(g0, .inr (1, [.ref gu, .ref gb, .ref gh, .int nx, .int mn, .int en, .int th, .int he])), (gu, .inl (cU, 64, .inl un)), (gb, .inl (cV, 64, .inl ba)), (gh, .inl (cZ, 64, .inl (hm M)))] sz) := by
  refine Met.ofW (cc := b_Mod_open) (maxL := 3) (ret := none) (by decide) rfl ?_
  intro p e s m args below meth c s₁ B hml hv
  obtain ⟨rfl, hsz, hP, hK, hD0⟩ := hv
  have hx := B.exec
  have hb := B.bytes
  have hr_ := B.returns
  have hT : ∀ w ∈ tb, w.before _ s = true := fun w hw => atoms_spec (ws := w_Mod_open) B.pre w (List.mem_cons_of_mem _ hw)
  have hown : s.vm.findClass R_Mod = some m.cls := findClass_of_methodNamed B.named
  have hlocks := B.notSynchronized
  subst hsz
  have hD := hD0.self (sz := s.heap.size)
  generalize hAe : va_A [(g0, .inr (1, [.ref gu, .ref gb, .ref gh, .int nx, .int mn, .int en, .int th, .int he])), (gu, .inl (cU, 64, .inl un)), (gb, .inl (cV, 64, .inl ba)), (gh, .inl (cZ, 64, .inl (hm M)))] s.heap.size = A at hD ⊢
  have hA : ∀ q : Nat, s.heap.size ≤ q → A q := fun q h => by rw [← hAe]; exact Or.inr h
  have hS : va_S A s.heap s.heap [] := va_S.rf
  have hP : va_P (dC, dI) classes [(g0, .inr (1, [.ref gu, .ref gb, .ref gh, .int nx, .int mn, .int en, .int th, .int he])), (gu, .inl (cU, 64, .inl un)), (gb, .inl (cV, 64, .inl ba)), (gh, .inl (cZ, 64, .inl (hm M)))] s.heap := hP
  have hl := lv_entry ([.ref g0, .int n]) (n := 3) (Nat.le_of_ble_eq_true rfl)
  rw [lg_entry_eq]
  generalize (lg_sl ([.ref g0, .int n]) ++ List.replicate (3 - (lg_sl ([.ref g0, .int n])).length) Slot.unset).toArray = ls at hl ⊢
  have hl : lv_has ls 3 [(0, .ref g0), (1, .int n)] := hl
  have loop : ∀ (c0 j : Nat) (ls : Array Slot) (H : Heap) (locs : List Loc), c0 + j = 64 → lv_has ls 3 [(2, .int (nI j)), (0, .ref g0)] → va_P (dC, dI) classes [(g0, .inr (1, [.ref gu, .ref gb, .ref gh, .int n, .int 0, .int en, .int 0, .int 0])), (gu, .inl (cU, 64, .inl un)), (gb, .inl (cV, 64, .inl ba)), (gh, .inl (cZ, 64, .inl (md_cl (hm M) j)))] H → va_D A [(g0, .inr (1, [.ref gu, .ref gb, .ref gh, .int n, .int 0, .int en, .int 0, .int 0])), (gu, .inl (cU, 64, .inl un)), (gb, .inl (cV, 64, .inl ba)), (gh, .inl (cZ, 64, .inl (md_cl (hm M) j)))] → va_S A s.heap H locs → W p l e (headSpec w_Mod_open rm_0).room s m ([.ref g0, .int n] : List Value).toArray below meth c H locs 0 0 (MQ below (va_Qv (fun _ : Unit => True) (fun _ => wz dC dI A [(g0, .inr (1, [.ref gu, .ref gb, .ref gh, .int n, .int 0, .int en, .int 0, .int 0])), (gu, .inl (cU, 64, .inl un)), (gb, .inl (cV, 64, .inl ba)), (gh, .inl (cZ, 64, .inl (hm 0)))] [(cU, .int), (cV, .int), (cZ, .boolean)]) A) ([.ref g0, .int n] : List Value).toArray s 0 0 A) (F0 m 22 ls []) := by
    intro c0
    induction c0 with
    | zero =>
      intro j ls H locs hj hl hP hD hS
      obtain rfl : j = 64 := by omega
      refine lv_iload_n hx hb d_Mod_open_22 rfl (lv_at hl 0 rfl) ?_
      refine lv_bipush (v := 64) hx hb d_Mod_open_23 (by decide) ?_
      refine lv_icmp_ge (tgt := 41) hx hb d_Mod_open_25 rfl (fun h1 => ?_) (fun h1 => ?_)
      · rw [md_cl_end hM] at hP hD
        exact W.vret hx hb hr_ (fun t ht hW => ⟨⟨(), rfl, trivial, by rw [ht]; exact hP, va_K.moved hW.alike hK, hD⟩, hS.F ht⟩) hS.2.2 d_Mod_open_41
      · exact absurd (nI_le (Nat.le_refl 64) (by omega)) h1
    | succ c0 ih =>
      intro j ls H locs hj hl hP hD hS
      refine lv_iload_n hx hb d_Mod_open_22 rfl (lv_at hl 0 rfl) ?_
      refine lv_bipush (v := 64) hx hb d_Mod_open_23 (by decide) ?_
      refine lv_icmp_ge (tgt := 41) hx hb d_Mod_open_25 rfl (fun h1 => ?_) (fun h1 => ?_)
      · exact absurd h1 (Int32.not_le.mpr (nI_lt (a := j) (b := 64) (by omega) (by omega)))
      · refine lv_aload_n hx hb d_Mod_open_28 rfl (lv_at hl 1 rfl) ?_
        refine va_get (D := (dC, dI)) (ci := 1) (v := .ref gh) (C := R_Mod) (T := F_Mod) (N := 8) hx hb hT in_Mod hown hK hP 0 rfl rfl 2 (by decide) (hT _ tw_184) (fun _ h9 => h9) rfl d_Mod_open_29 ?_
        refine lv_iload_n hx hb d_Mod_open_32 rfl (lv_at hl 0 rfl) ?_
        refine lv_iconst (v := 0) hx hb d_Mod_open_33 (by decide) ?_
        refine va_zast hx hb hK hP hD hS 3 2 rfl rfl (vp_in_nI (by omega) (by decide)) d_Mod_open_34 (fun H locs hP hD hS => ?_)
        rw [nI_clamp (by omega), md_cl_s] at hP hD
        have hP : va_P (dC, dI) classes [(g0, .inr (1, [.ref gu, .ref gb, .ref gh, .int n, .int 0, .int en, .int 0, .int 0])), (gu, .inl (cU, 64, .inl un)), (gb, .inl (cV, 64, .inl ba)), (gh, .inl (cZ, 64, .inl (md_cl (hm M) (j + 1))))] H := hP
        have hD : va_D A [(g0, .inr (1, [.ref gu, .ref gb, .ref gh, .int n, .int 0, .int en, .int 0, .int 0])), (gu, .inl (cU, 64, .inl un)), (gb, .inl (cV, 64, .inl ba)), (gh, .inl (cZ, 64, .inl (md_cl (hm M) (j + 1))))] := hD
        refine lv_iinc (v := nI (j + 1)) hx hb d_Mod_open_35 hl (k := 0) rfl (by rw [← nI_1]; rfl) (by decide) rfl (fun ls hl => ?_)
        have hl : lv_has ls 3 [(2, .int (nI (j + 1))), (0, .ref g0)] := hl
        refine lv_goto (tgt := 22) hx hb d_Mod_open_38 rfl ?_
        exact ih (j + 1) ls H locs (by omega) (lv_sub hl [0, 1] rfl) hP hD hS
  refine lv_aload_n hx hb d_Mod_open_0 rfl (lv_at hl 0 rfl) ?_
  refine lv_iconst (v := 0) hx hb d_Mod_open_1 (by decide) ?_
  refine va_put (D := (dC, dI)) (ci := 1) (v := .int 0) (ty := .int) (C := R_Mod) (T := F_Mod) (N := 8) hx hb hT in_Mod t_Mod t_Mod_ok n_Mod hown hK hP hD hS 0 rfl rfl 6 (by decide) (hT _ tw_188) (fun _ h9 => h9) rfl (by decide +kernel) rfl rfl (Nat.le_of_ble_eq_true rfl) d_Mod_open_2 (fun H locs hP hD hS => ?_)
  have hP : va_P (dC, dI) classes [(g0, .inr (1, [.ref gu, .ref gb, .ref gh, .int nx, .int mn, .int en, .int 0, .int he])), (gu, .inl (cU, 64, .inl un)), (gb, .inl (cV, 64, .inl ba)), (gh, .inl (cZ, 64, .inl (hm M)))] H := hP
  have hD : va_D A [(g0, .inr (1, [.ref gu, .ref gb, .ref gh, .int nx, .int mn, .int en, .int 0, .int he])), (gu, .inl (cU, 64, .inl un)), (gb, .inl (cV, 64, .inl ba)), (gh, .inl (cZ, 64, .inl (hm M)))] := hD
  refine lv_aload_n hx hb d_Mod_open_5 rfl (lv_at hl 0 rfl) ?_
  refine lv_iload_n hx hb d_Mod_open_6 rfl (lv_at hl 1 rfl) ?_
  refine va_put (D := (dC, dI)) (ci := 1) (v := .int n) (ty := .int) (C := R_Mod) (T := F_Mod) (N := 8) hx hb hT in_Mod t_Mod t_Mod_ok n_Mod hown hK hP hD hS 0 rfl rfl 3 (by decide) (hT _ tw_185) (fun _ h9 => h9) rfl (by decide +kernel) rfl rfl (Nat.le_of_ble_eq_true rfl) d_Mod_open_7 (fun H locs hP hD hS => ?_)
  have hP : va_P (dC, dI) classes [(g0, .inr (1, [.ref gu, .ref gb, .ref gh, .int n, .int mn, .int en, .int 0, .int he])), (gu, .inl (cU, 64, .inl un)), (gb, .inl (cV, 64, .inl ba)), (gh, .inl (cZ, 64, .inl (hm M)))] H := hP
  have hD : va_D A [(g0, .inr (1, [.ref gu, .ref gb, .ref gh, .int n, .int mn, .int en, .int 0, .int he])), (gu, .inl (cU, 64, .inl un)), (gb, .inl (cV, 64, .inl ba)), (gh, .inl (cZ, 64, .inl (hm M)))] := hD
  refine lv_aload_n hx hb d_Mod_open_10 rfl (lv_at hl 0 rfl) ?_
  refine lv_iconst (v := 0) hx hb d_Mod_open_11 (by decide) ?_
  refine va_put (D := (dC, dI)) (ci := 1) (v := .int 0) (ty := .int) (C := R_Mod) (T := F_Mod) (N := 8) hx hb hT in_Mod t_Mod t_Mod_ok n_Mod hown hK hP hD hS 0 rfl rfl 4 (by decide) (hT _ tw_186) (fun _ h9 => h9) rfl (by decide +kernel) rfl rfl (Nat.le_of_ble_eq_true rfl) d_Mod_open_12 (fun H locs hP hD hS => ?_)
  have hP : va_P (dC, dI) classes [(g0, .inr (1, [.ref gu, .ref gb, .ref gh, .int n, .int 0, .int en, .int 0, .int he])), (gu, .inl (cU, 64, .inl un)), (gb, .inl (cV, 64, .inl ba)), (gh, .inl (cZ, 64, .inl (hm M)))] H := hP
  have hD : va_D A [(g0, .inr (1, [.ref gu, .ref gb, .ref gh, .int n, .int 0, .int en, .int 0, .int he])), (gu, .inl (cU, 64, .inl un)), (gb, .inl (cV, 64, .inl ba)), (gh, .inl (cZ, 64, .inl (hm M)))] := hD
  refine lv_aload_n hx hb d_Mod_open_15 rfl (lv_at hl 0 rfl) ?_
  refine lv_iconst (v := 0) hx hb d_Mod_open_16 (by decide) ?_
  refine va_put (D := (dC, dI)) (ci := 1) (v := .int 0) (ty := .boolean) (C := R_Mod) (T := F_Mod) (N := 8) hx hb hT in_Mod t_Mod t_Mod_ok n_Mod hown hK hP hD hS 0 rfl rfl 7 (by decide) (hT _ tw_189) (fun _ h9 => h9) rfl (by decide +kernel) rfl rfl (Nat.le_of_ble_eq_true rfl) d_Mod_open_17 (fun H locs hP hD hS => ?_)
  have hP : va_P (dC, dI) classes [(g0, .inr (1, [.ref gu, .ref gb, .ref gh, .int n, .int 0, .int en, .int 0, .int 0])), (gu, .inl (cU, 64, .inl un)), (gb, .inl (cV, 64, .inl ba)), (gh, .inl (cZ, 64, .inl (hm M)))] H := hP
  have hD : va_D A [(g0, .inr (1, [.ref gu, .ref gb, .ref gh, .int n, .int 0, .int en, .int 0, .int 0])), (gu, .inl (cU, 64, .inl un)), (gb, .inl (cV, 64, .inl ba)), (gh, .inl (cZ, 64, .inl (hm M)))] := hD
  refine lv_iconst (v := 0) hx hb d_Mod_open_20 (by decide) ?_
  refine lv_istore_n hx hb d_Mod_open_21 rfl hl (by decide) rfl (fun ls hl => ?_)
  have hl : lv_has ls 3 [(2, .int 0), (0, .ref g0), (1, .int n)] := hl
  exact loop 64 0 ls H locs (by omega) (lv_sub hl [0, 1] rfl) (by rw [md_cl_0]; exact hP) (by rw [md_cl_0]; exact hD) hS
set_option maxHeartbeats 4000000 in
set_option maxRecDepth 100000 in
/-- up() -/
theorem c_Mod_up (l : Launch) (dC : Nat → ClassId) (dI : Nat → Nat → Nat) (g0 gu gb gh : Nat) (cU cV cZ : ClassId) (nx : Int32) (mm : Nat) (en th he : Int32) (un ba : Nat → Int32) (M : Nat) (sz : Nat) (hmm : mm < 64) (hM : M < 2 ^ 64) : Met l y_Mod_up w_Mod_up rm_0 (va_Pc [.ref g0] (we dC dI sz [(g0, .inr (1, [.ref gu, .ref gb, .ref gh, .int nx, .int (nI mm), .int en, .int th, .int he])), (gu, .inl (cU, 64, .inl un)), (gb, .inl (cV, 64, .inl ba)), (gh, .inl (cZ, 64, .inl (hm M)))] [(cU, .int), (cV, .int), (cZ, .boolean)])) (va_Qv (fun _ : Unit => True) (fun _ => wz dC dI (va_A [(g0, .inr (1, [.ref gu, .ref gb, .ref gh, .int nx, .int (nI mm), .int en, .int th, .int he])), (gu, .inl (cU, 64, .inl un)), (gb, .inl (cV, 64, .inl ba)), (gh, .inl (cZ, 64, .inl (hm M)))] sz) [(g0, .inr (1, [.ref gu, .ref gb, .ref gh, .int (nx + 1), .int (nI (mm + 1)), .int en, .int th, .int he])), (gu, .inl (cU, 64, .inl (upd un mm (ba 0)))), (gb, .inl (cV, 64, .inl (md_sh ba 63))), (gh, .inl (cZ, 64, .inl (hm (M / 2))))] [(cU, .int), (cV, .int), (cZ, .boolean)]) (va_A [(g0, .inr (1, [.ref gu, .ref gb, .ref gh, .int nx, .int (nI mm), .int en, .int th, .int he])), (gu, .inl (cU, 64, .inl un)), (gb, .inl (cV, 64, .inl ba)), (gh, .inl (cZ, 64, .inl (hm M)))] sz)) 0 0 (va_A [(g0, .inr (1, [.ref gu, .ref gb, .ref gh, .int nx, .int (nI mm), .int en, .int th, .int he])), (gu, .inl (cU, 64, .inl un)), (gb, .inl (cV, 64, .inl ba)), (gh, .inl (cZ, 64, .inl (hm M)))] sz) := by
  refine Met.ofW (cc := b_Mod_up) (maxL := 2) (ret := none) (by decide) rfl ?_
  intro p e s m args below meth c s₁ B hml hv
  obtain ⟨rfl, hsz, hP, hK, hD0⟩ := hv
  have hx := B.exec
  have hb := B.bytes
  have hr_ := B.returns
  have hT : ∀ w ∈ tb, w.before _ s = true := fun w hw => atoms_spec (ws := w_Mod_up) B.pre w (List.mem_cons_of_mem _ hw)
  have hown : s.vm.findClass R_Mod = some m.cls := findClass_of_methodNamed B.named
  have hlocks := B.notSynchronized
  subst hsz
  have hD := hD0.self (sz := s.heap.size)
  generalize hAe : va_A [(g0, .inr (1, [.ref gu, .ref gb, .ref gh, .int nx, .int (nI mm), .int en, .int th, .int he])), (gu, .inl (cU, 64, .inl un)), (gb, .inl (cV, 64, .inl ba)), (gh, .inl (cZ, 64, .inl (hm M)))] s.heap.size = A at hD ⊢
  have hA : ∀ q : Nat, s.heap.size ≤ q → A q := fun q h => by rw [← hAe]; exact Or.inr h
  have hS : va_S A s.heap s.heap [] := va_S.rf
  have hP : va_P (dC, dI) classes [(g0, .inr (1, [.ref gu, .ref gb, .ref gh, .int nx, .int (nI mm), .int en, .int th, .int he])), (gu, .inl (cU, 64, .inl un)), (gb, .inl (cV, 64, .inl ba)), (gh, .inl (cZ, 64, .inl (hm M)))] s.heap := hP
  have hl := lv_entry ([.ref g0]) (n := 2) (Nat.le_of_ble_eq_true rfl)
  rw [lg_entry_eq]
  generalize (lg_sl ([.ref g0]) ++ List.replicate (2 - (lg_sl ([.ref g0])).length) Slot.unset).toArray = ls at hl ⊢
  have hl : lv_has ls 2 [(0, .ref g0)] := hl
  have loop : ∀ (c0 j : Nat) (ls : Array Slot) (H : Heap) (locs : List Loc), c0 + j = 63 → lv_has ls 2 [(1, .int (nI j)), (0, .ref g0)] → va_P (dC, dI) classes [(g0, .inr (1, [.ref gu, .ref gb, .ref gh, .int (nx + 1), .int (nI (mm + 1)), .int en, .int th, .int he])), (gu, .inl (cU, 64, .inl (upd un mm (ba 0)))), (gb, .inl (cV, 64, .inl (md_sh ba j))), (gh, .inl (cZ, 64, .inl (md_sh (hm M) j)))] H → va_D A [(g0, .inr (1, [.ref gu, .ref gb, .ref gh, .int (nx + 1), .int (nI (mm + 1)), .int en, .int th, .int he])), (gu, .inl (cU, 64, .inl (upd un mm (ba 0)))), (gb, .inl (cV, 64, .inl (md_sh ba j))), (gh, .inl (cZ, 64, .inl (md_sh (hm M) j)))] → va_S A s.heap H locs → W p l e (headSpec w_Mod_up rm_0).room s m ([.ref g0] : List Value).toArray below meth c H locs 0 0 (MQ below (va_Qv (fun _ : Unit => True) (fun _ => wz dC dI A [(g0, .inr (1, [.ref gu, .ref gb, .ref gh, .int (nx + 1), .int (nI (mm + 1)), .int en, .int th, .int he])), (gu, .inl (cU, 64, .inl (upd un mm (ba 0)))), (gb, .inl (cV, 64, .inl (md_sh ba 63))), (gh, .inl (cZ, 64, .inl (hm (M / 2))))] [(cU, .int), (cV, .int), (cZ, .boolean)]) A) ([.ref g0] : List Value).toArray s 0 0 A) (F0 m 37 ls []) := by
    intro c0
    induction c0 with
    | zero =>
      intro j ls H locs hj hl hP hD hS
      obtain rfl : j = 63 := by omega
      refine lv_iload_n hx hb d_Mod_up_37 rfl (lv_at hl 0 rfl) ?_
      refine lv_iconst (v := 1) hx hb d_Mod_up_38 (by decide) ?_
      refine lv_iadd hx hb d_Mod_up_39 ?_
      refine lv_topi (fun y9 e9 => ?_)
      obtain rfl : y9 = (nI 64 : Int32) := by rw [e9]; rfl
      refine lv_bipush (v := 64) hx hb d_Mod_up_40 (by decide) ?_
      refine lv_icmp_ge (tgt := 79) hx hb d_Mod_up_42 rfl (fun h1 => ?_) (fun h1 => ?_)
      · refine lv_aload_n hx hb d_Mod_up_79 rfl (lv_at hl 1 rfl) ?_
        refine va_get (D := (dC, dI)) (ci := 1) (v := .ref gh) (C := R_Mod) (T := F_Mod) (N := 8) hx hb hT in_Mod hown hK hP 0 rfl rfl 2 (by decide) (hT _ tw_184) (fun _ h9 => h9) rfl d_Mod_up_80 ?_
        refine lv_bipush (v := 63) hx hb d_Mod_up_83 (by decide) ?_
        refine lv_iconst (v := 0) hx hb d_Mod_up_85 (by decide) ?_
        refine va_zast hx hb hK hP hD hS 3 2 rfl rfl (vp_in_nI (n := 63) (N := 64) (by omega) (by decide)) d_Mod_up_86 (fun H locs hP hD hS => ?_)
        rw [show (63 : Int32).toNatClampNeg = 63 from rfl, md_up hM] at hP hD
        have hP : va_P (dC, dI) classes [(g0, .inr (1, [.ref gu, .ref gb, .ref gh, .int (nx + 1), .int (nI (mm + 1)), .int en, .int th, .int he])), (gu, .inl (cU, 64, .inl (upd un mm (ba 0)))), (gb, .inl (cV, 64, .inl (md_sh ba 63))), (gh, .inl (cZ, 64, .inl (hm (M / 2))))] H := hP
        have hD : va_D A [(g0, .inr (1, [.ref gu, .ref gb, .ref gh, .int (nx + 1), .int (nI (mm + 1)), .int en, .int th, .int he])), (gu, .inl (cU, 64, .inl (upd un mm (ba 0)))), (gb, .inl (cV, 64, .inl (md_sh ba 63))), (gh, .inl (cZ, 64, .inl (hm (M / 2))))] := hD
        exact W.vret hx hb hr_ (fun t ht hW => ⟨⟨(), rfl, trivial, by rw [ht]; exact hP, va_K.moved hW.alike hK, hD⟩, hS.F ht⟩) hS.2.2 d_Mod_up_87
      · exact absurd (nI_le (Nat.le_refl 64) (by omega)) h1
    | succ c0 ih =>
      intro j ls H locs hj hl hP hD hS
      refine lv_iload_n hx hb d_Mod_up_37 rfl (lv_at hl 0 rfl) ?_
      refine lv_iconst (v := 1) hx hb d_Mod_up_38 (by decide) ?_
      refine lv_iadd hx hb d_Mod_up_39 ?_
      refine lv_topi (fun y9 e9 => ?_)
      obtain rfl : y9 = (nI (j + 1) : Int32) := by rw [e9]; rw [nI_1]
      refine lv_bipush (v := 64) hx hb d_Mod_up_40 (by decide) ?_
      refine lv_icmp_ge (tgt := 79) hx hb d_Mod_up_42 rfl (fun h1 => ?_) (fun h1 => ?_)
      · exact absurd h1 (Int32.not_le.mpr (nI_lt (a := j + 1) (b := 64) (by omega) (by omega)))
      · refine lv_aload_n hx hb d_Mod_up_45 rfl (lv_at hl 1 rfl) ?_
        refine va_get (D := (dC, dI)) (ci := 1) (v := .ref gh) (C := R_Mod) (T := F_Mod) (N := 8) hx hb hT in_Mod hown hK hP 0 rfl rfl 2 (by decide) (hT _ tw_184) (fun _ h9 => h9) rfl d_Mod_up_46 ?_
        refine lv_iload_n hx hb d_Mod_up_49 rfl (lv_at hl 0 rfl) ?_
        refine lv_aload_n hx hb d_Mod_up_50 rfl (lv_at hl 1 rfl) ?_
        refine va_get (D := (dC, dI)) (ci := 1) (v := .ref gh) (C := R_Mod) (T := F_Mod) (N := 8) hx hb hT in_Mod hown hK hP 0 rfl rfl 2 (by decide) (hT _ tw_184) (fun _ h9 => h9) rfl d_Mod_up_51 ?_
        refine lv_iload_n hx hb d_Mod_up_54 rfl (lv_at hl 0 rfl) ?_
        refine lv_iconst (v := 1) hx hb d_Mod_up_55 (by decide) ?_
        refine lv_iadd hx hb d_Mod_up_56 ?_
        refine lv_topi (fun y9 e9 => ?_)
        obtain rfl : y9 = (nI (j + 1) : Int32) := by rw [e9]; rw [nI_1]
        refine va_zald hx hb hK hP 3 2 rfl rfl (vp_in_nI (by omega) (by decide)) d_Mod_up_57 ?_
        rw [nI_clamp (by omega), md_sh_at]
        refine va_zast hx hb hK hP hD hS 3 2 rfl rfl (vp_in_nI (by omega) (by decide)) d_Mod_up_58 (fun H locs hP hD hS => ?_)
        rw [nI_clamp (by omega), hm_nar, md_sh_s] at hP hD
        have hP : va_P (dC, dI) classes [(g0, .inr (1, [.ref gu, .ref gb, .ref gh, .int (nx + 1), .int (nI (mm + 1)), .int en, .int th, .int he])), (gu, .inl (cU, 64, .inl (upd un mm (ba 0)))), (gb, .inl (cV, 64, .inl (md_sh ba j))), (gh, .inl (cZ, 64, .inl (md_sh (hm M) (j + 1))))] H := hP
        have hD : va_D A [(g0, .inr (1, [.ref gu, .ref gb, .ref gh, .int (nx + 1), .int (nI (mm + 1)), .int en, .int th, .int he])), (gu, .inl (cU, 64, .inl (upd un mm (ba 0)))), (gb, .inl (cV, 64, .inl (md_sh ba j))), (gh, .inl (cZ, 64, .inl (md_sh (hm M) (j + 1))))] := hD
        refine lv_aload_n hx hb d_Mod_up_59 rfl (lv_at hl 1 rfl) ?_
        refine va_get (D := (dC, dI)) (ci := 1) (v := .ref gb) (C := R_Mod) (T := F_Mod) (N := 8) hx hb hT in_Mod hown hK hP 0 rfl rfl 1 (by decide) (hT _ tw_183) (fun _ h9 => h9) rfl d_Mod_up_60 ?_
        refine lv_iload_n hx hb d_Mod_up_63 rfl (lv_at hl 0 rfl) ?_
        refine lv_aload_n hx hb d_Mod_up_64 rfl (lv_at hl 1 rfl) ?_
        refine va_get (D := (dC, dI)) (ci := 1) (v := .ref gb) (C := R_Mod) (T := F_Mod) (N := 8) hx hb hT in_Mod hown hK hP 0 rfl rfl 1 (by decide) (hT _ tw_183) (fun _ h9 => h9) rfl d_Mod_up_65 ?_
        refine lv_iload_n hx hb d_Mod_up_68 rfl (lv_at hl 0 rfl) ?_
        refine lv_iconst (v := 1) hx hb d_Mod_up_69 (by decide) ?_
        refine lv_iadd hx hb d_Mod_up_70 ?_
        refine lv_topi (fun y9 e9 => ?_)
        obtain rfl : y9 = (nI (j + 1) : Int32) := by rw [e9]; rw [nI_1]
        refine va_iald hx hb hK hP 2 1 rfl rfl (vp_in_nI (by omega) (by decide)) d_Mod_up_71 ?_
        rw [nI_clamp (by omega), md_sh_at]
        refine va_iast hx hb hK hP hD hS 2 1 rfl rfl (vp_in_nI (by omega) (by decide)) d_Mod_up_72 (fun H locs hP hD hS => ?_)
        rw [nI_clamp (by omega), md_sh_s] at hP hD
        have hP : va_P (dC, dI) classes [(g0, .inr (1, [.ref gu, .ref gb, .ref gh, .int (nx + 1), .int (nI (mm + 1)), .int en, .int th, .int he])), (gu, .inl (cU, 64, .inl (upd un mm (ba 0)))), (gb, .inl (cV, 64, .inl (md_sh ba (j + 1)))), (gh, .inl (cZ, 64, .inl (md_sh (hm M) (j + 1))))] H := hP
        have hD : va_D A [(g0, .inr (1, [.ref gu, .ref gb, .ref gh, .int (nx + 1), .int (nI (mm + 1)), .int en, .int th, .int he])), (gu, .inl (cU, 64, .inl (upd un mm (ba 0)))), (gb, .inl (cV, 64, .inl (md_sh ba (j + 1)))), (gh, .inl (cZ, 64, .inl (md_sh (hm M) (j + 1))))] := hD
        refine lv_iinc (v := nI (j + 1)) hx hb d_Mod_up_73 hl (k := 0) rfl (by rw [← nI_1]; rfl) (by decide) rfl (fun ls hl => ?_)
        have hl : lv_has ls 2 [(1, .int (nI (j + 1))), (0, .ref g0)] := hl
        refine lv_goto (tgt := 37) hx hb d_Mod_up_76 rfl ?_
        exact ih (j + 1) ls H locs (by omega) (lv_sub hl [0, 1] rfl) hP hD hS
  refine lv_aload_n hx hb d_Mod_up_0 rfl (lv_at hl 0 rfl) ?_
  refine va_get (D := (dC, dI)) (ci := 1) (v := .ref gu) (C := R_Mod) (T := F_Mod) (N := 8) hx hb hT in_Mod hown hK hP 0 rfl rfl 0 (by decide) (hT _ tw_182) (fun _ h9 => h9) rfl d_Mod_up_1 ?_
  refine lv_aload_n hx hb d_Mod_up_4 rfl (lv_at hl 0 rfl) ?_
  refine va_get (D := (dC, dI)) (ci := 1) (v := .int (nI mm)) (C := R_Mod) (T := F_Mod) (N := 8) hx hb hT in_Mod hown hK hP 0 rfl rfl 4 (by decide) (hT _ tw_186) (fun _ h9 => h9) rfl d_Mod_up_5 ?_
  refine lv_aload_n hx hb d_Mod_up_8 rfl (lv_at hl 0 rfl) ?_
  refine va_get (D := (dC, dI)) (ci := 1) (v := .ref gb) (C := R_Mod) (T := F_Mod) (N := 8) hx hb hT in_Mod hown hK hP 0 rfl rfl 1 (by decide) (hT _ tw_183) (fun _ h9 => h9) rfl d_Mod_up_9 ?_
  refine lv_iconst (v := 0) hx hb d_Mod_up_12 (by decide) ?_
  refine va_iald hx hb hK hP 2 1 rfl rfl (vp_in_nI (n := 0) (N := 64) (by omega) (by decide)) d_Mod_up_13 ?_
  rw [sb_cl0]
  refine va_iast hx hb hK hP hD hS 1 0 rfl rfl (vp_in_nI (by omega) (by decide)) d_Mod_up_14 (fun H locs hP hD hS => ?_)
  rw [nI_clamp (by omega)] at hP hD
  have hP : va_P (dC, dI) classes [(g0, .inr (1, [.ref gu, .ref gb, .ref gh, .int nx, .int (nI mm), .int en, .int th, .int he])), (gu, .inl (cU, 64, .inl (upd un mm (ba 0)))), (gb, .inl (cV, 64, .inl ba)), (gh, .inl (cZ, 64, .inl (hm M)))] H := hP
  have hD : va_D A [(g0, .inr (1, [.ref gu, .ref gb, .ref gh, .int nx, .int (nI mm), .int en, .int th, .int he])), (gu, .inl (cU, 64, .inl (upd un mm (ba 0)))), (gb, .inl (cV, 64, .inl ba)), (gh, .inl (cZ, 64, .inl (hm M)))] := hD
  refine lv_aload_n hx hb d_Mod_up_15 rfl (lv_at hl 0 rfl) ?_
  refine lv_dup hx hb d_Mod_up_16 rfl ?_
  refine va_get (D := (dC, dI)) (ci := 1) (v := .int (nI mm)) (C := R_Mod) (T := F_Mod) (N := 8) hx hb hT in_Mod hown hK hP 0 rfl rfl 4 (by decide) (hT _ tw_186) (fun _ h9 => h9) rfl d_Mod_up_17 ?_
  refine lv_iconst (v := 1) hx hb d_Mod_up_20 (by decide) ?_
  refine lv_iadd hx hb d_Mod_up_21 ?_
  refine lv_topi (fun y9 e9 => ?_)
  obtain rfl : y9 = (nI (mm + 1) : Int32) := by rw [e9]; rw [nI_1]
  refine va_put (D := (dC, dI)) (ci := 1) (v := .int (nI (mm + 1))) (ty := .int) (C := R_Mod) (T := F_Mod) (N := 8) hx hb hT in_Mod t_Mod t_Mod_ok n_Mod hown hK hP hD hS 0 rfl rfl 4 (by decide) (hT _ tw_186) (fun _ h9 => h9) rfl (by decide +kernel) rfl rfl (Nat.le_of_ble_eq_true rfl) d_Mod_up_22 (fun H locs hP hD hS => ?_)
  have hP : va_P (dC, dI) classes [(g0, .inr (1, [.ref gu, .ref gb, .ref gh, .int nx, .int (nI (mm + 1)), .int en, .int th, .int he])), (gu, .inl (cU, 64, .inl (upd un mm (ba 0)))), (gb, .inl (cV, 64, .inl ba)), (gh, .inl (cZ, 64, .inl (hm M)))] H := hP
  have hD : va_D A [(g0, .inr (1, [.ref gu, .ref gb, .ref gh, .int nx, .int (nI (mm + 1)), .int en, .int th, .int he])), (gu, .inl (cU, 64, .inl (upd un mm (ba 0)))), (gb, .inl (cV, 64, .inl ba)), (gh, .inl (cZ, 64, .inl (hm M)))] := hD
  refine lv_aload_n hx hb d_Mod_up_25 rfl (lv_at hl 0 rfl) ?_
  refine lv_dup hx hb d_Mod_up_26 rfl ?_
  refine va_get (D := (dC, dI)) (ci := 1) (v := .int nx) (C := R_Mod) (T := F_Mod) (N := 8) hx hb hT in_Mod hown hK hP 0 rfl rfl 3 (by decide) (hT _ tw_185) (fun _ h9 => h9) rfl d_Mod_up_27 ?_
  refine lv_iconst (v := 1) hx hb d_Mod_up_30 (by decide) ?_
  refine lv_iadd hx hb d_Mod_up_31 ?_
  refine va_put (D := (dC, dI)) (ci := 1) (v := .int (nx + 1)) (ty := .int) (C := R_Mod) (T := F_Mod) (N := 8) hx hb hT in_Mod t_Mod t_Mod_ok n_Mod hown hK hP hD hS 0 rfl rfl 3 (by decide) (hT _ tw_185) (fun _ h9 => h9) rfl (by decide +kernel) rfl rfl (Nat.le_of_ble_eq_true rfl) d_Mod_up_32 (fun H locs hP hD hS => ?_)
  have hP : va_P (dC, dI) classes [(g0, .inr (1, [.ref gu, .ref gb, .ref gh, .int (nx + 1), .int (nI (mm + 1)), .int en, .int th, .int he])), (gu, .inl (cU, 64, .inl (upd un mm (ba 0)))), (gb, .inl (cV, 64, .inl ba)), (gh, .inl (cZ, 64, .inl (hm M)))] H := hP
  have hD : va_D A [(g0, .inr (1, [.ref gu, .ref gb, .ref gh, .int (nx + 1), .int (nI (mm + 1)), .int en, .int th, .int he])), (gu, .inl (cU, 64, .inl (upd un mm (ba 0)))), (gb, .inl (cV, 64, .inl ba)), (gh, .inl (cZ, 64, .inl (hm M)))] := hD
  refine lv_iconst (v := 0) hx hb d_Mod_up_35 (by decide) ?_
  refine lv_istore_n hx hb d_Mod_up_36 rfl hl (by decide) rfl (fun ls hl => ?_)
  have hl : lv_has ls 2 [(1, .int 0), (0, .ref g0)] := hl
  exact loop 63 0 ls H locs (by omega) (lv_sub hl [0, 1] rfl) (by rw [md_sh_0, md_sh_0]; exact hP) (by rw [md_sh_0, md_sh_0]; exact hD) hS
set_option maxHeartbeats 4000000 in
set_option maxRecDepth 100000 in
/-- end(n) -/
theorem c_Mod_end (l : Launch) (dC : Nat → ClassId) (dI : Nat → Nat → Nat) (g0 gu gb gh : Nat) (cU cV cZ : ClassId) (nx mn en th he : Int32) (un ba : Nat → Int32) (M : Nat) (sz : Nat) (n : Int32) (hM : M < 2 ^ 64) : Met l y_Mod_end w_Mod_end rm_0 (va_Pc [.ref g0, .int n] (we dC dI sz [(g0, .inr (1, [.ref gu, .ref gb, .ref gh, .int nx, .int mn, .int en, .int th, .int he])), (gu, .inl (cU, 64, .inl un)), (gb, .inl (cV, 64, .inl ba)), (gh, .inl (cZ, 64, .inl (hm M)))] [(cU, .int), (cV, .int), (cZ, .boolean)])) (va_Qi (fun r (q : Int32 × Int32) => (r = 1 ∧ bx_ends mn he M (n - nx) ∧ q = (n, 1)) ∨ (r = 0 ∧ ¬ bx_ends mn he M (n - nx) ∧ q = (en, he))) (fun q => wz dC dI (va_A [(g0, .inr (1, [.ref gu, .ref gb, .ref gh, .int nx, .int mn, .int en, .int th, .int he])), (gu, .inl (cU, 64, .inl un)), (gb, .inl (cV, 64, .inl ba)), (gh, .inl (cZ, 64, .inl (hm M)))] sz) [(g0, .inr (1, [.ref gu, .ref gb, .ref gh, .int nx, .int mn, .int (q.1), .int 0, .int (q.2)])), (gu, .inl (cU, 64, .inl un)), (gb, .inl (cV, 64, .inl ba)), (gh, .inl (cZ, 64, .inl (hm M)))] [(cU, .int), (cV, .int), (cZ, .boolean)]) (va_A [(g0, .inr (1, [.ref gu, .ref gb, .ref gh, .int nx, .int mn, .int en, .int th, .int he])), (gu, .inl (cU, 64, .inl un)), (gb, .inl (cV, 64, .inl ba)), (gh, .inl (cZ, 64, .inl (hm M)))] sz)) 0 0 (va_A [(g0, .inr (1, [.ref gu, .ref gb, .ref gh, .int nx, .int mn, .int en, .int th, .int he])), (gu, .inl (cU, 64, .inl un)), (gb, .inl (cV, 64, .inl ba)), (gh, .inl (cZ, 64, .inl (hm M)))] sz) := by
  refine Met.ofW (cc := b_Mod_end) (maxL := 4) (ret := (some .boolean)) (by decide) rfl ?_
  intro p e s m args below meth c s₁ B hml hv
  obtain ⟨rfl, hsz, hP, hK, hD0⟩ := hv
  have hx := B.exec
  have hb := B.bytes
  have hr_ := B.returns
  have hT : ∀ w ∈ tb, w.before _ s = true := fun w hw => atoms_spec (ws := w_Mod_end) B.pre w (List.mem_cons_of_mem _ hw)
  have hown : s.vm.findClass R_Mod = some m.cls := findClass_of_methodNamed B.named
  have hlocks := B.notSynchronized
  subst hsz
  have hD := hD0.self (sz := s.heap.size)
  generalize hAe : va_A [(g0, .inr (1, [.ref gu, .ref gb, .ref gh, .int nx, .int mn, .int en, .int th, .int he])), (gu, .inl (cU, 64, .inl un)), (gb, .inl (cV, 64, .inl ba)), (gh, .inl (cZ, 64, .inl (hm M)))] s.heap.size = A at hD ⊢
  have hA : ∀ q : Nat, s.heap.size ≤ q → A q := fun q h => by rw [← hAe]; exact Or.inr h
  have hS : va_S A s.heap s.heap [] := va_S.rf
  have hP : va_P (dC, dI) classes [(g0, .inr (1, [.ref gu, .ref gb, .ref gh, .int nx, .int mn, .int en, .int th, .int he])), (gu, .inl (cU, 64, .inl un)), (gb, .inl (cV, 64, .inl ba)), (gh, .inl (cZ, 64, .inl (hm M)))] s.heap := hP
  have hl := lv_entry ([.ref g0, .int n]) (n := 4) (Nat.le_of_ble_eq_true rfl)
  rw [lg_entry_eq]
  generalize (lg_sl ([.ref g0, .int n]) ++ List.replicate (4 - (lg_sl ([.ref g0, .int n])).length) Slot.unset).toArray = ls at hl ⊢
  have hl : lv_has ls 4 [(0, .ref g0), (1, .int n)] := hl
  have loop : ∀ (d : Nat), d < 2 ^ 31 → n - nx = nI d → he = 0 → nI d ≤ 64 - mn → ∀ (c0 j : Nat) (ls : Array Slot) (H : Heap) (locs : List Loc), d ≤ j → (64 ≤ j ∨ c0 + j = 64) → (c0 = 0 → 64 ≤ j) → j < 2 ^ 31 → (∀ i, d ≤ i → i < j → M.testBit i = false) → lv_has ls 4 [(3, .int (nI j)), (1, .int n), (0, .ref g0)] → va_P (dC, dI) classes [(g0, .inr (1, [.ref gu, .ref gb, .ref gh, .int nx, .int mn, .int en, .int 0, .int he])), (gu, .inl (cU, 64, .inl un)), (gb, .inl (cV, 64, .inl ba)), (gh, .inl (cZ, 64, .inl (hm M)))] H → va_D A [(g0, .inr (1, [.ref gu, .ref gb, .ref gh, .int nx, .int mn, .int en, .int 0, .int he])), (gu, .inl (cU, 64, .inl un)), (gb, .inl (cV, 64, .inl ba)), (gh, .inl (cZ, 64, .inl (hm M)))] → va_S A s.heap H locs → W p l e (headSpec w_Mod_end rm_0).room s m ([.ref g0, .int n] : List Value).toArray below meth c H locs 0 0 (MQ below (va_Qi (fun r (q : Int32 × Int32) => (r = 1 ∧ bx_ends mn he M (n - nx) ∧ q = (n, 1)) ∨ (r = 0 ∧ ¬ bx_ends mn he M (n - nx) ∧ q = (en, he))) (fun q => wz dC dI A [(g0, .inr (1, [.ref gu, .ref gb, .ref gh, .int nx, .int mn, .int (q.1), .int 0, .int (q.2)])), (gu, .inl (cU, 64, .inl un)), (gb, .inl (cV, 64, .inl ba)), (gh, .inl (cZ, 64, .inl (hm M)))] [(cU, .int), (cV, .int), (cZ, .boolean)]) A) ([.ref g0, .int n] : List Value).toArray s 0 0 A) (F0 m 38 ls []) := by
    intro d hd31 hde hhe hdw c0
    induction c0 with
    | zero =>
      intro j ls H locs hdj hc0 hz hj31 hall hl hP hD hS
      refine lv_iload_n hx hb d_Mod_end_38 rfl (lv_at hl 0 rfl) ?_
      refine lv_bipush (v := 64) hx hb d_Mod_end_39 (by decide) ?_
      refine lv_icmp_ge (tgt := 61) hx hb d_Mod_end_41 rfl (fun h1 => ?_) (fun h1 => ?_)
      · have hj64 : 64 ≤ j := (nI_leI (a := 64) (b := j) (by omega) hj31).mp h1
        refine lv_aload_n hx hb d_Mod_end_61 rfl (lv_at hl 2 rfl) ?_
        refine lv_iconst (v := 1) hx hb d_Mod_end_62 (by decide) ?_
        refine va_put (D := (dC, dI)) (ci := 1) (v := .int 1) (ty := .boolean) (C := R_Mod) (T := F_Mod) (N := 8) hx hb hT in_Mod t_Mod t_Mod_ok n_Mod hown hK hP hD hS 0 rfl rfl 7 (by decide) (hT _ tw_189) (fun _ h9 => h9) rfl (by decide +kernel) rfl rfl (Nat.le_of_ble_eq_true rfl) d_Mod_end_63 (fun H locs hP hD hS => ?_)
        have hP : va_P (dC, dI) classes [(g0, .inr (1, [.ref gu, .ref gb, .ref gh, .int nx, .int mn, .int en, .int 0, .int 1])), (gu, .inl (cU, 64, .inl un)), (gb, .inl (cV, 64, .inl ba)), (gh, .inl (cZ, 64, .inl (hm M)))] H := hP
        have hD : va_D A [(g0, .inr (1, [.ref gu, .ref gb, .ref gh, .int nx, .int mn, .int en, .int 0, .int 1])), (gu, .inl (cU, 64, .inl un)), (gb, .inl (cV, 64, .inl ba)), (gh, .inl (cZ, 64, .inl (hm M)))] := hD
        refine lv_aload_n hx hb d_Mod_end_66 rfl (lv_at hl 2 rfl) ?_
        refine lv_iload_n hx hb d_Mod_end_67 rfl (lv_at hl 1 rfl) ?_
        refine va_put (D := (dC, dI)) (ci := 1) (v := .int n) (ty := .int) (C := R_Mod) (T := F_Mod) (N := 8) hx hb hT in_Mod t_Mod t_Mod_ok n_Mod hown hK hP hD hS 0 rfl rfl 5 (by decide) (hT _ tw_187) (fun _ h9 => h9) rfl (by decide +kernel) rfl rfl (Nat.le_of_ble_eq_true rfl) d_Mod_end_68 (fun H locs hP hD hS => ?_)
        have hP : va_P (dC, dI) classes [(g0, .inr (1, [.ref gu, .ref gb, .ref gh, .int nx, .int mn, .int n, .int 0, .int 1])), (gu, .inl (cU, 64, .inl un)), (gb, .inl (cV, 64, .inl ba)), (gh, .inl (cZ, 64, .inl (hm M)))] H := hP
        have hD : va_D A [(g0, .inr (1, [.ref gu, .ref gb, .ref gh, .int nx, .int mn, .int n, .int 0, .int 1])), (gu, .inl (cU, 64, .inl un)), (gb, .inl (cV, 64, .inl ba)), (gh, .inl (cZ, 64, .inl (hm M)))] := hD
        refine lv_iconst (v := 1) hx hb d_Mod_end_71 (by decide) ?_
        exact W.zret (v := 1) hx hb hr_ rfl (fun t ht hW => ⟨⟨1, (n, 1), rfl, Or.inl ⟨rfl, ⟨hhe, by rw [hde]; exact nI_pos hd31, by rw [hde]; exact hdw, fun i hi => by rw [hde, nI_clamp hd31] at hi; rcases Nat.lt_or_ge i j with h | h; exact hall i hi h; exact mb_big hM (by omega)⟩, rfl⟩, by rw [ht]; exact hP, va_K.moved hW.alike hK, hD⟩, hS.F ht⟩) hS.2.2 d_Mod_end_72
      · exact absurd (nI_le (a := 64) (b := j) (hz rfl) hj31) h1
    | succ c0 ih =>
      intro j ls H locs hdj hc0 hz hj31 hall hl hP hD hS
      refine lv_iload_n hx hb d_Mod_end_38 rfl (lv_at hl 0 rfl) ?_
      refine lv_bipush (v := 64) hx hb d_Mod_end_39 (by decide) ?_
      refine lv_icmp_ge (tgt := 61) hx hb d_Mod_end_41 rfl (fun h1 => ?_) (fun h1 => ?_)
      · have hj64 : 64 ≤ j := (nI_leI (a := 64) (b := j) (by omega) hj31).mp h1
        refine lv_aload_n hx hb d_Mod_end_61 rfl (lv_at hl 2 rfl) ?_
        refine lv_iconst (v := 1) hx hb d_Mod_end_62 (by decide) ?_
        refine va_put (D := (dC, dI)) (ci := 1) (v := .int 1) (ty := .boolean) (C := R_Mod) (T := F_Mod) (N := 8) hx hb hT in_Mod t_Mod t_Mod_ok n_Mod hown hK hP hD hS 0 rfl rfl 7 (by decide) (hT _ tw_189) (fun _ h9 => h9) rfl (by decide +kernel) rfl rfl (Nat.le_of_ble_eq_true rfl) d_Mod_end_63 (fun H locs hP hD hS => ?_)
        have hP : va_P (dC, dI) classes [(g0, .inr (1, [.ref gu, .ref gb, .ref gh, .int nx, .int mn, .int en, .int 0, .int 1])), (gu, .inl (cU, 64, .inl un)), (gb, .inl (cV, 64, .inl ba)), (gh, .inl (cZ, 64, .inl (hm M)))] H := hP
        have hD : va_D A [(g0, .inr (1, [.ref gu, .ref gb, .ref gh, .int nx, .int mn, .int en, .int 0, .int 1])), (gu, .inl (cU, 64, .inl un)), (gb, .inl (cV, 64, .inl ba)), (gh, .inl (cZ, 64, .inl (hm M)))] := hD
        refine lv_aload_n hx hb d_Mod_end_66 rfl (lv_at hl 2 rfl) ?_
        refine lv_iload_n hx hb d_Mod_end_67 rfl (lv_at hl 1 rfl) ?_
        refine va_put (D := (dC, dI)) (ci := 1) (v := .int n) (ty := .int) (C := R_Mod) (T := F_Mod) (N := 8) hx hb hT in_Mod t_Mod t_Mod_ok n_Mod hown hK hP hD hS 0 rfl rfl 5 (by decide) (hT _ tw_187) (fun _ h9 => h9) rfl (by decide +kernel) rfl rfl (Nat.le_of_ble_eq_true rfl) d_Mod_end_68 (fun H locs hP hD hS => ?_)
        have hP : va_P (dC, dI) classes [(g0, .inr (1, [.ref gu, .ref gb, .ref gh, .int nx, .int mn, .int n, .int 0, .int 1])), (gu, .inl (cU, 64, .inl un)), (gb, .inl (cV, 64, .inl ba)), (gh, .inl (cZ, 64, .inl (hm M)))] H := hP
        have hD : va_D A [(g0, .inr (1, [.ref gu, .ref gb, .ref gh, .int nx, .int mn, .int n, .int 0, .int 1])), (gu, .inl (cU, 64, .inl un)), (gb, .inl (cV, 64, .inl ba)), (gh, .inl (cZ, 64, .inl (hm M)))] := hD
        refine lv_iconst (v := 1) hx hb d_Mod_end_71 (by decide) ?_
        exact W.zret (v := 1) hx hb hr_ rfl (fun t ht hW => ⟨⟨1, (n, 1), rfl, Or.inl ⟨rfl, ⟨hhe, by rw [hde]; exact nI_pos hd31, by rw [hde]; exact hdw, fun i hi => by rw [hde, nI_clamp hd31] at hi; rcases Nat.lt_or_ge i j with h | h; exact hall i hi h; exact mb_big hM (by omega)⟩, rfl⟩, by rw [ht]; exact hP, va_K.moved hW.alike hK, hD⟩, hS.F ht⟩) hS.2.2 d_Mod_end_72
      · have hj64 : j < 64 := by rcases Nat.lt_or_ge j 64 with h | h; exact h; exact absurd (nI_le h hj31) h1
        refine lv_aload_n hx hb d_Mod_end_44 rfl (lv_at hl 2 rfl) ?_
        refine va_get (D := (dC, dI)) (ci := 1) (v := .ref gh) (C := R_Mod) (T := F_Mod) (N := 8) hx hb hT in_Mod hown hK hP 0 rfl rfl 2 (by decide) (hT _ tw_184) (fun _ h9 => h9) rfl d_Mod_end_45 ?_
        refine lv_iload_n hx hb d_Mod_end_48 rfl (lv_at hl 0 rfl) ?_
        refine va_zald hx hb hK hP 3 2 rfl rfl (vp_in_nI (by omega) (by decide)) d_Mod_end_49 ?_
        rw [nI_clamp (by omega)]
        refine lv_if_eq (tgt := 55) hx hb d_Mod_end_50 rfl (fun h2 => ?_) (fun h2 => ?_)
        · refine lv_iinc (v := nI (j + 1)) hx hb d_Mod_end_55 hl (k := 0) rfl (by rw [← nI_1]; rfl) (by decide) rfl (fun ls hl => ?_)
          have hl : lv_has ls 4 [(3, .int (nI (j + 1))), (1, .int n), (0, .ref g0)] := hl
          refine lv_goto (tgt := 38) hx hb d_Mod_end_58 rfl ?_
          exact ih (j + 1) ls H locs (by omega) (by omega) (by omega) (by omega) (fun i h8 h9 => by rcases Nat.lt_or_ge i j with h | h; exact hall i h8 h; obtain rfl : i = j := (by omega); exact hm_z.mp h2) (lv_sub hl [0, 1, 2] rfl) hP hD hS
        · refine lv_iconst (v := 0) hx hb d_Mod_end_53 (by decide) ?_
          exact W.zret (v := 0) hx hb hr_ rfl (fun t ht hW => ⟨⟨0, (en, he), rfl, Or.inr ⟨rfl, fun hn => h2 (hm_z.mpr (hn.2.2.2 j (by rw [hde, nI_clamp hd31]; exact hdj))), rfl⟩, by rw [ht]; exact hP, va_K.moved hW.alike hK, hD⟩, hS.F ht⟩) hS.2.2 d_Mod_end_54
  refine lv_aload_n hx hb d_Mod_end_0 rfl (lv_at hl 0 rfl) ?_
  refine lv_iconst (v := 0) hx hb d_Mod_end_1 (by decide) ?_
  refine va_put (D := (dC, dI)) (ci := 1) (v := .int 0) (ty := .int) (C := R_Mod) (T := F_Mod) (N := 8) hx hb hT in_Mod t_Mod t_Mod_ok n_Mod hown hK hP hD hS 0 rfl rfl 6 (by decide) (hT _ tw_188) (fun _ h9 => h9) rfl (by decide +kernel) rfl rfl (Nat.le_of_ble_eq_true rfl) d_Mod_end_2 (fun H locs hP hD hS => ?_)
  have hP : va_P (dC, dI) classes [(g0, .inr (1, [.ref gu, .ref gb, .ref gh, .int nx, .int mn, .int en, .int 0, .int he])), (gu, .inl (cU, 64, .inl un)), (gb, .inl (cV, 64, .inl ba)), (gh, .inl (cZ, 64, .inl (hm M)))] H := hP
  have hD : va_D A [(g0, .inr (1, [.ref gu, .ref gb, .ref gh, .int nx, .int mn, .int en, .int 0, .int he])), (gu, .inl (cU, 64, .inl un)), (gb, .inl (cV, 64, .inl ba)), (gh, .inl (cZ, 64, .inl (hm M)))] := hD
  refine lv_iload_n hx hb d_Mod_end_5 rfl (lv_at hl 1 rfl) ?_
  refine lv_aload_n hx hb d_Mod_end_6 rfl (lv_at hl 0 rfl) ?_
  refine va_get (D := (dC, dI)) (ci := 1) (v := .int nx) (C := R_Mod) (T := F_Mod) (N := 8) hx hb hT in_Mod hown hK hP 0 rfl rfl 3 (by decide) (hT _ tw_185) (fun _ h9 => h9) rfl d_Mod_end_7 ?_
  refine lv_isub hx hb d_Mod_end_10 ?_
  refine lv_topi (fun d0 e_d0 => ?_)
  refine lv_istore_n hx hb d_Mod_end_11 rfl hl (by decide) rfl (fun ls hl => ?_)
  have hl : lv_has ls 4 [(2, .int d0), (0, .ref g0), (1, .int n)] := hl
  refine lv_aload_n hx hb d_Mod_end_12 rfl (lv_at hl 1 rfl) ?_
  refine va_get (D := (dC, dI)) (ci := 1) (v := .int he) (C := R_Mod) (T := F_Mod) (N := 8) hx hb hT in_Mod hown hK hP 0 rfl rfl 7 (by decide) (hT _ tw_189) (fun _ h9 => h9) rfl d_Mod_end_13 ?_
  refine lv_if_ne (tgt := 34) hx hb d_Mod_end_16 rfl (fun h1 => ?_) (fun h1 => ?_)
  · refine lv_iconst (v := 0) hx hb d_Mod_end_34 (by decide) ?_
    exact W.zret (v := 0) hx hb hr_ rfl (fun t ht hW => ⟨⟨0, (en, he), rfl, Or.inr ⟨rfl, fun hn => h1 hn.1, rfl⟩, by rw [ht]; exact hP, va_K.moved hW.alike hK, hD⟩, hS.F ht⟩) hS.2.2 d_Mod_end_35
  · refine lv_iload_n hx hb d_Mod_end_19 rfl (lv_at hl 0 rfl) ?_
    refine lv_if_lt (tgt := 34) hx hb d_Mod_end_20 rfl (fun h2 => ?_) (fun h2 => ?_)
    · refine lv_iconst (v := 0) hx hb d_Mod_end_34 (by decide) ?_
      exact W.zret (v := 0) hx hb hr_ rfl (fun t ht hW => ⟨⟨0, (en, he), rfl, Or.inr ⟨rfl, fun hn => hn.2.1 (by rw [← e_d0]; exact h2), rfl⟩, by rw [ht]; exact hP, va_K.moved hW.alike hK, hD⟩, hS.F ht⟩) hS.2.2 d_Mod_end_35
    · refine lv_iload_n hx hb d_Mod_end_23 rfl (lv_at hl 0 rfl) ?_
      refine lv_bipush (v := 64) hx hb d_Mod_end_24 (by decide) ?_
      refine lv_aload_n hx hb d_Mod_end_26 rfl (lv_at hl 1 rfl) ?_
      refine va_get (D := (dC, dI)) (ci := 1) (v := .int mn) (C := R_Mod) (T := F_Mod) (N := 8) hx hb hT in_Mod hown hK hP 0 rfl rfl 4 (by decide) (hT _ tw_186) (fun _ h9 => h9) rfl d_Mod_end_27 ?_
      refine lv_isub hx hb d_Mod_end_30 ?_
      refine lv_icmp_le (tgt := 36) hx hb d_Mod_end_31 rfl (fun h3 => ?_) (fun h3 => ?_)
      · obtain ⟨d, hd31, rfl⟩ := nI_of h2
        refine lv_iload_n hx hb d_Mod_end_36 rfl (lv_at hl 0 rfl) ?_
        refine lv_istore_n hx hb d_Mod_end_37 rfl hl (by decide) rfl (fun ls hl => ?_)
        have hl : lv_has ls 4 [(3, .int (nI d)), (2, .int (nI d)), (0, .ref g0), (1, .int n)] := hl
        exact loop d hd31 e_d0.symm h1 h3 (64 - d) d ls H locs (Nat.le_refl _) (by omega) (by omega) hd31 (fun i h8 h9 => absurd h9 (by omega)) (lv_sub hl [0, 3, 2] rfl) hP hD hS
      · refine lv_iconst (v := 0) hx hb d_Mod_end_34 (by decide) ?_
        exact W.zret (v := 0) hx hb hr_ rfl (fun t ht hW => ⟨⟨0, (en, he), rfl, Or.inr ⟨rfl, fun hn => h3 (by rw [e_d0]; exact hn.2.2.1), rfl⟩, by rw [ht]; exact hP, va_K.moved hW.alike hK, hD⟩, hS.F ht⟩) hS.2.2 d_Mod_end_35
set_option maxHeartbeats 4000000 in
set_option maxRecDepth 100000 in
/-- read(), nothing unread -/
theorem c_Mod_read_0 (l : Launch) (dC : Nat → ClassId) (dI : Nat → Nat → Nat) (g0 gu gb gh : Nat) (cU cV cZ : ClassId) (nx en th he : Int32) (un ba : Nat → Int32) (M : Nat) (sz : Nat) : Met l y_Mod_read w_Mod_read rm_0 (va_Pc [.ref g0] (we dC dI sz [(g0, .inr (1, [.ref gu, .ref gb, .ref gh, .int nx, .int 0, .int en, .int th, .int he])), (gu, .inl (cU, 64, .inl un)), (gb, .inl (cV, 64, .inl ba)), (gh, .inl (cZ, 64, .inl (hm M)))] [(cU, .int), (cV, .int), (cZ, .boolean)])) (va_Qi (fun r (_ : Unit) => (r = -2 ∧ ¬ he = 0 ∧ nx = en) ∨ (r = -1 ∧ ¬ (¬ he = 0 ∧ nx = en))) (fun _ => wz dC dI (va_A [(g0, .inr (1, [.ref gu, .ref gb, .ref gh, .int nx, .int 0, .int en, .int th, .int he])), (gu, .inl (cU, 64, .inl un)), (gb, .inl (cV, 64, .inl ba)), (gh, .inl (cZ, 64, .inl (hm M)))] sz) [(g0, .inr (1, [.ref gu, .ref gb, .ref gh, .int nx, .int 0, .int en, .int 0, .int he])), (gu, .inl (cU, 64, .inl un)), (gb, .inl (cV, 64, .inl ba)), (gh, .inl (cZ, 64, .inl (hm M)))] [(cU, .int), (cV, .int), (cZ, .boolean)]) (va_A [(g0, .inr (1, [.ref gu, .ref gb, .ref gh, .int nx, .int 0, .int en, .int th, .int he])), (gu, .inl (cU, 64, .inl un)), (gb, .inl (cV, 64, .inl ba)), (gh, .inl (cZ, 64, .inl (hm M)))] sz)) 0 0 (va_A [(g0, .inr (1, [.ref gu, .ref gb, .ref gh, .int nx, .int 0, .int en, .int th, .int he])), (gu, .inl (cU, 64, .inl un)), (gb, .inl (cV, 64, .inl ba)), (gh, .inl (cZ, 64, .inl (hm M)))] sz) := by
  refine Met.ofW (cc := b_Mod_read) (maxL := 3) (ret := (some .int)) (by decide) rfl ?_
  intro p e s m args below meth c s₁ B hml hv
  obtain ⟨rfl, hsz, hP, hK, hD0⟩ := hv
  have hx := B.exec
  have hb := B.bytes
  have hr_ := B.returns
  have hT : ∀ w ∈ tb, w.before _ s = true := fun w hw => atoms_spec (ws := w_Mod_read) B.pre w (List.mem_cons_of_mem _ hw)
  have hown : s.vm.findClass R_Mod = some m.cls := findClass_of_methodNamed B.named
  have hlocks := B.notSynchronized
  subst hsz
  have hD := hD0.self (sz := s.heap.size)
  generalize hAe : va_A [(g0, .inr (1, [.ref gu, .ref gb, .ref gh, .int nx, .int 0, .int en, .int th, .int he])), (gu, .inl (cU, 64, .inl un)), (gb, .inl (cV, 64, .inl ba)), (gh, .inl (cZ, 64, .inl (hm M)))] s.heap.size = A at hD ⊢
  have hA : ∀ q : Nat, s.heap.size ≤ q → A q := fun q h => by rw [← hAe]; exact Or.inr h
  have hS : va_S A s.heap s.heap [] := va_S.rf
  have hP : va_P (dC, dI) classes [(g0, .inr (1, [.ref gu, .ref gb, .ref gh, .int nx, .int 0, .int en, .int th, .int he])), (gu, .inl (cU, 64, .inl un)), (gb, .inl (cV, 64, .inl ba)), (gh, .inl (cZ, 64, .inl (hm M)))] s.heap := hP
  have hl := lv_entry ([.ref g0]) (n := 3) (Nat.le_of_ble_eq_true rfl)
  rw [lg_entry_eq]
  generalize (lg_sl ([.ref g0]) ++ List.replicate (3 - (lg_sl ([.ref g0])).length) Slot.unset).toArray = ls at hl ⊢
  have hl : lv_has ls 3 [(0, .ref g0)] := hl
  refine lv_aload_n hx hb d_Mod_read_0 rfl (lv_at hl 0 rfl) ?_
  refine lv_iconst (v := 0) hx hb d_Mod_read_1 (by decide) ?_
  refine va_put (D := (dC, dI)) (ci := 1) (v := .int 0) (ty := .int) (C := R_Mod) (T := F_Mod) (N := 8) hx hb hT in_Mod t_Mod t_Mod_ok n_Mod hown hK hP hD hS 0 rfl rfl 6 (by decide) (hT _ tw_188) (fun _ h9 => h9) rfl (by decide +kernel) rfl rfl (Nat.le_of_ble_eq_true rfl) d_Mod_read_2 (fun H locs hP hD hS => ?_)
  have hP : va_P (dC, dI) classes [(g0, .inr (1, [.ref gu, .ref gb, .ref gh, .int nx, .int 0, .int en, .int 0, .int he])), (gu, .inl (cU, 64, .inl un)), (gb, .inl (cV, 64, .inl ba)), (gh, .inl (cZ, 64, .inl (hm M)))] H := hP
  have hD : va_D A [(g0, .inr (1, [.ref gu, .ref gb, .ref gh, .int nx, .int 0, .int en, .int 0, .int he])), (gu, .inl (cU, 64, .inl un)), (gb, .inl (cV, 64, .inl ba)), (gh, .inl (cZ, 64, .inl (hm M)))] := hD
  refine lv_aload_n hx hb d_Mod_read_5 rfl (lv_at hl 0 rfl) ?_
  refine va_get (D := (dC, dI)) (ci := 1) (v := .int 0) (C := R_Mod) (T := F_Mod) (N := 8) hx hb hT in_Mod hown hK hP 0 rfl rfl 4 (by decide) (hT _ tw_186) (fun _ h9 => h9) rfl d_Mod_read_6 ?_
  refine lv_if_ne (tgt := 37) hx hb d_Mod_read_9 rfl (fun h1 => ?_) (fun h1 => ?_)
  · exact absurd rfl h1
  · refine lv_aload_n hx hb d_Mod_read_12 rfl (lv_at hl 0 rfl) ?_
    refine va_get (D := (dC, dI)) (ci := 1) (v := .int he) (C := R_Mod) (T := F_Mod) (N := 8) hx hb hT in_Mod hown hK hP 0 rfl rfl 7 (by decide) (hT _ tw_189) (fun _ h9 => h9) rfl d_Mod_read_13 ?_
    refine lv_if_eq (tgt := 35) hx hb d_Mod_read_16 rfl (fun h2 => ?_) (fun h2 => ?_)
    · refine lv_iconst (v := (-1)) hx hb d_Mod_read_35 (by decide) ?_
      exact W.iret (v := (-1)) hx hb hr_ (fun t ht hW => ⟨⟨(-1), (), rfl, Or.inr ⟨rfl, fun hn => hn.1 h2⟩, by rw [ht]; exact hP, va_K.moved hW.alike hK, hD⟩, hS.F ht⟩) hS.2.2 d_Mod_read_36
    · refine lv_aload_n hx hb d_Mod_read_19 rfl (lv_at hl 0 rfl) ?_
      refine va_get (D := (dC, dI)) (ci := 1) (v := .int nx) (C := R_Mod) (T := F_Mod) (N := 8) hx hb hT in_Mod hown hK hP 0 rfl rfl 3 (by decide) (hT _ tw_185) (fun _ h9 => h9) rfl d_Mod_read_20 ?_
      refine lv_aload_n hx hb d_Mod_read_23 rfl (lv_at hl 0 rfl) ?_
      refine va_get (D := (dC, dI)) (ci := 1) (v := .int en) (C := R_Mod) (T := F_Mod) (N := 8) hx hb hT in_Mod hown hK hP 0 rfl rfl 5 (by decide) (hT _ tw_187) (fun _ h9 => h9) rfl d_Mod_read_24 ?_
      refine lv_icmp_ne (tgt := 35) hx hb d_Mod_read_27 rfl (fun h3 => ?_) (fun h3 => ?_)
      · refine lv_iconst (v := (-1)) hx hb d_Mod_read_35 (by decide) ?_
        exact W.iret (v := (-1)) hx hb hr_ (fun t ht hW => ⟨⟨(-1), (), rfl, Or.inr ⟨rfl, fun hn => h3 hn.2⟩, by rw [ht]; exact hP, va_K.moved hW.alike hK, hD⟩, hS.F ht⟩) hS.2.2 d_Mod_read_36
      · refine lv_bipush (v := (-2)) hx hb d_Mod_read_30 (by decide) ?_
        refine lv_goto (tgt := 36) hx hb d_Mod_read_32 rfl ?_
        exact W.iret (v := (-2)) hx hb hr_ (fun t ht hW => ⟨⟨(-2), (), rfl, Or.inl ⟨rfl, h2, h3⟩, by rw [ht]; exact hP, va_K.moved hW.alike hK, hD⟩, hS.F ht⟩) hS.2.2 d_Mod_read_36
set_option maxHeartbeats 4000000 in
set_option maxRecDepth 100000 in
/-- read(), something unread -/
theorem c_Mod_read_1 (l : Launch) (dC : Nat → ClassId) (dI : Nat → Nat → Nat) (g0 gu gb gh : Nat) (cU cV cZ : ClassId) (nx : Int32) (mm : Nat) (en th he : Int32) (un ba : Nat → Int32) (M : Nat) (sz : Nat) (hmm : mm < 64) : Met l y_Mod_read w_Mod_read rm_0 (va_Pc [.ref g0] (we dC dI sz [(g0, .inr (1, [.ref gu, .ref gb, .ref gh, .int nx, .int (nI (mm + 1)), .int en, .int th, .int he])), (gu, .inl (cU, 64, .inl un)), (gb, .inl (cV, 64, .inl ba)), (gh, .inl (cZ, 64, .inl (hm M)))] [(cU, .int), (cV, .int), (cZ, .boolean)])) (va_Qi (fun r (_ : Unit) => r = un 0) (fun _ => wz dC dI (va_A [(g0, .inr (1, [.ref gu, .ref gb, .ref gh, .int nx, .int (nI (mm + 1)), .int en, .int th, .int he])), (gu, .inl (cU, 64, .inl un)), (gb, .inl (cV, 64, .inl ba)), (gh, .inl (cZ, 64, .inl (hm M)))] sz) [(g0, .inr (1, [.ref gu, .ref gb, .ref gh, .int nx, .int (nI mm), .int en, .int 0, .int he])), (gu, .inl (cU, 64, .inl (md_sh un mm))), (gb, .inl (cV, 64, .inl ba)), (gh, .inl (cZ, 64, .inl (hm M)))] [(cU, .int), (cV, .int), (cZ, .boolean)]) (va_A [(g0, .inr (1, [.ref gu, .ref gb, .ref gh, .int nx, .int (nI (mm + 1)), .int en, .int th, .int he])), (gu, .inl (cU, 64, .inl un)), (gb, .inl (cV, 64, .inl ba)), (gh, .inl (cZ, 64, .inl (hm M)))] sz)) 0 0 (va_A [(g0, .inr (1, [.ref gu, .ref gb, .ref gh, .int nx, .int (nI (mm + 1)), .int en, .int th, .int he])), (gu, .inl (cU, 64, .inl un)), (gb, .inl (cV, 64, .inl ba)), (gh, .inl (cZ, 64, .inl (hm M)))] sz) := by
  refine Met.ofW (cc := b_Mod_read) (maxL := 3) (ret := (some .int)) (by decide) rfl ?_
  intro p e s m args below meth c s₁ B hml hv
  obtain ⟨rfl, hsz, hP, hK, hD0⟩ := hv
  have hx := B.exec
  have hb := B.bytes
  have hr_ := B.returns
  have hT : ∀ w ∈ tb, w.before _ s = true := fun w hw => atoms_spec (ws := w_Mod_read) B.pre w (List.mem_cons_of_mem _ hw)
  have hown : s.vm.findClass R_Mod = some m.cls := findClass_of_methodNamed B.named
  have hlocks := B.notSynchronized
  subst hsz
  have hD := hD0.self (sz := s.heap.size)
  generalize hAe : va_A [(g0, .inr (1, [.ref gu, .ref gb, .ref gh, .int nx, .int (nI (mm + 1)), .int en, .int th, .int he])), (gu, .inl (cU, 64, .inl un)), (gb, .inl (cV, 64, .inl ba)), (gh, .inl (cZ, 64, .inl (hm M)))] s.heap.size = A at hD ⊢
  have hA : ∀ q : Nat, s.heap.size ≤ q → A q := fun q h => by rw [← hAe]; exact Or.inr h
  have hS : va_S A s.heap s.heap [] := va_S.rf
  have hP : va_P (dC, dI) classes [(g0, .inr (1, [.ref gu, .ref gb, .ref gh, .int nx, .int (nI (mm + 1)), .int en, .int th, .int he])), (gu, .inl (cU, 64, .inl un)), (gb, .inl (cV, 64, .inl ba)), (gh, .inl (cZ, 64, .inl (hm M)))] s.heap := hP
  have hl := lv_entry ([.ref g0]) (n := 3) (Nat.le_of_ble_eq_true rfl)
  rw [lg_entry_eq]
  generalize (lg_sl ([.ref g0]) ++ List.replicate (3 - (lg_sl ([.ref g0])).length) Slot.unset).toArray = ls at hl ⊢
  have hl : lv_has ls 3 [(0, .ref g0)] := hl
  have loop : ∀ (c0 j : Nat) (ls : Array Slot) (H : Heap) (locs : List Loc), c0 + j = mm → lv_has ls 3 [(2, .int (nI j)), (1, .int (un 0)), (0, .ref g0)] → va_P (dC, dI) classes [(g0, .inr (1, [.ref gu, .ref gb, .ref gh, .int nx, .int (nI mm), .int en, .int 0, .int he])), (gu, .inl (cU, 64, .inl (md_sh un j))), (gb, .inl (cV, 64, .inl ba)), (gh, .inl (cZ, 64, .inl (hm M)))] H → va_D A [(g0, .inr (1, [.ref gu, .ref gb, .ref gh, .int nx, .int (nI mm), .int en, .int 0, .int he])), (gu, .inl (cU, 64, .inl (md_sh un j))), (gb, .inl (cV, 64, .inl ba)), (gh, .inl (cZ, 64, .inl (hm M)))] → va_S A s.heap H locs → W p l e (headSpec w_Mod_read rm_0).room s m ([.ref g0] : List Value).toArray below meth c H locs 0 0 (MQ below (va_Qi (fun r (_ : Unit) => r = un 0) (fun _ => wz dC dI A [(g0, .inr (1, [.ref gu, .ref gb, .ref gh, .int nx, .int (nI mm), .int en, .int 0, .int he])), (gu, .inl (cU, 64, .inl (md_sh un mm))), (gb, .inl (cV, 64, .inl ba)), (gh, .inl (cZ, 64, .inl (hm M)))] [(cU, .int), (cV, .int), (cZ, .boolean)]) A) ([.ref g0] : List Value).toArray s 0 0 A) (F0 m 56 ls []) := by
    intro c0
    induction c0 with
    | zero =>
      intro j ls H locs hj hl hP hD hS
      obtain rfl : mm = j := by omega
      refine lv_iload_n hx hb d_Mod_read_56 rfl (lv_at hl 0 rfl) ?_
      refine lv_aload_n hx hb d_Mod_read_57 rfl (lv_at hl 2 rfl) ?_
      refine va_get (D := (dC, dI)) (ci := 1) (v := .int (nI mm)) (C := R_Mod) (T := F_Mod) (N := 8) hx hb hT in_Mod hown hK hP 0 rfl rfl 4 (by decide) (hT _ tw_186) (fun _ h9 => h9) rfl d_Mod_read_58 ?_
      refine lv_icmp_ge (tgt := 84) hx hb d_Mod_read_61 rfl (fun h1 => ?_) (fun h1 => ?_)
      · refine lv_iload_n hx hb d_Mod_read_84 rfl (lv_at hl 1 rfl) ?_
        exact W.iret (v := un 0) hx hb hr_ (fun t ht hW => ⟨⟨un 0, (), rfl, rfl, by rw [ht]; exact hP, va_K.moved hW.alike hK, hD⟩, hS.F ht⟩) hS.2.2 d_Mod_read_85
      · exact absurd (nI_le (Nat.le_refl _) (by omega)) h1
    | succ c0 ih =>
      intro j ls H locs hj hl hP hD hS
      refine lv_iload_n hx hb d_Mod_read_56 rfl (lv_at hl 0 rfl) ?_
      refine lv_aload_n hx hb d_Mod_read_57 rfl (lv_at hl 2 rfl) ?_
      refine va_get (D := (dC, dI)) (ci := 1) (v := .int (nI mm)) (C := R_Mod) (T := F_Mod) (N := 8) hx hb hT in_Mod hown hK hP 0 rfl rfl 4 (by decide) (hT _ tw_186) (fun _ h9 => h9) rfl d_Mod_read_58 ?_
      refine lv_icmp_ge (tgt := 84) hx hb d_Mod_read_61 rfl (fun h1 => ?_) (fun h1 => ?_)
      · exact absurd h1 (Int32.not_le.mpr (nI_lt (by omega) (by omega)))
      · refine lv_aload_n hx hb d_Mod_read_64 rfl (lv_at hl 2 rfl) ?_
        refine va_get (D := (dC, dI)) (ci := 1) (v := .ref gu) (C := R_Mod) (T := F_Mod) (N := 8) hx hb hT in_Mod hown hK hP 0 rfl rfl 0 (by decide) (hT _ tw_182) (fun _ h9 => h9) rfl d_Mod_read_65 ?_
        refine lv_iload_n hx hb d_Mod_read_68 rfl (lv_at hl 0 rfl) ?_
        refine lv_aload_n hx hb d_Mod_read_69 rfl (lv_at hl 2 rfl) ?_
        refine va_get (D := (dC, dI)) (ci := 1) (v := .ref gu) (C := R_Mod) (T := F_Mod) (N := 8) hx hb hT in_Mod hown hK hP 0 rfl rfl 0 (by decide) (hT _ tw_182) (fun _ h9 => h9) rfl d_Mod_read_70 ?_
        refine lv_iload_n hx hb d_Mod_read_73 rfl (lv_at hl 0 rfl) ?_
        refine lv_iconst (v := 1) hx hb d_Mod_read_74 (by decide) ?_
        refine lv_iadd hx hb d_Mod_read_75 ?_
        refine lv_topi (fun y9 e9 => ?_)
        obtain rfl : y9 = (nI (j + 1) : Int32) := by rw [e9]; rw [nI_1]
        refine va_iald hx hb hK hP 1 0 rfl rfl (vp_in_nI (by omega) (by decide)) d_Mod_read_76 ?_
        rw [nI_clamp (by omega), md_sh_at]
        refine va_iast hx hb hK hP hD hS 1 0 rfl rfl (vp_in_nI (by omega) (by decide)) d_Mod_read_77 (fun H locs hP hD hS => ?_)
        rw [nI_clamp (by omega), md_sh_s] at hP hD
        have hP : va_P (dC, dI) classes [(g0, .inr (1, [.ref gu, .ref gb, .ref gh, .int nx, .int (nI mm), .int en, .int 0, .int he])), (gu, .inl (cU, 64, .inl (md_sh un (j + 1)))), (gb, .inl (cV, 64, .inl ba)), (gh, .inl (cZ, 64, .inl (hm M)))] H := hP
        have hD : va_D A [(g0, .inr (1, [.ref gu, .ref gb, .ref gh, .int nx, .int (nI mm), .int en, .int 0, .int he])), (gu, .inl (cU, 64, .inl (md_sh un (j + 1)))), (gb, .inl (cV, 64, .inl ba)), (gh, .inl (cZ, 64, .inl (hm M)))] := hD
        refine lv_iinc (v := nI (j + 1)) hx hb d_Mod_read_78 hl (k := 0) rfl (by rw [← nI_1]; rfl) (by decide) rfl (fun ls hl => ?_)
        have hl : lv_has ls 3 [(2, .int (nI (j + 1))), (1, .int (un 0)), (0, .ref g0)] := hl
        refine lv_goto (tgt := 56) hx hb d_Mod_read_81 rfl ?_
        exact ih (j + 1) ls H locs (by omega) (lv_sub hl [0, 1, 2] rfl) hP hD hS
  refine lv_aload_n hx hb d_Mod_read_0 rfl (lv_at hl 0 rfl) ?_
  refine lv_iconst (v := 0) hx hb d_Mod_read_1 (by decide) ?_
  refine va_put (D := (dC, dI)) (ci := 1) (v := .int 0) (ty := .int) (C := R_Mod) (T := F_Mod) (N := 8) hx hb hT in_Mod t_Mod t_Mod_ok n_Mod hown hK hP hD hS 0 rfl rfl 6 (by decide) (hT _ tw_188) (fun _ h9 => h9) rfl (by decide +kernel) rfl rfl (Nat.le_of_ble_eq_true rfl) d_Mod_read_2 (fun H locs hP hD hS => ?_)
  have hP : va_P (dC, dI) classes [(g0, .inr (1, [.ref gu, .ref gb, .ref gh, .int nx, .int (nI (mm + 1)), .int en, .int 0, .int he])), (gu, .inl (cU, 64, .inl un)), (gb, .inl (cV, 64, .inl ba)), (gh, .inl (cZ, 64, .inl (hm M)))] H := hP
  have hD : va_D A [(g0, .inr (1, [.ref gu, .ref gb, .ref gh, .int nx, .int (nI (mm + 1)), .int en, .int 0, .int he])), (gu, .inl (cU, 64, .inl un)), (gb, .inl (cV, 64, .inl ba)), (gh, .inl (cZ, 64, .inl (hm M)))] := hD
  refine lv_aload_n hx hb d_Mod_read_5 rfl (lv_at hl 0 rfl) ?_
  refine va_get (D := (dC, dI)) (ci := 1) (v := .int (nI (mm + 1))) (C := R_Mod) (T := F_Mod) (N := 8) hx hb hT in_Mod hown hK hP 0 rfl rfl 4 (by decide) (hT _ tw_186) (fun _ h9 => h9) rfl d_Mod_read_6 ?_
  refine lv_if_ne (tgt := 37) hx hb d_Mod_read_9 rfl (fun h1 => ?_) (fun h1 => ?_)
  · refine lv_aload_n hx hb d_Mod_read_37 rfl (lv_at hl 0 rfl) ?_
    refine va_get (D := (dC, dI)) (ci := 1) (v := .ref gu) (C := R_Mod) (T := F_Mod) (N := 8) hx hb hT in_Mod hown hK hP 0 rfl rfl 0 (by decide) (hT _ tw_182) (fun _ h9 => h9) rfl d_Mod_read_38 ?_
    refine lv_iconst (v := 0) hx hb d_Mod_read_41 (by decide) ?_
    refine va_iald hx hb hK hP 1 0 rfl rfl (vp_in_nI (n := 0) (N := 64) (by omega) (by decide)) d_Mod_read_42 ?_
    rw [sb_cl0]
    refine lv_istore_n hx hb d_Mod_read_43 rfl hl (by decide) rfl (fun ls hl => ?_)
    have hl : lv_has ls 3 [(1, .int (un 0)), (0, .ref g0)] := hl
    refine lv_aload_n hx hb d_Mod_read_44 rfl (lv_at hl 1 rfl) ?_
    refine lv_dup hx hb d_Mod_read_45 rfl ?_
    refine va_get (D := (dC, dI)) (ci := 1) (v := .int (nI (mm + 1))) (C := R_Mod) (T := F_Mod) (N := 8) hx hb hT in_Mod hown hK hP 0 rfl rfl 4 (by decide) (hT _ tw_186) (fun _ h9 => h9) rfl d_Mod_read_46 ?_
    refine lv_iconst (v := 1) hx hb d_Mod_read_49 (by decide) ?_
    refine lv_isub hx hb d_Mod_read_50 ?_
    refine lv_topi (fun y9 e9 => ?_)
    obtain rfl : y9 = (nI mm : Int32) := by rw [e9]; rw [nI_pred]
    refine va_put (D := (dC, dI)) (ci := 1) (v := .int (nI mm)) (ty := .int) (C := R_Mod) (T := F_Mod) (N := 8) hx hb hT in_Mod t_Mod t_Mod_ok n_Mod hown hK hP hD hS 0 rfl rfl 4 (by decide) (hT _ tw_186) (fun _ h9 => h9) rfl (by decide +kernel) rfl rfl (Nat.le_of_ble_eq_true rfl) d_Mod_read_51 (fun H locs hP hD hS => ?_)
    have hP : va_P (dC, dI) classes [(g0, .inr (1, [.ref gu, .ref gb, .ref gh, .int nx, .int (nI mm), .int en, .int 0, .int he])), (gu, .inl (cU, 64, .inl un)), (gb, .inl (cV, 64, .inl ba)), (gh, .inl (cZ, 64, .inl (hm M)))] H := hP
    have hD : va_D A [(g0, .inr (1, [.ref gu, .ref gb, .ref gh, .int nx, .int (nI mm), .int en, .int 0, .int he])), (gu, .inl (cU, 64, .inl un)), (gb, .inl (cV, 64, .inl ba)), (gh, .inl (cZ, 64, .inl (hm M)))] := hD
    refine lv_iconst (v := 0) hx hb d_Mod_read_54 (by decide) ?_
    refine lv_istore_n hx hb d_Mod_read_55 rfl hl (by decide) rfl (fun ls hl => ?_)
    have hl : lv_has ls 3 [(2, .int 0), (1, .int (un 0)), (0, .ref g0)] := hl
    exact loop mm 0 ls H locs (by omega) (lv_sub hl [0, 1, 2] rfl) (by rw [md_sh_0]; exact hP) (by rw [md_sh_0]; exact hD) hS
  · exact absurd h1 (nI_ne0 (by omega) (by omega))
set_option maxHeartbeats 4000000 in
set_option maxRecDepth 100000 in
/-- held(n) -/
theorem c_Mod_held (l : Launch) (dC : Nat → ClassId) (dI : Nat → Nat → Nat) (g0 gu gb gh : Nat) (cU cV cZ : ClassId) (nx mn en th he : Int32) (un ba : Nat → Int32) (M : Nat) (sz : Nat) (n : Int32) : Met l y_Mod_held w_Mod_held rm_0 (va_Pc [.ref g0, .int n] (we dC dI sz [(g0, .inr (1, [.ref gu, .ref gb, .ref gh, .int nx, .int mn, .int en, .int th, .int he])), (gu, .inl (cU, 64, .inl un)), (gb, .inl (cV, 64, .inl ba)), (gh, .inl (cZ, 64, .inl (hm M)))] [(cU, .int), (cV, .int), (cZ, .boolean)])) (va_Qi (fun r (_ : Unit) => (r = 1 ∧ ∃ d, d < 64 ∧ n - nx = nI d ∧ M.testBit d = true) ∨ (r = 0 ∧ ¬ ∃ d, d < 64 ∧ n - nx = nI d ∧ M.testBit d = true)) (fun _ => wz dC dI (va_A [(g0, .inr (1, [.ref gu, .ref gb, .ref gh, .int nx, .int mn, .int en, .int th, .int he])), (gu, .inl (cU, 64, .inl un)), (gb, .inl (cV, 64, .inl ba)), (gh, .inl (cZ, 64, .inl (hm M)))] sz) [(g0, .inr (1, [.ref gu, .ref gb, .ref gh, .int nx, .int mn, .int en, .int 0, .int he])), (gu, .inl (cU, 64, .inl un)), (gb, .inl (cV, 64, .inl ba)), (gh, .inl (cZ, 64, .inl (hm M)))] [(cU, .int), (cV, .int), (cZ, .boolean)]) (va_A [(g0, .inr (1, [.ref gu, .ref gb, .ref gh, .int nx, .int mn, .int en, .int th, .int he])), (gu, .inl (cU, 64, .inl un)), (gb, .inl (cV, 64, .inl ba)), (gh, .inl (cZ, 64, .inl (hm M)))] sz)) 0 0 (va_A [(g0, .inr (1, [.ref gu, .ref gb, .ref gh, .int nx, .int mn, .int en, .int th, .int he])), (gu, .inl (cU, 64, .inl un)), (gb, .inl (cV, 64, .inl ba)), (gh, .inl (cZ, 64, .inl (hm M)))] sz) := by
  refine Met.ofW (cc := b_Mod_held) (maxL := 3) (ret := (some .boolean)) (by decide) rfl ?_
  intro p e s m args below meth c s₁ B hml hv
  obtain ⟨rfl, hsz, hP, hK, hD0⟩ := hv
  have hx := B.exec
  have hb := B.bytes
  have hr_ := B.returns
  have hT : ∀ w ∈ tb, w.before _ s = true := fun w hw => atoms_spec (ws := w_Mod_held) B.pre w (List.mem_cons_of_mem _ hw)
  have hown : s.vm.findClass R_Mod = some m.cls := findClass_of_methodNamed B.named
  have hlocks := B.notSynchronized
  subst hsz
  have hD := hD0.self (sz := s.heap.size)
  generalize hAe : va_A [(g0, .inr (1, [.ref gu, .ref gb, .ref gh, .int nx, .int mn, .int en, .int th, .int he])), (gu, .inl (cU, 64, .inl un)), (gb, .inl (cV, 64, .inl ba)), (gh, .inl (cZ, 64, .inl (hm M)))] s.heap.size = A at hD ⊢
  have hA : ∀ q : Nat, s.heap.size ≤ q → A q := fun q h => by rw [← hAe]; exact Or.inr h
  have hS : va_S A s.heap s.heap [] := va_S.rf
  have hP : va_P (dC, dI) classes [(g0, .inr (1, [.ref gu, .ref gb, .ref gh, .int nx, .int mn, .int en, .int th, .int he])), (gu, .inl (cU, 64, .inl un)), (gb, .inl (cV, 64, .inl ba)), (gh, .inl (cZ, 64, .inl (hm M)))] s.heap := hP
  have hl := lv_entry ([.ref g0, .int n]) (n := 3) (Nat.le_of_ble_eq_true rfl)
  rw [lg_entry_eq]
  generalize (lg_sl ([.ref g0, .int n]) ++ List.replicate (3 - (lg_sl ([.ref g0, .int n])).length) Slot.unset).toArray = ls at hl ⊢
  have hl : lv_has ls 3 [(0, .ref g0), (1, .int n)] := hl
  refine lv_aload_n hx hb d_Mod_held_0 rfl (lv_at hl 0 rfl) ?_
  refine lv_iconst (v := 0) hx hb d_Mod_held_1 (by decide) ?_
  refine va_put (D := (dC, dI)) (ci := 1) (v := .int 0) (ty := .int) (C := R_Mod) (T := F_Mod) (N := 8) hx hb hT in_Mod t_Mod t_Mod_ok n_Mod hown hK hP hD hS 0 rfl rfl 6 (by decide) (hT _ tw_188) (fun _ h9 => h9) rfl (by decide +kernel) rfl rfl (Nat.le_of_ble_eq_true rfl) d_Mod_held_2 (fun H locs hP hD hS => ?_)
  have hP : va_P (dC, dI) classes [(g0, .inr (1, [.ref gu, .ref gb, .ref gh, .int nx, .int mn, .int en, .int 0, .int he])), (gu, .inl (cU, 64, .inl un)), (gb, .inl (cV, 64, .inl ba)), (gh, .inl (cZ, 64, .inl (hm M)))] H := hP
  have hD : va_D A [(g0, .inr (1, [.ref gu, .ref gb, .ref gh, .int nx, .int mn, .int en, .int 0, .int he])), (gu, .inl (cU, 64, .inl un)), (gb, .inl (cV, 64, .inl ba)), (gh, .inl (cZ, 64, .inl (hm M)))] := hD
  refine lv_iload_n hx hb d_Mod_held_5 rfl (lv_at hl 1 rfl) ?_
  refine lv_aload_n hx hb d_Mod_held_6 rfl (lv_at hl 0 rfl) ?_
  refine va_get (D := (dC, dI)) (ci := 1) (v := .int nx) (C := R_Mod) (T := F_Mod) (N := 8) hx hb hT in_Mod hown hK hP 0 rfl rfl 3 (by decide) (hT _ tw_185) (fun _ h9 => h9) rfl d_Mod_held_7 ?_
  refine lv_isub hx hb d_Mod_held_10 ?_
  refine lv_topi (fun d0 e_d0 => ?_)
  refine lv_istore_n hx hb d_Mod_held_11 rfl hl (by decide) rfl (fun ls hl => ?_)
  have hl : lv_has ls 3 [(2, .int d0), (0, .ref g0), (1, .int n)] := hl
  refine lv_iload_n hx hb d_Mod_held_12 rfl (lv_at hl 0 rfl) ?_
  refine lv_if_lt (tgt := 35) hx hb d_Mod_held_13 rfl (fun h1 => ?_) (fun h1 => ?_)
  · refine lv_iconst (v := 0) hx hb d_Mod_held_35 (by decide) ?_
    exact W.zret (v := 0) hx hb hr_ rfl (fun t ht hW => ⟨⟨0, (), rfl, Or.inr ⟨rfl, fun ⟨d, hd, he, hb9⟩ => absurd h1 (by rw [e_d0, he]; exact nI_pos (by omega))⟩, by rw [ht]; exact hP, va_K.moved hW.alike hK, hD⟩, hS.F ht⟩) hS.2.2 d_Mod_held_36
  · refine lv_iload_n hx hb d_Mod_held_16 rfl (lv_at hl 0 rfl) ?_
    refine lv_bipush (v := 64) hx hb d_Mod_held_17 (by decide) ?_
    refine lv_icmp_ge (tgt := 35) hx hb d_Mod_held_19 rfl (fun h2 => ?_) (fun h2 => ?_)
    · refine lv_iconst (v := 0) hx hb d_Mod_held_35 (by decide) ?_
      exact W.zret (v := 0) hx hb hr_ rfl (fun t ht hW => ⟨⟨0, (), rfl, Or.inr ⟨rfl, fun ⟨d, hd, he, hb9⟩ => absurd h2 (by rw [e_d0, he]; exact (show ¬ nI 64 ≤ nI d from Int32.not_le.mpr (nI_lt hd (by decide))))⟩, by rw [ht]; exact hP, va_K.moved hW.alike hK, hD⟩, hS.F ht⟩) hS.2.2 d_Mod_held_36
    · obtain ⟨d, hd31, rfl⟩ := nI_of h1
      have hd : d < 64 := by rcases Nat.lt_or_ge d 64 with h | h; exact h; exact absurd (nI_le h hd31) h2
      refine lv_aload_n hx hb d_Mod_held_22 rfl (lv_at hl 1 rfl) ?_
      refine va_get (D := (dC, dI)) (ci := 1) (v := .ref gh) (C := R_Mod) (T := F_Mod) (N := 8) hx hb hT in_Mod hown hK hP 0 rfl rfl 2 (by decide) (hT _ tw_184) (fun _ h9 => h9) rfl d_Mod_held_23 ?_
      refine lv_iload_n hx hb d_Mod_held_26 rfl (lv_at hl 0 rfl) ?_
      refine va_zald hx hb hK hP 3 2 rfl rfl (vp_in_nI (by omega) (by decide)) d_Mod_held_27 ?_
      rw [nI_clamp (by omega)]
      refine lv_if_eq (tgt := 35) hx hb d_Mod_held_28 rfl (fun h3 => ?_) (fun h3 => ?_)
      · refine lv_iconst (v := 0) hx hb d_Mod_held_35 (by decide) ?_
        exact W.zret (v := 0) hx hb hr_ rfl (fun t ht hW => ⟨⟨0, (), rfl, Or.inr ⟨rfl, fun ⟨d9, hd9, he, hb9⟩ => by rw [← (nI_eq (by omega) (by omega)).mp (e_d0.trans he), hm_z.mp h3] at hb9; cases hb9⟩, by rw [ht]; exact hP, va_K.moved hW.alike hK, hD⟩, hS.F ht⟩) hS.2.2 d_Mod_held_36
      · refine lv_iconst (v := 1) hx hb d_Mod_held_31 (by decide) ?_
        refine lv_goto (tgt := 36) hx hb d_Mod_held_32 rfl ?_
        exact W.zret (v := 1) hx hb hr_ rfl (fun t ht hW => ⟨⟨1, (), rfl, Or.inl ⟨rfl, d, hd, e_d0.symm, by simpa using (fun q => h3 (hm_z.mpr q))⟩, by rw [ht]; exact hP, va_K.moved hW.alike hK, hD⟩, hS.F ht⟩) hS.2.2 d_Mod_held_36
end
section
/-! SegmentBoxModel: from, told, block, the constructor, segment beyond 0..8 -/
set_option maxHeartbeats 4000000 in
set_option maxRecDepth 100000 in
/-- from(i) -/
theorem c_Mod_from (l : Launch) (dC : Nat → ClassId) (dI : Nat → Nat → Nat) (g0 gu gb gh : Nat) (cU cV cZ : ClassId) (nx mn en th he : Int32) (un ba : Nat → Int32) (M : Nat) (ii : Nat) (hii : ii < 2 ^ 31) : Met l y_Mod_from w_Mod_from rm_0 (va_Pc [.ref g0, .int (nI ii)] (wd dC dI [(g0, .inr (1, [.ref gu, .ref gb, .ref gh, .int nx, .int mn, .int en, .int th, .int he])), (gu, .inl (cU, 64, .inl un)), (gb, .inl (cV, 64, .inl ba)), (gh, .inl (cZ, 64, .inl (hm M)))] [(cU, .int), (cV, .int), (cZ, .boolean)])) (vp_Si (fun r => (∃ k, k < 64 ∧ r = nI k ∧ (bg M).testBit k = true ∧ cn (bg M).testBit k = ii) ∨ (r = -1 ∧ cn (bg M).testBit 64 ≤ ii))) 0 0 (fun _ => False) := by
  refine Met.ofW (cc := b_Mod_from) (maxL := 4) (ret := (some .int)) (by decide) rfl ?_
  intro p e s m args below meth c s₁ B hml hv
  obtain ⟨rfl, hP, hK⟩ := hv
  have hx := B.exec
  have hb := B.bytes
  have hr_ := B.returns
  have hT : ∀ w ∈ tb, w.before _ s = true := fun w hw => atoms_spec (ws := w_Mod_from) B.pre w (List.mem_cons_of_mem _ hw)
  have hown : s.vm.findClass R_Mod = some m.cls := findClass_of_methodNamed B.named
  have hlocks := B.notSynchronized
  have hP : va_P (dC, dI) classes [(g0, .inr (1, [.ref gu, .ref gb, .ref gh, .int nx, .int mn, .int en, .int th, .int he])), (gu, .inl (cU, 64, .inl un)), (gb, .inl (cV, 64, .inl ba)), (gh, .inl (cZ, 64, .inl (hm M)))] s.heap := hP
  have hl := lv_entry ([.ref g0, .int (nI ii)]) (n := 4) (Nat.le_of_ble_eq_true rfl)
  rw [lg_entry_eq]
  generalize (lg_sl ([.ref g0, .int (nI ii)]) ++ List.replicate (4 - (lg_sl ([.ref g0, .int (nI ii)])).length) Slot.unset).toArray = ls at hl ⊢
  have hl : lv_has ls 4 [(0, .ref g0), (1, .int (nI ii))] := hl
  have loop : ∀ (c0 k : Nat) (ls : Array Slot), c0 + k = 64 → cn (bg M).testBit k ≤ ii → lv_has ls 4 [(3, .int (nI k)), (2, .int (nI (ii - cn (bg M).testBit k))), (0, .ref g0)] → W p l e (headSpec w_Mod_from rm_0).room s m ([.ref g0, .int (nI ii)] : List Value).toArray below meth c s.heap [] 0 0 (MQ below (vp_Si (fun r => (∃ k, k < 64 ∧ r = nI k ∧ (bg M).testBit k = true ∧ cn (bg M).testBit k = ii) ∨ (r = -1 ∧ cn (bg M).testBit 64 ≤ ii))) ([.ref g0, .int (nI ii)] : List Value).toArray s 0 0 (fun _ => False)) (F0 m 4 ls []) := by
    intro c0
    induction c0 with
    | zero =>
      intro k ls hk hle hl
      obtain rfl : k = 64 := by omega
      refine lv_iload_n hx hb d_Mod_from_4 rfl (lv_at hl 0 rfl) ?_
      refine lv_bipush (v := 64) hx hb d_Mod_from_5 (by decide) ?_
      refine lv_icmp_ge (tgt := 52) hx hb d_Mod_from_7 rfl (fun h1 => ?_) (fun h1 => ?_)
      · refine lv_iconst (v := (-1)) hx hb d_Mod_from_52 (by decide) ?_
        exact W.iret (v := (-1)) hx hb hr_ (fun t ht hW => ⟨(-1), rfl, Or.inr ⟨rfl, hle⟩, ht⟩) (fun q hq => by cases hq) d_Mod_from_53
      · exact absurd (nI_le (Nat.le_refl 64) (by omega)) h1
    | succ c0 ih =>
      intro k ls hk hle hl
      have hcs : cn (bg M).testBit (k + 1) = cn (bg M).testBit k + if (bg M).testBit k = true then 1 else 0 := rfl
      have hbb := bg_bit (M := M) (i := k) (by omega)
      refine lv_iload_n hx hb d_Mod_from_4 rfl (lv_at hl 0 rfl) ?_
      refine lv_bipush (v := 64) hx hb d_Mod_from_5 (by decide) ?_
      refine lv_icmp_ge (tgt := 52) hx hb d_Mod_from_7 rfl (fun h1 => ?_) (fun h1 => ?_)
      · exact absurd h1 (Int32.not_le.mpr (nI_lt (a := k) (b := 64) (by omega) (by omega)))
      · refine lv_aload_n hx hb d_Mod_from_10 rfl (lv_at hl 2 rfl) ?_
        refine va_get (D := (dC, dI)) (ci := 1) (v := .ref gh) (C := R_Mod) (T := F_Mod) (N := 8) hx hb hT in_Mod hown hK hP 0 rfl rfl 2 (by decide) (hT _ tw_184) (fun _ h9 => h9) rfl d_Mod_from_11 ?_
        refine lv_iload_n hx hb d_Mod_from_14 rfl (lv_at hl 0 rfl) ?_
        refine va_zald hx hb hK hP 3 2 rfl rfl (vp_in_nI (by omega) (by decide)) d_Mod_from_15 ?_
        rw [nI_clamp (by omega)]
        refine lv_if_eq (tgt := 46) hx hb d_Mod_from_16 rfl (fun h2 => ?_) (fun h2 => ?_)
        · have hno : (bg M).testBit k = false := by rw [hbb, hm_z.mp h2]; rfl
          have hcn : cn (bg M).testBit (k + 1) = cn (bg M).testBit k := by rw [hcs, hno]; simp
          refine lv_iinc (v := nI (k + 1)) hx hb d_Mod_from_46 hl (k := 0) rfl (by rw [← nI_1]; rfl) (by decide) rfl (fun ls hl => ?_)
          have hl : lv_has ls 4 [(3, .int (nI (k + 1))), (2, .int (nI (ii - cn (bg M).testBit k))), (0, .ref g0)] := hl
          refine lv_goto (tgt := 4) hx hb d_Mod_from_49 rfl ?_
          exact ih (k + 1) ls (by omega) (by omega) (by rw [hcn]; exact lv_sub hl [0, 1, 2] rfl)
        · have hh : M.testBit k = true := by simpa using (fun q => h2 (hm_z.mpr q))
          refine lv_iload_n hx hb d_Mod_from_19 rfl (lv_at hl 0 rfl) ?_
          refine lv_if_le (tgt := 37) hx hb d_Mod_from_20 rfl (fun h3 => ?_) (fun h3 => ?_)
          · have hk0 : k = 0 := by rcases Nat.eq_zero_or_pos k with h | h; exact h; exact absurd h3 (nI_nle h (by omega))
            have hst : (bg M).testBit k = true := by rw [hbb, hh, hk0]; rfl
            have hcn : cn (bg M).testBit (k + 1) = cn (bg M).testBit k + 1 := by rw [hcs, hst]; simp
            refine lv_iload_n hx hb d_Mod_from_37 rfl (lv_at hl 1 rfl) ?_
            refine lv_if_ne (tgt := 43) hx hb d_Mod_from_38 rfl (fun h5 => ?_) (fun h5 => ?_)
            · have hne : ii - cn (bg M).testBit k ≠ 0 := fun h => h5 (by rw [h]; rfl)
              refine lv_iinc (v := nI (ii - cn (bg M).testBit (k + 1))) hx hb d_Mod_from_43 hl (k := 1) rfl (by rw [hcn]; exact (sb_m1 (p := ii - cn (bg M).testBit k) (by omega)).trans (by congr 1)) (by decide) rfl (fun ls hl => ?_)
              have hl : lv_has ls 4 [(2, .int (nI (ii - cn (bg M).testBit (k + 1)))), (3, .int (nI k)), (0, .ref g0)] := hl
              refine lv_iinc (v := nI (k + 1)) hx hb d_Mod_from_46 hl (k := 1) rfl (by rw [← nI_1]; rfl) (by decide) rfl (fun ls hl => ?_)
              have hl : lv_has ls 4 [(3, .int (nI (k + 1))), (2, .int (nI (ii - cn (bg M).testBit (k + 1)))), (0, .ref g0)] := hl
              refine lv_goto (tgt := 4) hx hb d_Mod_from_49 rfl ?_
              exact ih (k + 1) ls (by omega) (by omega) (lv_sub hl [0, 1, 2] rfl)
            · have hze : ii - cn (bg M).testBit k = 0 := by rcases Nat.eq_zero_or_pos (ii - cn (bg M).testBit k) with h | h; exact h; exact absurd h5 (nI_ne0 h (by omega))
              refine lv_iload_n hx hb d_Mod_from_41 rfl (lv_at hl 0 rfl) ?_
              exact W.iret (v := nI k) hx hb hr_ (fun t ht hW => ⟨nI k, rfl, Or.inl ⟨k, by omega, rfl, hst, by omega⟩, ht⟩) (fun q hq => by cases hq) d_Mod_from_42
          · have hk0 : 0 < k := by rcases Nat.eq_zero_or_pos k with h | h; exact absurd (by rw [h]; decide) h3; exact h
            refine lv_aload_n hx hb d_Mod_from_23 rfl (lv_at hl 2 rfl) ?_
            refine va_get (D := (dC, dI)) (ci := 1) (v := .ref gh) (C := R_Mod) (T := F_Mod) (N := 8) hx hb hT in_Mod hown hK hP 0 rfl rfl 2 (by decide) (hT _ tw_184) (fun _ h9 => h9) rfl d_Mod_from_24 ?_
            refine lv_iload_n hx hb d_Mod_from_27 rfl (lv_at hl 0 rfl) ?_
            refine lv_iconst (v := 1) hx hb d_Mod_from_28 (by decide) ?_
            refine lv_isub hx hb d_Mod_from_29 ?_
            refine lv_topi (fun y9 e9 => ?_)
            obtain rfl : y9 = (nI (k - 1) : Int32) := by rw [e9]; exact pk_sub (b := 1) (by omega)
            refine va_zald hx hb hK hP 3 2 rfl rfl (vp_in_nI (by omega) (by decide)) d_Mod_from_30 ?_
            rw [nI_clamp (by omega)]
            refine lv_if_eq (tgt := 37) hx hb d_Mod_from_31 rfl (fun h4 => ?_) (fun h4 => ?_)
            · have hst : (bg M).testBit k = true := by rw [hbb, hh, hm_z.mp h4]; simp
              have hcn : cn (bg M).testBit (k + 1) = cn (bg M).testBit k + 1 := by rw [hcs, hst]; simp
              refine lv_iload_n hx hb d_Mod_from_37 rfl (lv_at hl 1 rfl) ?_
              refine lv_if_ne (tgt := 43) hx hb d_Mod_from_38 rfl (fun h5 => ?_) (fun h5 => ?_)
              · have hne : ii - cn (bg M).testBit k ≠ 0 := fun h => h5 (by rw [h]; rfl)
                refine lv_iinc (v := nI (ii - cn (bg M).testBit (k + 1))) hx hb d_Mod_from_43 hl (k := 1) rfl (by rw [hcn]; exact (sb_m1 (p := ii - cn (bg M).testBit k) (by omega)).trans (by congr 1)) (by decide) rfl (fun ls hl => ?_)
                have hl : lv_has ls 4 [(2, .int (nI (ii - cn (bg M).testBit (k + 1)))), (3, .int (nI k)), (0, .ref g0)] := hl
                refine lv_iinc (v := nI (k + 1)) hx hb d_Mod_from_46 hl (k := 1) rfl (by rw [← nI_1]; rfl) (by decide) rfl (fun ls hl => ?_)
                have hl : lv_has ls 4 [(3, .int (nI (k + 1))), (2, .int (nI (ii - cn (bg M).testBit (k + 1)))), (0, .ref g0)] := hl
                refine lv_goto (tgt := 4) hx hb d_Mod_from_49 rfl ?_
                exact ih (k + 1) ls (by omega) (by omega) (lv_sub hl [0, 1, 2] rfl)
              · have hze : ii - cn (bg M).testBit k = 0 := by rcases Nat.eq_zero_or_pos (ii - cn (bg M).testBit k) with h | h; exact h; exact absurd h5 (nI_ne0 h (by omega))
                refine lv_iload_n hx hb d_Mod_from_41 rfl (lv_at hl 0 rfl) ?_
                exact W.iret (v := nI k) hx hb hr_ (fun t ht hW => ⟨nI k, rfl, Or.inl ⟨k, by omega, rfl, hst, by omega⟩, ht⟩) (fun q hq => by cases hq) d_Mod_from_42
            · have hp : M.testBit (k - 1) = true := by simpa using (fun q => h4 (hm_z.mpr q))
              have hno : (bg M).testBit k = false := by rw [hbb, hp]; simp; omega
              have hcn : cn (bg M).testBit (k + 1) = cn (bg M).testBit k := by rw [hcs, hno]; simp
              refine lv_goto (tgt := 46) hx hb d_Mod_from_34 rfl ?_
              refine lv_iinc (v := nI (k + 1)) hx hb d_Mod_from_46 hl (k := 0) rfl (by rw [← nI_1]; rfl) (by decide) rfl (fun ls hl => ?_)
              have hl : lv_has ls 4 [(3, .int (nI (k + 1))), (2, .int (nI (ii - cn (bg M).testBit k))), (0, .ref g0)] := hl
              refine lv_goto (tgt := 4) hx hb d_Mod_from_49 rfl ?_
              exact ih (k + 1) ls (by omega) (by omega) (by rw [hcn]; exact lv_sub hl [0, 1, 2] rfl)
  refine lv_iload_n hx hb d_Mod_from_0 rfl (lv_at hl 1 rfl) ?_
  refine lv_istore_n hx hb d_Mod_from_1 rfl hl (by decide) rfl (fun ls hl => ?_)
  have hl : lv_has ls 4 [(2, .int (nI ii)), (0, .ref g0), (1, .int (nI ii))] := hl
  refine lv_iconst (v := 0) hx hb d_Mod_from_2 (by decide) ?_
  refine lv_istore_n hx hb d_Mod_from_3 rfl hl (by decide) rfl (fun ls hl => ?_)
  have hl : lv_has ls 4 [(3, .int 0), (2, .int (nI ii)), (0, .ref g0), (1, .int (nI ii))] := hl
  exact loop 64 0 ls (by omega) (Nat.zero_le _) (lv_sub hl [0, 1, 2] rfl)
set_option maxHeartbeats 4000000 in
set_option maxRecDepth 100000 in
/-- told(k), k in 0..5 -/
theorem c_Mod_told_1 (l : Launch) (dC : Nat → ClassId) (dI : Nat → Nat → Nat) (g0 gu gb gh : Nat) (cU cV cZ : ClassId) (nx mn en th he : Int32) (un ba : Nat → Int32) (M : Nat) (sz : Nat) (k : Nat) (hk : k < 6) : Met l y_Mod_told w_Mod_told rm_1 (va_Pc [.ref g0, .int (nI k)] (we dC dI sz [(g0, .inr (1, [.ref gu, .ref gb, .ref gh, .int nx, .int mn, .int en, .int th, .int he])), (gu, .inl (cU, 64, .inl un)), (gb, .inl (cV, 64, .inl ba)), (gh, .inl (cZ, 64, .inl (hm M)))] [(cU, .int), (cV, .int), (cZ, .boolean)])) (va_Qi (fun r (_ : Unit) => r = bx_told mn nx M he k) (fun _ => wz dC dI (va_A [(g0, .inr (1, [.ref gu, .ref gb, .ref gh, .int nx, .int mn, .int en, .int th, .int he])), (gu, .inl (cU, 64, .inl un)), (gb, .inl (cV, 64, .inl ba)), (gh, .inl (cZ, 64, .inl (hm M)))] sz) [(g0, .inr (1, [.ref gu, .ref gb, .ref gh, .int nx, .int mn, .int en, .int 0, .int he])), (gu, .inl (cU, 64, .inl un)), (gb, .inl (cV, 64, .inl ba)), (gh, .inl (cZ, 64, .inl (hm M)))] [(cU, .int), (cV, .int), (cZ, .boolean)]) (va_A [(g0, .inr (1, [.ref gu, .ref gb, .ref gh, .int nx, .int mn, .int en, .int th, .int he])), (gu, .inl (cU, 64, .inl un)), (gb, .inl (cV, 64, .inl ba)), (gh, .inl (cZ, 64, .inl (hm M)))] sz)) 0 0 (va_A [(g0, .inr (1, [.ref gu, .ref gb, .ref gh, .int nx, .int mn, .int en, .int th, .int he])), (gu, .inl (cU, 64, .inl un)), (gb, .inl (cV, 64, .inl ba)), (gh, .inl (cZ, 64, .inl (hm M)))] sz) := by
  refine Met.ofW (cc := b_Mod_told) (maxL := 4) (ret := (some .int)) (by decide) rfl ?_
  intro p e s m args below meth c s₁ B hml hv
  obtain ⟨rfl, hsz, hP, hK, hD0⟩ := hv
  have hx := B.exec
  have hb := B.bytes
  have hr_ := B.returns
  have hT : ∀ w ∈ tb, w.before _ s = true := fun w hw => atoms_spec (ws := w_Mod_told) B.pre w (List.mem_cons_of_mem _ hw)
  have hown : s.vm.findClass R_Mod = some m.cls := findClass_of_methodNamed B.named
  have hlocks := B.notSynchronized
  subst hsz
  have hD := hD0.self (sz := s.heap.size)
  generalize hAe : va_A [(g0, .inr (1, [.ref gu, .ref gb, .ref gh, .int nx, .int mn, .int en, .int th, .int he])), (gu, .inl (cU, 64, .inl un)), (gb, .inl (cV, 64, .inl ba)), (gh, .inl (cZ, 64, .inl (hm M)))] s.heap.size = A at hD ⊢
  have hA : ∀ q : Nat, s.heap.size ≤ q → A q := fun q h => by rw [← hAe]; exact Or.inr h
  have hS : va_S A s.heap s.heap [] := va_S.rf
  have hP : va_P (dC, dI) classes [(g0, .inr (1, [.ref gu, .ref gb, .ref gh, .int nx, .int mn, .int en, .int th, .int he])), (gu, .inl (cU, 64, .inl un)), (gb, .inl (cV, 64, .inl ba)), (gh, .inl (cZ, 64, .inl (hm M)))] s.heap := hP
  have hl := lv_entry ([.ref g0, .int (nI k)]) (n := 4) (Nat.le_of_ble_eq_true rfl)
  rw [lg_entry_eq]
  generalize (lg_sl ([.ref g0, .int (nI k)]) ++ List.replicate (4 - (lg_sl ([.ref g0, .int (nI k)])).length) Slot.unset).toArray = ls at hl ⊢
  have hl : lv_has ls 4 [(0, .ref g0), (1, .int (nI k))] := hl
  have loop3 : ∀ (c0 j : Nat) (ls : Array Slot) (H : Heap) (locs : List Loc), c0 + j = 64 → k = 3 → lv_has ls 4 [(3, .int (nI j)), (2, .int (nI (cn M.testBit j))), (0, .ref g0)] → va_P (dC, dI) classes [(g0, .inr (1, [.ref gu, .ref gb, .ref gh, .int nx, .int mn, .int en, .int 0, .int he])), (gu, .inl (cU, 64, .inl un)), (gb, .inl (cV, 64, .inl ba)), (gh, .inl (cZ, 64, .inl (hm M)))] H → va_D A [(g0, .inr (1, [.ref gu, .ref gb, .ref gh, .int nx, .int mn, .int en, .int 0, .int he])), (gu, .inl (cU, 64, .inl un)), (gb, .inl (cV, 64, .inl ba)), (gh, .inl (cZ, 64, .inl (hm M)))] → va_S A s.heap H locs → W p l e (headSpec w_Mod_told rm_1).room s m ([.ref g0, .int (nI k)] : List Value).toArray below meth c H locs 0 0 (MQ below (va_Qi (fun r (_ : Unit) => r = bx_told mn nx M he k) (fun _ => wz dC dI A [(g0, .inr (1, [.ref gu, .ref gb, .ref gh, .int nx, .int mn, .int en, .int 0, .int he])), (gu, .inl (cU, 64, .inl un)), (gb, .inl (cV, 64, .inl ba)), (gh, .inl (cZ, 64, .inl (hm M)))] [(cU, .int), (cV, .int), (cZ, .boolean)]) A) ([.ref g0, .int (nI k)] : List Value).toArray s 0 0 A) (F0 m 84 ls []) := by
    intro c0
    induction c0 with
    | zero =>
      intro j ls H locs hj hk3 hl hP hD hS
      obtain rfl : j = 64 := by omega
      refine lv_iload_n hx hb d_Mod_told_84 rfl (lv_at hl 0 rfl) ?_
      refine lv_bipush (v := 64) hx hb d_Mod_told_85 (by decide) ?_
      refine lv_icmp_ge (tgt := 108) hx hb d_Mod_told_87 rfl (fun h1 => ?_) (fun h1 => ?_)
      · refine lv_iload_n hx hb d_Mod_told_108 rfl (lv_at hl 1 rfl) ?_
        exact W.iret (v := nI (cn M.testBit 64)) hx hb hr_ (fun t ht hW => ⟨⟨nI (cn M.testBit 64), (), rfl, by rw [hk3]; rfl, by rw [ht]; exact hP, va_K.moved hW.alike hK, hD⟩, hS.F ht⟩) hS.2.2 d_Mod_told_109
      · exact absurd (nI_le (Nat.le_refl 64) (by omega)) h1
    | succ c0 ih =>
      intro j ls H locs hj hk3 hl hP hD hS
      have hcs : cn M.testBit (j + 1) = cn M.testBit j + if M.testBit j = true then 1 else 0 := rfl
      refine lv_iload_n hx hb d_Mod_told_84 rfl (lv_at hl 0 rfl) ?_
      refine lv_bipush (v := 64) hx hb d_Mod_told_85 (by decide) ?_
      refine lv_icmp_ge (tgt := 108) hx hb d_Mod_told_87 rfl (fun h1 => ?_) (fun h1 => ?_)
      · exact absurd h1 (Int32.not_le.mpr (nI_lt (a := j) (b := 64) (by omega) (by omega)))
      · refine lv_aload_n hx hb d_Mod_told_90 rfl (lv_at hl 2 rfl) ?_
        refine va_get (D := (dC, dI)) (ci := 1) (v := .ref gh) (C := R_Mod) (T := F_Mod) (N := 8) hx hb hT in_Mod hown hK hP 0 rfl rfl 2 (by decide) (hT _ tw_184) (fun _ h9 => h9) rfl d_Mod_told_91 ?_
        refine lv_iload_n hx hb d_Mod_told_94 rfl (lv_at hl 0 rfl) ?_
        refine va_zald hx hb hK hP 3 2 rfl rfl (vp_in_nI (by omega) (by decide)) d_Mod_told_95 ?_
        rw [nI_clamp (by omega)]
        refine lv_if_eq (tgt := 102) hx hb d_Mod_told_96 rfl (fun h2 => ?_) (fun h2 => ?_)
        · have hcn : cn M.testBit (j + 1) = cn M.testBit j := by rw [hcs, hm_z.mp h2]; simp
          refine lv_iinc (v := nI (j + 1)) hx hb d_Mod_told_102 hl (k := 0) rfl (by rw [← nI_1]; rfl) (by decide) rfl (fun ls hl => ?_)
          have hl : lv_has ls 4 [(3, .int (nI (j + 1))), (2, .int (nI (cn M.testBit j))), (0, .ref g0)] := hl
          refine lv_goto (tgt := 84) hx hb d_Mod_told_105 rfl ?_
          exact ih (j + 1) ls H locs (by omega) hk3 (by rw [hcn]; exact lv_sub hl [0, 1, 2] rfl) hP hD hS
        · have hh : M.testBit j = true := by simpa using (fun q => h2 (hm_z.mpr q))
          have hcn : cn M.testBit (j + 1) = cn M.testBit j + 1 := by rw [hcs, hh]; simp
          refine lv_iinc (v := nI (cn M.testBit j + 1)) hx hb d_Mod_told_99 hl (k := 1) rfl (by rw [← nI_1]; rfl) (by decide) rfl (fun ls hl => ?_)
          have hl : lv_has ls 4 [(2, .int (nI (cn M.testBit j + 1))), (3, .int (nI j)), (0, .ref g0)] := hl
          refine lv_iinc (v := nI (j + 1)) hx hb d_Mod_told_102 hl (k := 1) rfl (by rw [← nI_1]; rfl) (by decide) rfl (fun ls hl => ?_)
          have hl : lv_has ls 4 [(3, .int (nI (j + 1))), (2, .int (nI (cn M.testBit j + 1))), (0, .ref g0)] := hl
          refine lv_goto (tgt := 84) hx hb d_Mod_told_105 rfl ?_
          exact ih (j + 1) ls H locs (by omega) hk3 (by rw [hcn]; exact lv_sub hl [0, 1, 2] rfl) hP hD hS
  have loop4 : ∀ (c0 j : Nat) (ls : Array Slot) (H : Heap) (locs : List Loc), c0 + j = cn (bg M).testBit 64 → k = 4 → lv_has ls 4 [(2, .int (nI j)), (0, .ref g0)] → va_P (dC, dI) classes [(g0, .inr (1, [.ref gu, .ref gb, .ref gh, .int nx, .int mn, .int en, .int 0, .int he])), (gu, .inl (cU, 64, .inl un)), (gb, .inl (cV, 64, .inl ba)), (gh, .inl (cZ, 64, .inl (hm M)))] H → va_D A [(g0, .inr (1, [.ref gu, .ref gb, .ref gh, .int nx, .int mn, .int en, .int 0, .int he])), (gu, .inl (cU, 64, .inl un)), (gb, .inl (cV, 64, .inl ba)), (gh, .inl (cZ, 64, .inl (hm M)))] → va_S A s.heap H locs → W p l e (headSpec w_Mod_told rm_1).room s m ([.ref g0, .int (nI k)] : List Value).toArray below meth c H locs 0 0 (MQ below (va_Qi (fun r (_ : Unit) => r = bx_told mn nx M he k) (fun _ => wz dC dI A [(g0, .inr (1, [.ref gu, .ref gb, .ref gh, .int nx, .int mn, .int en, .int 0, .int he])), (gu, .inl (cU, 64, .inl un)), (gb, .inl (cV, 64, .inl ba)), (gh, .inl (cZ, 64, .inl (hm M)))] [(cU, .int), (cV, .int), (cZ, .boolean)]) A) ([.ref g0, .int (nI k)] : List Value).toArray s 0 0 A) (F0 m 110 ls []) := by
    have hc64 := cn_le (bg M).testBit 64
    intro c0
    induction c0 with
    | zero =>
      intro j ls H locs hj hk4 hl hP hD hS
      refine lv_aload_n hx hb d_Mod_told_110 rfl (lv_at hl 1 rfl) ?_
      refine lv_iload_n hx hb d_Mod_told_111 rfl (lv_at hl 0 rfl) ?_
      refine vp_callSi (W.runV (As := [.int (nI j)]) (rest := []) ⟨hx, hb, hml, hown, hT⟩ (c_Mod_from l dC dI g0 gu gb gh cU cV cZ nx mn en 0 he un ba M j (by omega)) (cwV 1 hT (tb_wsV tw_237 tw_239 ts_7 tw_2 tw_240) rfl rfl rfl (by decide +kernel) ⟨Nat.le_of_ble_eq_true rfl, Nat.le_of_ble_eq_true rfl⟩) ⟨wd_blind, va_recv hK hP (q0 := 0) rfl rfl, wd_at hK hP⟩ rfl rfl hl.1 rfl (lv_room (Nat.le_of_ble_eq_true rfl)) d_Mod_told_112 ⟨Nat.le_of_ble_eq_true rfl, Nat.le_of_ble_eq_true rfl⟩) (fun r hr9 => ?_)
      rcases hr9 with ⟨d, hd, rfl, hdb, hdc⟩ | ⟨rfl, hc⟩
      · exact absurd (cn_lt (b := 64) hd hdb) (by omega)
      · refine lv_if_lt (tgt := 124) hx hb d_Mod_told_115 rfl (fun h2 => ?_) (fun h2 => ?_)
        · refine lv_iload_n hx hb d_Mod_told_124 rfl (lv_at hl 0 rfl) ?_
          exact W.iret (v := nI j) hx hb hr_ (fun t ht hW => ⟨⟨nI j, (), rfl, by rw [hk4]; show nI j = nI _; congr 1; omega, by rw [ht]; exact hP, va_K.moved hW.alike hK, hD⟩, hS.F ht⟩) hS.2.2 d_Mod_told_125
        · exact absurd (by decide) h2
    | succ c0 ih =>
      intro j ls H locs hj hk4 hl hP hD hS
      refine lv_aload_n hx hb d_Mod_told_110 rfl (lv_at hl 1 rfl) ?_
      refine lv_iload_n hx hb d_Mod_told_111 rfl (lv_at hl 0 rfl) ?_
      refine vp_callSi (W.runV (As := [.int (nI j)]) (rest := []) ⟨hx, hb, hml, hown, hT⟩ (c_Mod_from l dC dI g0 gu gb gh cU cV cZ nx mn en 0 he un ba M j (by omega)) (cwV 1 hT (tb_wsV tw_237 tw_239 ts_7 tw_2 tw_240) rfl rfl rfl (by decide +kernel) ⟨Nat.le_of_ble_eq_true rfl, Nat.le_of_ble_eq_true rfl⟩) ⟨wd_blind, va_recv hK hP (q0 := 0) rfl rfl, wd_at hK hP⟩ rfl rfl hl.1 rfl (lv_room (Nat.le_of_ble_eq_true rfl)) d_Mod_told_112 ⟨Nat.le_of_ble_eq_true rfl, Nat.le_of_ble_eq_true rfl⟩) (fun r hr9 => ?_)
      rcases hr9 with ⟨d, hd, rfl, hdb, hdc⟩ | ⟨rfl, hc⟩
      · refine lv_if_lt (tgt := 124) hx hb d_Mod_told_115 rfl (fun h2 => ?_) (fun h2 => ?_)
        · exact absurd h2 (nI_pos (by omega))
        · refine lv_iinc (v := nI (j + 1)) hx hb d_Mod_told_118 hl (k := 0) rfl (by rw [← nI_1]; rfl) (by decide) rfl (fun ls hl => ?_)
          have hl : lv_has ls 4 [(2, .int (nI (j + 1))), (0, .ref g0)] := hl
          refine lv_goto (tgt := 110) hx hb d_Mod_told_121 rfl ?_
          exact ih (j + 1) ls H locs (by omega) hk4 (lv_sub hl [0, 1] rfl) hP hD hS
      · refine lv_if_lt (tgt := 124) hx hb d_Mod_told_115 rfl (fun h2 => ?_) (fun h2 => ?_)
        · refine lv_iload_n hx hb d_Mod_told_124 rfl (lv_at hl 0 rfl) ?_
          exact W.iret (v := nI j) hx hb hr_ (fun t ht hW => ⟨⟨nI j, (), rfl, by rw [hk4]; show nI j = nI _; congr 1; omega, by rw [ht]; exact hP, va_K.moved hW.alike hK, hD⟩, hS.F ht⟩) hS.2.2 d_Mod_told_125
        · exact absurd (by decide) h2
  refine lv_aload_n hx hb d_Mod_told_0 rfl (lv_at hl 0 rfl) ?_
  refine lv_iload_n hx hb d_Mod_told_1 rfl (lv_at hl 1 rfl) ?_
  refine lv_if_lt (tgt := 10) hx hb d_Mod_told_2 rfl (fun h1 => ?_) (fun h1 => ?_)
  · exact absurd h1 (nI_pos (by omega))
  · refine lv_iload_n hx hb d_Mod_told_5 rfl (lv_at hl 1 rfl) ?_
    refine lv_iconst (v := 5) hx hb d_Mod_told_6 (by decide) ?_
    refine lv_icmp_le (tgt := 14) hx hb d_Mod_told_7 rfl (fun h2 => ?_) (fun h2 => ?_)
    · refine lv_iconst (v := 0) hx hb d_Mod_told_14 (by decide) ?_
      refine va_put (D := (dC, dI)) (ci := 1) (v := .int 0) (ty := .int) (C := R_Mod) (T := F_Mod) (N := 8) hx hb hT in_Mod t_Mod t_Mod_ok n_Mod hown hK hP hD hS 0 rfl rfl 6 (by decide) (hT _ tw_188) (fun _ h9 => h9) rfl (by decide +kernel) rfl rfl (Nat.le_of_ble_eq_true rfl) d_Mod_told_15 (fun H locs hP hD hS => ?_)
      have hP : va_P (dC, dI) classes [(g0, .inr (1, [.ref gu, .ref gb, .ref gh, .int nx, .int mn, .int en, .int 0, .int he])), (gu, .inl (cU, 64, .inl un)), (gb, .inl (cV, 64, .inl ba)), (gh, .inl (cZ, 64, .inl (hm M)))] H := hP
      have hD : va_D A [(g0, .inr (1, [.ref gu, .ref gb, .ref gh, .int nx, .int mn, .int en, .int 0, .int he])), (gu, .inl (cU, 64, .inl un)), (gb, .inl (cV, 64, .inl ba)), (gh, .inl (cZ, 64, .inl (hm M)))] := hD
      refine lv_aload_n hx hb d_Mod_told_18 rfl (lv_at hl 0 rfl) ?_
      refine va_get (D := (dC, dI)) (ci := 1) (v := .int 0) (C := R_Mod) (T := F_Mod) (N := 8) hx hb hT in_Mod hown hK hP 0 rfl rfl 6 (by decide) (hT _ tw_188) (fun _ h9 => h9) rfl d_Mod_told_19 ?_
      refine lv_if_le (tgt := 27) hx hb d_Mod_told_22 rfl (fun h3 => ?_) (fun h3 => ?_)
      · refine lv_iconst (v := 0) hx hb d_Mod_told_27 (by decide) ?_
        refine lv_istore_n hx hb d_Mod_told_28 rfl hl (by decide) rfl (fun ls hl => ?_)
        have hl : lv_has ls 4 [(2, .int 0), (0, .ref g0), (1, .int (nI k))] := hl
        refine lv_iload_n hx hb d_Mod_told_29 rfl (lv_at hl 2 rfl) ?_
        have hk6 : k = 0 ∨ k = 1 ∨ k = 2 ∨ k = 3 ∨ k = 4 ∨ k = 5 := by omega
        rcases hk6 with rfl | rfl | rfl | rfl | rfl | rfl
        · refine lv_tableIn (off := 34) (tgt := 64) hx hb d_Mod_told_30 (by decide) (by decide) (by decide) rfl ?_
          refine lv_aload_n hx hb d_Mod_told_64 rfl (lv_at hl 1 rfl) ?_
          refine va_get (D := (dC, dI)) (ci := 1) (v := .int nx) (C := R_Mod) (T := F_Mod) (N := 8) hx hb hT in_Mod hown hK hP 0 rfl rfl 3 (by decide) (hT _ tw_185) (fun _ h9 => h9) rfl d_Mod_told_65 ?_
          exact W.iret (v := nx) hx hb hr_ (fun t ht hW => ⟨⟨nx, (), rfl, rfl, by rw [ht]; exact hP, va_K.moved hW.alike hK, hD⟩, hS.F ht⟩) hS.2.2 d_Mod_told_68
        · refine lv_tableIn (off := 39) (tgt := 69) hx hb d_Mod_told_30 (by decide) (by decide) (by decide) rfl ?_
          refine lv_bipush (v := 64) hx hb d_Mod_told_69 (by decide) ?_
          refine lv_aload_n hx hb d_Mod_told_71 rfl (lv_at hl 1 rfl) ?_
          refine va_get (D := (dC, dI)) (ci := 1) (v := .int mn) (C := R_Mod) (T := F_Mod) (N := 8) hx hb hT in_Mod hown hK hP 0 rfl rfl 4 (by decide) (hT _ tw_186) (fun _ h9 => h9) rfl d_Mod_told_72 ?_
          refine lv_isub hx hb d_Mod_told_75 ?_
          exact W.iret (v := 64 - mn) hx hb hr_ (fun t ht hW => ⟨⟨64 - mn, (), rfl, rfl, by rw [ht]; exact hP, va_K.moved hW.alike hK, hD⟩, hS.F ht⟩) hS.2.2 d_Mod_told_76
        · refine lv_tableIn (off := 47) (tgt := 77) hx hb d_Mod_told_30 (by decide) (by decide) (by decide) rfl ?_
          refine lv_aload_n hx hb d_Mod_told_77 rfl (lv_at hl 1 rfl) ?_
          refine va_get (D := (dC, dI)) (ci := 1) (v := .int mn) (C := R_Mod) (T := F_Mod) (N := 8) hx hb hT in_Mod hown hK hP 0 rfl rfl 4 (by decide) (hT _ tw_186) (fun _ h9 => h9) rfl d_Mod_told_78 ?_
          exact W.iret (v := mn) hx hb hr_ (fun t ht hW => ⟨⟨mn, (), rfl, rfl, by rw [ht]; exact hP, va_K.moved hW.alike hK, hD⟩, hS.F ht⟩) hS.2.2 d_Mod_told_81
        · refine lv_tableIn (off := 52) (tgt := 82) hx hb d_Mod_told_30 (by decide) (by decide) (by decide) rfl ?_
          refine lv_iconst (v := 0) hx hb d_Mod_told_82 (by decide) ?_
          refine lv_istore_n hx hb d_Mod_told_83 rfl hl (by decide) rfl (fun ls hl => ?_)
          have hl : lv_has ls 4 [(3, .int 0), (2, .int 0), (0, .ref g0), (1, .int (nI 3))] := hl
          exact loop3 64 0 ls H locs (by omega) rfl (lv_sub hl [0, 1, 2] rfl) hP hD hS
        · refine lv_tableIn (off := 80) (tgt := 110) hx hb d_Mod_told_30 (by decide) (by decide) (by decide) rfl ?_
          exact loop4 (cn (bg M).testBit 64) 0 ls H locs (by omega) rfl (lv_sub hl [0, 1] rfl) hP hD hS
        · refine lv_tableOut (tgt := 126) hx hb d_Mod_told_30 (by decide) rfl ?_
          refine lv_aload_n hx hb d_Mod_told_126 rfl (lv_at hl 1 rfl) ?_
          refine va_get (D := (dC, dI)) (ci := 1) (v := .int he) (C := R_Mod) (T := F_Mod) (N := 8) hx hb hT in_Mod hown hK hP 0 rfl rfl 7 (by decide) (hT _ tw_189) (fun _ h9 => h9) rfl d_Mod_told_127 ?_
          refine lv_if_eq (tgt := 137) hx hb d_Mod_told_130 rfl (fun h4 => ?_) (fun h4 => ?_)
          · refine lv_iconst (v := 0) hx hb d_Mod_told_137 (by decide) ?_
            exact W.iret (v := 0) hx hb hr_ (fun t ht hW => ⟨⟨0, (), rfl, by simp [bx_told, h4], by rw [ht]; exact hP, va_K.moved hW.alike hK, hD⟩, hS.F ht⟩) hS.2.2 d_Mod_told_138
          · refine lv_iconst (v := 1) hx hb d_Mod_told_133 (by decide) ?_
            refine lv_goto (tgt := 138) hx hb d_Mod_told_134 rfl ?_
            exact W.iret (v := 1) hx hb hr_ (fun t ht hW => ⟨⟨1, (), rfl, by simp [bx_told, h4], by rw [ht]; exact hP, va_K.moved hW.alike hK, hD⟩, hS.F ht⟩) hS.2.2 d_Mod_told_138
      · exact absurd (by decide) h3
    · exact absurd (nI_le (a := k) (b := 5) (by omega) (by omega)) h2
set_option maxHeartbeats 4000000 in
set_option maxRecDepth 100000 in
/-- told(k) beyond 0..5 -/
theorem c_Mod_told_0 (l : Launch) (dC : Nat → ClassId) (dI : Nat → Nat → Nat) (g0 gu gb gh : Nat) (cU cV cZ : ClassId) (nx mn en th he : Int32) (un ba : Nat → Int32) (M : Nat) (sz : Nat) (k : Int32) (hk : k < 0 ∨ 5 < k) : Met l y_Mod_told w_Mod_told rm_0 (va_Pc [.ref g0, .int k] (we dC dI sz [(g0, .inr (1, [.ref gu, .ref gb, .ref gh, .int nx, .int mn, .int en, .int th, .int he])), (gu, .inl (cU, 64, .inl un)), (gb, .inl (cV, 64, .inl ba)), (gh, .inl (cZ, 64, .inl (hm M)))] [(cU, .int), (cV, .int), (cZ, .boolean)])) (va_Qi (fun r (_ : Unit) => r = 0) (fun _ => wz dC dI (va_A [(g0, .inr (1, [.ref gu, .ref gb, .ref gh, .int nx, .int mn, .int en, .int th, .int he])), (gu, .inl (cU, 64, .inl un)), (gb, .inl (cV, 64, .inl ba)), (gh, .inl (cZ, 64, .inl (hm M)))] sz) [(g0, .inr (1, [.ref gu, .ref gb, .ref gh, .int nx, .int mn, .int en, .int 1, .int he])), (gu, .inl (cU, 64, .inl un)), (gb, .inl (cV, 64, .inl ba)), (gh, .inl (cZ, 64, .inl (hm M)))] [(cU, .int), (cV, .int), (cZ, .boolean)]) (va_A [(g0, .inr (1, [.ref gu, .ref gb, .ref gh, .int nx, .int mn, .int en, .int th, .int he])), (gu, .inl (cU, 64, .inl un)), (gb, .inl (cV, 64, .inl ba)), (gh, .inl (cZ, 64, .inl (hm M)))] sz)) 0 0 (va_A [(g0, .inr (1, [.ref gu, .ref gb, .ref gh, .int nx, .int mn, .int en, .int th, .int he])), (gu, .inl (cU, 64, .inl un)), (gb, .inl (cV, 64, .inl ba)), (gh, .inl (cZ, 64, .inl (hm M)))] sz) := by
  refine Met.ofW (cc := b_Mod_told) (maxL := 4) (ret := (some .int)) (by decide) rfl ?_
  intro p e s m args below meth c s₁ B hml hv
  obtain ⟨rfl, hsz, hP, hK, hD0⟩ := hv
  have hx := B.exec
  have hb := B.bytes
  have hr_ := B.returns
  have hT : ∀ w ∈ tb, w.before _ s = true := fun w hw => atoms_spec (ws := w_Mod_told) B.pre w (List.mem_cons_of_mem _ hw)
  have hown : s.vm.findClass R_Mod = some m.cls := findClass_of_methodNamed B.named
  have hlocks := B.notSynchronized
  subst hsz
  have hD := hD0.self (sz := s.heap.size)
  generalize hAe : va_A [(g0, .inr (1, [.ref gu, .ref gb, .ref gh, .int nx, .int mn, .int en, .int th, .int he])), (gu, .inl (cU, 64, .inl un)), (gb, .inl (cV, 64, .inl ba)), (gh, .inl (cZ, 64, .inl (hm M)))] s.heap.size = A at hD ⊢
  have hA : ∀ q : Nat, s.heap.size ≤ q → A q := fun q h => by rw [← hAe]; exact Or.inr h
  have hS : va_S A s.heap s.heap [] := va_S.rf
  have hP : va_P (dC, dI) classes [(g0, .inr (1, [.ref gu, .ref gb, .ref gh, .int nx, .int mn, .int en, .int th, .int he])), (gu, .inl (cU, 64, .inl un)), (gb, .inl (cV, 64, .inl ba)), (gh, .inl (cZ, 64, .inl (hm M)))] s.heap := hP
  have hl := lv_entry ([.ref g0, .int k]) (n := 4) (Nat.le_of_ble_eq_true rfl)
  rw [lg_entry_eq]
  generalize (lg_sl ([.ref g0, .int k]) ++ List.replicate (4 - (lg_sl ([.ref g0, .int k])).length) Slot.unset).toArray = ls at hl ⊢
  have hl : lv_has ls 4 [(0, .ref g0), (1, .int k)] := hl
  refine lv_aload_n hx hb d_Mod_told_0 rfl (lv_at hl 0 rfl) ?_
  refine lv_iload_n hx hb d_Mod_told_1 rfl (lv_at hl 1 rfl) ?_
  refine lv_if_lt (tgt := 10) hx hb d_Mod_told_2 rfl (fun h1 => ?_) (fun h1 => ?_)
  · refine lv_iconst (v := 1) hx hb d_Mod_told_10 (by decide) ?_
    refine lv_goto (tgt := 15) hx hb d_Mod_told_11 rfl ?_
    refine va_put (D := (dC, dI)) (ci := 1) (v := .int 1) (ty := .int) (C := R_Mod) (T := F_Mod) (N := 8) hx hb hT in_Mod t_Mod t_Mod_ok n_Mod hown hK hP hD hS 0 rfl rfl 6 (by decide) (hT _ tw_188) (fun _ h9 => h9) rfl (by decide +kernel) rfl rfl (Nat.le_of_ble_eq_true rfl) d_Mod_told_15 (fun H locs hP hD hS => ?_)
    have hP : va_P (dC, dI) classes [(g0, .inr (1, [.ref gu, .ref gb, .ref gh, .int nx, .int mn, .int en, .int 1, .int he])), (gu, .inl (cU, 64, .inl un)), (gb, .inl (cV, 64, .inl ba)), (gh, .inl (cZ, 64, .inl (hm M)))] H := hP
    have hD : va_D A [(g0, .inr (1, [.ref gu, .ref gb, .ref gh, .int nx, .int mn, .int en, .int 1, .int he])), (gu, .inl (cU, 64, .inl un)), (gb, .inl (cV, 64, .inl ba)), (gh, .inl (cZ, 64, .inl (hm M)))] := hD
    refine lv_aload_n hx hb d_Mod_told_18 rfl (lv_at hl 0 rfl) ?_
    refine va_get (D := (dC, dI)) (ci := 1) (v := .int 1) (C := R_Mod) (T := F_Mod) (N := 8) hx hb hT in_Mod hown hK hP 0 rfl rfl 6 (by decide) (hT _ tw_188) (fun _ h9 => h9) rfl d_Mod_told_19 ?_
    refine lv_if_le (tgt := 27) hx hb d_Mod_told_22 rfl (fun h3 => ?_) (fun h3 => ?_)
    · exact absurd h3 (by decide)
    · refine lv_iconst (v := 0) hx hb d_Mod_told_25 (by decide) ?_
      exact W.iret (v := 0) hx hb hr_ (fun t ht hW => ⟨⟨0, (), rfl, rfl, by rw [ht]; exact hP, va_K.moved hW.alike hK, hD⟩, hS.F ht⟩) hS.2.2 d_Mod_told_26
  · refine lv_iload_n hx hb d_Mod_told_5 rfl (lv_at hl 1 rfl) ?_
    refine lv_iconst (v := 5) hx hb d_Mod_told_6 (by decide) ?_
    refine lv_icmp_le (tgt := 14) hx hb d_Mod_told_7 rfl (fun h2 => ?_) (fun h2 => ?_)
    · exact absurd h2 (by rcases hk with h | h; exact absurd h h1; exact Int32.not_le.mpr h)
    · refine lv_iconst (v := 1) hx hb d_Mod_told_10 (by decide) ?_
      refine lv_goto (tgt := 15) hx hb d_Mod_told_11 rfl ?_
      refine va_put (D := (dC, dI)) (ci := 1) (v := .int 1) (ty := .int) (C := R_Mod) (T := F_Mod) (N := 8) hx hb hT in_Mod t_Mod t_Mod_ok n_Mod hown hK hP hD hS 0 rfl rfl 6 (by decide) (hT _ tw_188) (fun _ h9 => h9) rfl (by decide +kernel) rfl rfl (Nat.le_of_ble_eq_true rfl) d_Mod_told_15 (fun H locs hP hD hS => ?_)
      have hP : va_P (dC, dI) classes [(g0, .inr (1, [.ref gu, .ref gb, .ref gh, .int nx, .int mn, .int en, .int 1, .int he])), (gu, .inl (cU, 64, .inl un)), (gb, .inl (cV, 64, .inl ba)), (gh, .inl (cZ, 64, .inl (hm M)))] H := hP
      have hD : va_D A [(g0, .inr (1, [.ref gu, .ref gb, .ref gh, .int nx, .int mn, .int en, .int 1, .int he])), (gu, .inl (cU, 64, .inl un)), (gb, .inl (cV, 64, .inl ba)), (gh, .inl (cZ, 64, .inl (hm M)))] := hD
      refine lv_aload_n hx hb d_Mod_told_18 rfl (lv_at hl 0 rfl) ?_
      refine va_get (D := (dC, dI)) (ci := 1) (v := .int 1) (C := R_Mod) (T := F_Mod) (N := 8) hx hb hT in_Mod hown hK hP 0 rfl rfl 6 (by decide) (hT _ tw_188) (fun _ h9 => h9) rfl d_Mod_told_19 ?_
      refine lv_if_le (tgt := 27) hx hb d_Mod_told_22 rfl (fun h3 => ?_) (fun h3 => ?_)
      · exact absurd h3 (by decide)
      · refine lv_iconst (v := 0) hx hb d_Mod_told_25 (by decide) ?_
        exact W.iret (v := 0) hx hb hr_ (fun t ht hW => ⟨⟨0, (), rfl, rfl, by rw [ht]; exact hP, va_K.moved hW.alike hK, hD⟩, hS.F ht⟩) hS.2.2 d_Mod_told_26
set_option maxHeartbeats 4000000 in
set_option maxRecDepth 100000 in
/-- segment(n, v, k), k not in 0..8 -/
theorem c_Mod_segment_0 (l : Launch) (dC : Nat → ClassId) (dI : Nat → Nat → Nat) (g0 gu gb gh : Nat) (cU cV cZ : ClassId) (nx mn en th he : Int32) (un ba : Nat → Int32) (M : Nat) (sz : Nat) (n : Int32) (v : Int64) (k : Int32) (hk : k < 0 ∨ 8 < k) : Met l y_Mod_segment w_Mod_segment rm_0 (va_Pc [.ref g0, .int n, .long v, .int k] (we dC dI sz [(g0, .inr (1, [.ref gu, .ref gb, .ref gh, .int nx, .int mn, .int en, .int th, .int he])), (gu, .inl (cU, 64, .inl un)), (gb, .inl (cV, 64, .inl ba)), (gh, .inl (cZ, 64, .inl (hm M)))] [(cU, .int), (cV, .int), (cZ, .boolean)])) (va_Qi (fun r (_ : Unit) => r = 0) (fun _ => wz dC dI (va_A [(g0, .inr (1, [.ref gu, .ref gb, .ref gh, .int nx, .int mn, .int en, .int th, .int he])), (gu, .inl (cU, 64, .inl un)), (gb, .inl (cV, 64, .inl ba)), (gh, .inl (cZ, 64, .inl (hm M)))] sz) [(g0, .inr (1, [.ref gu, .ref gb, .ref gh, .int nx, .int mn, .int en, .int 1, .int he])), (gu, .inl (cU, 64, .inl un)), (gb, .inl (cV, 64, .inl ba)), (gh, .inl (cZ, 64, .inl (hm M)))] [(cU, .int), (cV, .int), (cZ, .boolean)]) (va_A [(g0, .inr (1, [.ref gu, .ref gb, .ref gh, .int nx, .int mn, .int en, .int th, .int he])), (gu, .inl (cU, 64, .inl un)), (gb, .inl (cV, 64, .inl ba)), (gh, .inl (cZ, 64, .inl (hm M)))] sz)) 0 0 (va_A [(g0, .inr (1, [.ref gu, .ref gb, .ref gh, .int nx, .int mn, .int en, .int th, .int he])), (gu, .inl (cU, 64, .inl un)), (gb, .inl (cV, 64, .inl ba)), (gh, .inl (cZ, 64, .inl (hm M)))] sz) := by
  refine Met.ofW (cc := b_Mod_segment) (maxL := 8) (ret := (some .int)) (by decide) rfl ?_
  intro p e s m args below meth c s₁ B hml hv
  obtain ⟨rfl, hsz, hP, hK, hD0⟩ := hv
  have hx := B.exec
  have hb := B.bytes
  have hr_ := B.returns
  have hT : ∀ w ∈ tb, w.before _ s = true := fun w hw => atoms_spec (ws := w_Mod_segment) B.pre w (List.mem_cons_of_mem _ hw)
  have hown : s.vm.findClass R_Mod = some m.cls := findClass_of_methodNamed B.named
  have hlocks := B.notSynchronized
  subst hsz
  have hD := hD0.self (sz := s.heap.size)
  generalize hAe : va_A [(g0, .inr (1, [.ref gu, .ref gb, .ref gh, .int nx, .int mn, .int en, .int th, .int he])), (gu, .inl (cU, 64, .inl un)), (gb, .inl (cV, 64, .inl ba)), (gh, .inl (cZ, 64, .inl (hm M)))] s.heap.size = A at hD ⊢
  have hA : ∀ q : Nat, s.heap.size ≤ q → A q := fun q h => by rw [← hAe]; exact Or.inr h
  have hS : va_S A s.heap s.heap [] := va_S.rf
  have hP : va_P (dC, dI) classes [(g0, .inr (1, [.ref gu, .ref gb, .ref gh, .int nx, .int mn, .int en, .int th, .int he])), (gu, .inl (cU, 64, .inl un)), (gb, .inl (cV, 64, .inl ba)), (gh, .inl (cZ, 64, .inl (hm M)))] s.heap := hP
  have hl := lv_entry ([.ref g0, .int n, .long v, .int k]) (n := 8) (Nat.le_of_ble_eq_true rfl)
  rw [lg_entry_eq]
  generalize (lg_sl ([.ref g0, .int n, .long v, .int k]) ++ List.replicate (8 - (lg_sl ([.ref g0, .int n, .long v, .int k])).length) Slot.unset).toArray = ls at hl ⊢
  have hl : lv_has ls 8 [(0, .ref g0), (1, .int n), (2, .long v), (4, .int k)] := hl
  refine lv_aload_n hx hb d_Mod_segment_0 rfl (lv_at hl 0 rfl) ?_
  refine lv_iload hx hb d_Mod_segment_1 (lv_at hl 3 rfl) ?_
  refine lv_if_lt (tgt := 13) hx hb d_Mod_segment_3 rfl (fun h1 => ?_) (fun h1 => ?_)
  · refine lv_iconst (v := 1) hx hb d_Mod_segment_13 (by decide) ?_
    refine lv_goto (tgt := 18) hx hb d_Mod_segment_14 rfl ?_
    refine va_put (D := (dC, dI)) (ci := 1) (v := .int 1) (ty := .int) (C := R_Mod) (T := F_Mod) (N := 8) hx hb hT in_Mod t_Mod t_Mod_ok n_Mod hown hK hP hD hS 0 rfl rfl 6 (by decide) (hT _ tw_188) (fun _ h9 => h9) rfl (by decide +kernel) rfl rfl (Nat.le_of_ble_eq_true rfl) d_Mod_segment_18 (fun H locs hP hD hS => ?_)
    have hP : va_P (dC, dI) classes [(g0, .inr (1, [.ref gu, .ref gb, .ref gh, .int nx, .int mn, .int en, .int 1, .int he])), (gu, .inl (cU, 64, .inl un)), (gb, .inl (cV, 64, .inl ba)), (gh, .inl (cZ, 64, .inl (hm M)))] H := hP
    have hD : va_D A [(g0, .inr (1, [.ref gu, .ref gb, .ref gh, .int nx, .int mn, .int en, .int 1, .int he])), (gu, .inl (cU, 64, .inl un)), (gb, .inl (cV, 64, .inl ba)), (gh, .inl (cZ, 64, .inl (hm M)))] := hD
    refine lv_aload_n hx hb d_Mod_segment_21 rfl (lv_at hl 0 rfl) ?_
    refine va_get (D := (dC, dI)) (ci := 1) (v := .int 1) (C := R_Mod) (T := F_Mod) (N := 8) hx hb hT in_Mod hown hK hP 0 rfl rfl 6 (by decide) (hT _ tw_188) (fun _ h9 => h9) rfl d_Mod_segment_22 ?_
    refine lv_if_le (tgt := 30) hx hb d_Mod_segment_25 rfl (fun h3 => ?_) (fun h3 => ?_)
    · exact absurd h3 (by decide)
    · refine lv_iconst (v := 0) hx hb d_Mod_segment_28 (by decide) ?_
      exact W.iret (v := 0) hx hb hr_ (fun t ht hW => ⟨⟨0, (), rfl, rfl, by rw [ht]; exact hP, va_K.moved hW.alike hK, hD⟩, hS.F ht⟩) hS.2.2 d_Mod_segment_29
  · refine lv_iload hx hb d_Mod_segment_6 (lv_at hl 3 rfl) ?_
    refine lv_bipush (v := 8) hx hb d_Mod_segment_8 (by decide) ?_
    refine lv_icmp_le (tgt := 17) hx hb d_Mod_segment_10 rfl (fun h2 => ?_) (fun h2 => ?_)
    · exact absurd h2 (by rcases hk with h | h; exact absurd h h1; exact Int32.not_le.mpr h)
    · refine lv_iconst (v := 1) hx hb d_Mod_segment_13 (by decide) ?_
      refine lv_goto (tgt := 18) hx hb d_Mod_segment_14 rfl ?_
      refine va_put (D := (dC, dI)) (ci := 1) (v := .int 1) (ty := .int) (C := R_Mod) (T := F_Mod) (N := 8) hx hb hT in_Mod t_Mod t_Mod_ok n_Mod hown hK hP hD hS 0 rfl rfl 6 (by decide) (hT _ tw_188) (fun _ h9 => h9) rfl (by decide +kernel) rfl rfl (Nat.le_of_ble_eq_true rfl) d_Mod_segment_18 (fun H locs hP hD hS => ?_)
      have hP : va_P (dC, dI) classes [(g0, .inr (1, [.ref gu, .ref gb, .ref gh, .int nx, .int mn, .int en, .int 1, .int he])), (gu, .inl (cU, 64, .inl un)), (gb, .inl (cV, 64, .inl ba)), (gh, .inl (cZ, 64, .inl (hm M)))] H := hP
      have hD : va_D A [(g0, .inr (1, [.ref gu, .ref gb, .ref gh, .int nx, .int mn, .int en, .int 1, .int he])), (gu, .inl (cU, 64, .inl un)), (gb, .inl (cV, 64, .inl ba)), (gh, .inl (cZ, 64, .inl (hm M)))] := hD
      refine lv_aload_n hx hb d_Mod_segment_21 rfl (lv_at hl 0 rfl) ?_
      refine va_get (D := (dC, dI)) (ci := 1) (v := .int 1) (C := R_Mod) (T := F_Mod) (N := 8) hx hb hT in_Mod hown hK hP 0 rfl rfl 6 (by decide) (hT _ tw_188) (fun _ h9 => h9) rfl d_Mod_segment_22 ?_
      refine lv_if_le (tgt := 30) hx hb d_Mod_segment_25 rfl (fun h3 => ?_) (fun h3 => ?_)
      · exact absurd h3 (by decide)
      · refine lv_iconst (v := 0) hx hb d_Mod_segment_28 (by decide) ?_
        exact W.iret (v := 0) hx hb hr_ (fun t ht hW => ⟨⟨0, (), rfl, rfl, by rw [ht]; exact hP, va_K.moved hW.alike hK, hD⟩, hS.F ht⟩) hS.2.2 d_Mod_segment_29
set_option maxHeartbeats 4000000 in
set_option maxRecDepth 100000 in
/-- block(k, many), k no block -/
theorem c_Mod_block_0 (l : Launch) (dC : Nat → ClassId) (dI : Nat → Nat → Nat) (g0 gu gb gh : Nat) (cU cV cZ : ClassId) (nx mn en th he : Int32) (un ba : Nat → Int32) (M : Nat) (sz : Nat) (k mb : Int32) (hk : k < 0 ∨ nI (cn (bg M).testBit 64) ≤ k) : Met l y_Mod_block w_Mod_block rm_1 (va_Pc [.ref g0, .int k, .int mb] (we dC dI sz [(g0, .inr (1, [.ref gu, .ref gb, .ref gh, .int nx, .int mn, .int en, .int th, .int he])), (gu, .inl (cU, 64, .inl un)), (gb, .inl (cV, 64, .inl ba)), (gh, .inl (cZ, 64, .inl (hm M)))] [(cU, .int), (cV, .int), (cZ, .boolean)])) (va_Qi (fun r (_ : Unit) => r = 0) (fun _ => wz dC dI (va_A [(g0, .inr (1, [.ref gu, .ref gb, .ref gh, .int nx, .int mn, .int en, .int th, .int he])), (gu, .inl (cU, 64, .inl un)), (gb, .inl (cV, 64, .inl ba)), (gh, .inl (cZ, 64, .inl (hm M)))] sz) [(g0, .inr (1, [.ref gu, .ref gb, .ref gh, .int nx, .int mn, .int en, .int 1, .int he])), (gu, .inl (cU, 64, .inl un)), (gb, .inl (cV, 64, .inl ba)), (gh, .inl (cZ, 64, .inl (hm M)))] [(cU, .int), (cV, .int), (cZ, .boolean)]) (va_A [(g0, .inr (1, [.ref gu, .ref gb, .ref gh, .int nx, .int mn, .int en, .int th, .int he])), (gu, .inl (cU, 64, .inl un)), (gb, .inl (cV, 64, .inl ba)), (gh, .inl (cZ, 64, .inl (hm M)))] sz)) 0 0 (va_A [(g0, .inr (1, [.ref gu, .ref gb, .ref gh, .int nx, .int mn, .int en, .int th, .int he])), (gu, .inl (cU, 64, .inl un)), (gb, .inl (cV, 64, .inl ba)), (gh, .inl (cZ, 64, .inl (hm M)))] sz) := by
  refine Met.ofW (cc := b_Mod_block) (maxL := 5) (ret := (some .int)) (by decide) rfl ?_
  intro p e s m args below meth c s₁ B hml hv
  obtain ⟨rfl, hsz, hP, hK, hD0⟩ := hv
  have hx := B.exec
  have hb := B.bytes
  have hr_ := B.returns
  have hT : ∀ w ∈ tb, w.before _ s = true := fun w hw => atoms_spec (ws := w_Mod_block) B.pre w (List.mem_cons_of_mem _ hw)
  have hown : s.vm.findClass R_Mod = some m.cls := findClass_of_methodNamed B.named
  have hlocks := B.notSynchronized
  subst hsz
  have hD := hD0.self (sz := s.heap.size)
  generalize hAe : va_A [(g0, .inr (1, [.ref gu, .ref gb, .ref gh, .int nx, .int mn, .int en, .int th, .int he])), (gu, .inl (cU, 64, .inl un)), (gb, .inl (cV, 64, .inl ba)), (gh, .inl (cZ, 64, .inl (hm M)))] s.heap.size = A at hD ⊢
  have hA : ∀ q : Nat, s.heap.size ≤ q → A q := fun q h => by rw [← hAe]; exact Or.inr h
  have hS : va_S A s.heap s.heap [] := va_S.rf
  have hP : va_P (dC, dI) classes [(g0, .inr (1, [.ref gu, .ref gb, .ref gh, .int nx, .int mn, .int en, .int th, .int he])), (gu, .inl (cU, 64, .inl un)), (gb, .inl (cV, 64, .inl ba)), (gh, .inl (cZ, 64, .inl (hm M)))] s.heap := hP
  have hl := lv_entry ([.ref g0, .int k, .int mb]) (n := 5) (Nat.le_of_ble_eq_true rfl)
  rw [lg_entry_eq]
  generalize (lg_sl ([.ref g0, .int k, .int mb]) ++ List.replicate (5 - (lg_sl ([.ref g0, .int k, .int mb])).length) Slot.unset).toArray = ls at hl ⊢
  have hl : lv_has ls 5 [(0, .ref g0), (1, .int k), (2, .int mb)] := hl
  refine lv_iload_n hx hb d_Mod_block_0 rfl (lv_at hl 1 rfl) ?_
  refine lv_if_ge (tgt := 8) hx hb d_Mod_block_1 rfl (fun h1 => ?_) (fun h1 => ?_)
  · have hk2 : nI (cn (bg M).testBit 64) ≤ k := by rcases hk with h | h; exact absurd h (Int32.not_lt.mpr h1); exact h
    obtain ⟨ii, hii, rfl⟩ := nI_of (Int32.not_lt.mpr h1)
    have hcc : cn (bg M).testBit 64 ≤ ii := (nI_leI (by have := cn_le (bg M).testBit 64; omega) hii).mp hk2
    refine lv_aload_n hx hb d_Mod_block_8 rfl (lv_at hl 0 rfl) ?_
    refine lv_iload_n hx hb d_Mod_block_9 rfl (lv_at hl 1 rfl) ?_
    refine vp_callSi (W.runV (As := [.int (nI ii)]) (rest := []) ⟨hx, hb, hml, hown, hT⟩ (c_Mod_from l dC dI g0 gu gb gh cU cV cZ nx mn en th he un ba M ii hii) (cwV 1 hT (tb_wsV tw_237 tw_239 ts_7 tw_2 tw_240) rfl rfl rfl (by decide +kernel) ⟨Nat.le_of_ble_eq_true rfl, Nat.le_of_ble_eq_true rfl⟩) ⟨wd_blind, va_recv hK hP (q0 := 0) rfl rfl, wd_at hK hP⟩ rfl rfl hl.1 rfl (lv_room (Nat.le_of_ble_eq_true rfl)) d_Mod_block_10 ⟨Nat.le_of_ble_eq_true rfl, Nat.le_of_ble_eq_true rfl⟩) (fun r hr9 => ?_)
    obtain rfl : r = -1 := by rcases hr9 with ⟨d, hd, e1, hdb, hdc⟩ | ⟨e1, e2⟩; exact absurd (cn_lt (b := 64) hd hdb) (by omega); exact e1
    refine lv_istore_n hx hb d_Mod_block_13 rfl hl (by decide) rfl (fun ls hl => ?_)
    have hl : lv_has ls 5 [(3, .int (-1)), (0, .ref g0), (1, .int (nI ii)), (2, .int mb)] := hl
    refine lv_iconst (v := 0) hx hb d_Mod_block_14 (by decide) ?_
    refine lv_istore hx hb d_Mod_block_15 hl (by decide) rfl (fun ls hl => ?_)
    have hl : lv_has ls 5 [(4, .int 0), (3, .int (-1)), (0, .ref g0), (1, .int (nI ii)), (2, .int mb)] := hl
    refine lv_aload_n hx hb d_Mod_block_17 rfl (lv_at hl 2 rfl) ?_
    refine lv_iload_n hx hb d_Mod_block_18 rfl (lv_at hl 1 rfl) ?_
    refine lv_if_ge (tgt := 26) hx hb d_Mod_block_19 rfl (fun h2 => ?_) (fun h2 => ?_)
    · exact absurd h2 (by decide)
    · refine lv_iconst (v := 1) hx hb d_Mod_block_22 (by decide) ?_
      refine lv_goto (tgt := 27) hx hb d_Mod_block_23 rfl ?_
      refine va_put (D := (dC, dI)) (ci := 1) (v := .int 1) (ty := .int) (C := R_Mod) (T := F_Mod) (N := 8) hx hb hT in_Mod t_Mod t_Mod_ok n_Mod hown hK hP hD hS 0 rfl rfl 6 (by decide) (hT _ tw_188) (fun _ h9 => h9) rfl (by decide +kernel) rfl rfl (Nat.le_of_ble_eq_true rfl) d_Mod_block_27 (fun H locs hP hD hS => ?_)
      have hP : va_P (dC, dI) classes [(g0, .inr (1, [.ref gu, .ref gb, .ref gh, .int nx, .int mn, .int en, .int 1, .int he])), (gu, .inl (cU, 64, .inl un)), (gb, .inl (cV, 64, .inl ba)), (gh, .inl (cZ, 64, .inl (hm M)))] H := hP
      have hD : va_D A [(g0, .inr (1, [.ref gu, .ref gb, .ref gh, .int nx, .int mn, .int en, .int 1, .int he])), (gu, .inl (cU, 64, .inl un)), (gb, .inl (cV, 64, .inl ba)), (gh, .inl (cZ, 64, .inl (hm M)))] := hD
      refine lv_aload_n hx hb d_Mod_block_30 rfl (lv_at hl 2 rfl) ?_
      refine va_get (D := (dC, dI)) (ci := 1) (v := .int 1) (C := R_Mod) (T := F_Mod) (N := 8) hx hb hT in_Mod hown hK hP 0 rfl rfl 6 (by decide) (hT _ tw_188) (fun _ h9 => h9) rfl d_Mod_block_31 ?_
      refine lv_if_le (tgt := 39) hx hb d_Mod_block_34 rfl (fun h3 => ?_) (fun h3 => ?_)
      · exact absurd h3 (by decide)
      · refine lv_iconst (v := 0) hx hb d_Mod_block_37 (by decide) ?_
        exact W.iret (v := 0) hx hb hr_ (fun t ht hW => ⟨⟨0, (), rfl, rfl, by rw [ht]; exact hP, va_K.moved hW.alike hK, hD⟩, hS.F ht⟩) hS.2.2 d_Mod_block_38
  · refine lv_iconst (v := (-1)) hx hb d_Mod_block_4 (by decide) ?_
    refine lv_goto (tgt := 13) hx hb d_Mod_block_5 rfl ?_
    refine lv_istore_n hx hb d_Mod_block_13 rfl hl (by decide) rfl (fun ls hl => ?_)
    have hl : lv_has ls 5 [(3, .int (-1)), (0, .ref g0), (1, .int k), (2, .int mb)] := hl
    refine lv_iconst (v := 0) hx hb d_Mod_block_14 (by decide) ?_
    refine lv_istore hx hb d_Mod_block_15 hl (by decide) rfl (fun ls hl => ?_)
    have hl : lv_has ls 5 [(4, .int 0), (3, .int (-1)), (0, .ref g0), (1, .int k), (2, .int mb)] := hl
    refine lv_aload_n hx hb d_Mod_block_17 rfl (lv_at hl 2 rfl) ?_
    refine lv_iload_n hx hb d_Mod_block_18 rfl (lv_at hl 1 rfl) ?_
    refine lv_if_ge (tgt := 26) hx hb d_Mod_block_19 rfl (fun h2 => ?_) (fun h2 => ?_)
    · exact absurd h2 (by decide)
    · refine lv_iconst (v := 1) hx hb d_Mod_block_22 (by decide) ?_
      refine lv_goto (tgt := 27) hx hb d_Mod_block_23 rfl ?_
      refine va_put (D := (dC, dI)) (ci := 1) (v := .int 1) (ty := .int) (C := R_Mod) (T := F_Mod) (N := 8) hx hb hT in_Mod t_Mod t_Mod_ok n_Mod hown hK hP hD hS 0 rfl rfl 6 (by decide) (hT _ tw_188) (fun _ h9 => h9) rfl (by decide +kernel) rfl rfl (Nat.le_of_ble_eq_true rfl) d_Mod_block_27 (fun H locs hP hD hS => ?_)
      have hP : va_P (dC, dI) classes [(g0, .inr (1, [.ref gu, .ref gb, .ref gh, .int nx, .int mn, .int en, .int 1, .int he])), (gu, .inl (cU, 64, .inl un)), (gb, .inl (cV, 64, .inl ba)), (gh, .inl (cZ, 64, .inl (hm M)))] H := hP
      have hD : va_D A [(g0, .inr (1, [.ref gu, .ref gb, .ref gh, .int nx, .int mn, .int en, .int 1, .int he])), (gu, .inl (cU, 64, .inl un)), (gb, .inl (cV, 64, .inl ba)), (gh, .inl (cZ, 64, .inl (hm M)))] := hD
      refine lv_aload_n hx hb d_Mod_block_30 rfl (lv_at hl 2 rfl) ?_
      refine va_get (D := (dC, dI)) (ci := 1) (v := .int 1) (C := R_Mod) (T := F_Mod) (N := 8) hx hb hT in_Mod hown hK hP 0 rfl rfl 6 (by decide) (hT _ tw_188) (fun _ h9 => h9) rfl d_Mod_block_31 ?_
      refine lv_if_le (tgt := 39) hx hb d_Mod_block_34 rfl (fun h3 => ?_) (fun h3 => ?_)
      · exact absurd h3 (by decide)
      · refine lv_iconst (v := 0) hx hb d_Mod_block_37 (by decide) ?_
        exact W.iret (v := 0) hx hb hr_ (fun t ht hW => ⟨⟨0, (), rfl, rfl, by rw [ht]; exact hP, va_K.moved hW.alike hK, hD⟩, hS.F ht⟩) hS.2.2 d_Mod_block_38
set_option maxHeartbeats 4000000 in
set_option maxRecDepth 100000 in
/-- block(k, many), k a block -/
theorem c_Mod_block_1 (l : Launch) (dC : Nat → ClassId) (dI : Nat → Nat → Nat) (g0 gu gb gh : Nat) (cU cV cZ : ClassId) (nx mn en th he : Int32) (un ba : Nat → Int32) (M : Nat) (sz : Nat) (k : Nat) (mb : Int32) (hk : k < cn (bg M).testBit 64) : Met l y_Mod_block w_Mod_block rm_1 (va_Pc [.ref g0, .int (nI k), .int mb] (we dC dI sz [(g0, .inr (1, [.ref gu, .ref gb, .ref gh, .int nx, .int mn, .int en, .int th, .int he])), (gu, .inl (cU, 64, .inl un)), (gb, .inl (cV, 64, .inl ba)), (gh, .inl (cZ, 64, .inl (hm M)))] [(cU, .int), (cV, .int), (cZ, .boolean)])) (va_Qi (fun r (_ : Unit) => ∃ d, d < 64 ∧ (bg M).testBit d = true ∧ cn (bg M).testBit d = k ∧ ((mb = 0 ∧ r = nx + nI d) ∨ (¬ mb = 0 ∧ ∃ n, r = nI n ∧ bk_run M d n))) (fun _ => wz dC dI (va_A [(g0, .inr (1, [.ref gu, .ref gb, .ref gh, .int nx, .int mn, .int en, .int th, .int he])), (gu, .inl (cU, 64, .inl un)), (gb, .inl (cV, 64, .inl ba)), (gh, .inl (cZ, 64, .inl (hm M)))] sz) [(g0, .inr (1, [.ref gu, .ref gb, .ref gh, .int nx, .int mn, .int en, .int 0, .int he])), (gu, .inl (cU, 64, .inl un)), (gb, .inl (cV, 64, .inl ba)), (gh, .inl (cZ, 64, .inl (hm M)))] [(cU, .int), (cV, .int), (cZ, .boolean)]) (va_A [(g0, .inr (1, [.ref gu, .ref gb, .ref gh, .int nx, .int mn, .int en, .int th, .int he])), (gu, .inl (cU, 64, .inl un)), (gb, .inl (cV, 64, .inl ba)), (gh, .inl (cZ, 64, .inl (hm M)))] sz)) 0 0 (va_A [(g0, .inr (1, [.ref gu, .ref gb, .ref gh, .int nx, .int mn, .int en, .int th, .int he])), (gu, .inl (cU, 64, .inl un)), (gb, .inl (cV, 64, .inl ba)), (gh, .inl (cZ, 64, .inl (hm M)))] sz) := by
  refine Met.ofW (cc := b_Mod_block) (maxL := 5) (ret := (some .int)) (by decide) rfl ?_
  intro p e s m args below meth c s₁ B hml hv
  obtain ⟨rfl, hsz, hP, hK, hD0⟩ := hv
  have hx := B.exec
  have hb := B.bytes
  have hr_ := B.returns
  have hT : ∀ w ∈ tb, w.before _ s = true := fun w hw => atoms_spec (ws := w_Mod_block) B.pre w (List.mem_cons_of_mem _ hw)
  have hown : s.vm.findClass R_Mod = some m.cls := findClass_of_methodNamed B.named
  have hlocks := B.notSynchronized
  subst hsz
  have hD := hD0.self (sz := s.heap.size)
  generalize hAe : va_A [(g0, .inr (1, [.ref gu, .ref gb, .ref gh, .int nx, .int mn, .int en, .int th, .int he])), (gu, .inl (cU, 64, .inl un)), (gb, .inl (cV, 64, .inl ba)), (gh, .inl (cZ, 64, .inl (hm M)))] s.heap.size = A at hD ⊢
  have hA : ∀ q : Nat, s.heap.size ≤ q → A q := fun q h => by rw [← hAe]; exact Or.inr h
  have hS : va_S A s.heap s.heap [] := va_S.rf
  have hP : va_P (dC, dI) classes [(g0, .inr (1, [.ref gu, .ref gb, .ref gh, .int nx, .int mn, .int en, .int th, .int he])), (gu, .inl (cU, 64, .inl un)), (gb, .inl (cV, 64, .inl ba)), (gh, .inl (cZ, 64, .inl (hm M)))] s.heap := hP
  have hl := lv_entry ([.ref g0, .int (nI k), .int mb]) (n := 5) (Nat.le_of_ble_eq_true rfl)
  rw [lg_entry_eq]
  generalize (lg_sl ([.ref g0, .int (nI k), .int mb]) ++ List.replicate (5 - (lg_sl ([.ref g0, .int (nI k), .int mb])).length) Slot.unset).toArray = ls at hl ⊢
  have hl : lv_has ls 5 [(0, .ref g0), (1, .int (nI k)), (2, .int mb)] := hl
  have hc64 := cn_le (bg M).testBit 64
  have loop : ∀ (d : Nat), d < 64 → (bg M).testBit d = true → cn (bg M).testBit d = k → ∀ (c0 j : Nat) (ls : Array Slot) (H : Heap) (locs : List Loc), c0 + (d + j) = 64 → (∀ i, i < j → M.testBit (d + i) = true) → lv_has ls 5 [(4, .int (nI j)), (3, .int (nI d)), (2, .int mb), (0, .ref g0)] → va_P (dC, dI) classes [(g0, .inr (1, [.ref gu, .ref gb, .ref gh, .int nx, .int mn, .int en, .int 0, .int he])), (gu, .inl (cU, 64, .inl un)), (gb, .inl (cV, 64, .inl ba)), (gh, .inl (cZ, 64, .inl (hm M)))] H → va_D A [(g0, .inr (1, [.ref gu, .ref gb, .ref gh, .int nx, .int mn, .int en, .int 0, .int he])), (gu, .inl (cU, 64, .inl un)), (gb, .inl (cV, 64, .inl ba)), (gh, .inl (cZ, 64, .inl (hm M)))] → va_S A s.heap H locs → W p l e (headSpec w_Mod_block rm_1).room s m ([.ref g0, .int (nI k), .int mb] : List Value).toArray below meth c H locs 0 0 (MQ below (va_Qi (fun r (_ : Unit) => ∃ d, d < 64 ∧ (bg M).testBit d = true ∧ cn (bg M).testBit d = k ∧ ((mb = 0 ∧ r = nx + nI d) ∨ (¬ mb = 0 ∧ ∃ n, r = nI n ∧ bk_run M d n))) (fun _ => wz dC dI A [(g0, .inr (1, [.ref gu, .ref gb, .ref gh, .int nx, .int mn, .int en, .int 0, .int he])), (gu, .inl (cU, 64, .inl un)), (gb, .inl (cV, 64, .inl ba)), (gh, .inl (cZ, 64, .inl (hm M)))] [(cU, .int), (cV, .int), (cZ, .boolean)]) A) ([.ref g0, .int (nI k), .int mb] : List Value).toArray s 0 0 A) (F0 m 39 ls []) := by
    intro d hd hdb hdc c0
    induction c0 with
    | zero =>
      intro j ls H locs hj hall hl hP hD hS
      refine lv_iload_n hx hb d_Mod_block_39 rfl (lv_at hl 1 rfl) ?_
      refine lv_iload hx hb d_Mod_block_40 (lv_at hl 0 rfl) ?_
      refine lv_iadd hx hb d_Mod_block_42 ?_
      refine lv_topi (fun y9 e9 => ?_)
      obtain rfl : y9 = (nI (d + j) : Int32) := by rw [e9]; rw [nI_add]
      refine lv_bipush (v := 64) hx hb d_Mod_block_43 (by decide) ?_
      refine lv_icmp_ge (tgt := 66) hx hb d_Mod_block_45 rfl (fun h1 => ?_) (fun h1 => ?_)
      · refine lv_iload_n hx hb d_Mod_block_66 rfl (lv_at hl 2 rfl) ?_
        refine lv_if_eq (tgt := 75) hx hb d_Mod_block_67 rfl (fun h5 => ?_) (fun h5 => ?_)
        · refine lv_aload_n hx hb d_Mod_block_75 rfl (lv_at hl 3 rfl) ?_
          refine va_get (D := (dC, dI)) (ci := 1) (v := .int nx) (C := R_Mod) (T := F_Mod) (N := 8) hx hb hT in_Mod hown hK hP 0 rfl rfl 3 (by decide) (hT _ tw_185) (fun _ h9 => h9) rfl d_Mod_block_76 ?_
          refine lv_iload_n hx hb d_Mod_block_79 rfl (lv_at hl 1 rfl) ?_
          refine lv_iadd hx hb d_Mod_block_80 ?_
          exact W.iret (v := nx + (nI d)) hx hb hr_ (fun t ht hW => ⟨⟨nx + (nI d), (), rfl, ⟨d, hd, hdb, hdc, Or.inl ⟨h5, rfl⟩⟩, by rw [ht]; exact hP, va_K.moved hW.alike hK, hD⟩, hS.F ht⟩) hS.2.2 d_Mod_block_81
        · refine lv_iload hx hb d_Mod_block_70 (lv_at hl 0 rfl) ?_
          refine lv_goto (tgt := 81) hx hb d_Mod_block_72 rfl ?_
          exact W.iret (v := nI j) hx hb hr_ (fun t ht hW => ⟨⟨nI j, (), rfl, ⟨d, hd, hdb, hdc, Or.inr ⟨h5, j, rfl, by omega, hall, fun h => by omega⟩⟩, by rw [ht]; exact hP, va_K.moved hW.alike hK, hD⟩, hS.F ht⟩) hS.2.2 d_Mod_block_81
      · exact absurd (nI_le (a := 64) (b := d + j) (by omega) (by omega)) h1
    | succ c0 ih =>
      intro j ls H locs hj hall hl hP hD hS
      refine lv_iload_n hx hb d_Mod_block_39 rfl (lv_at hl 1 rfl) ?_
      refine lv_iload hx hb d_Mod_block_40 (lv_at hl 0 rfl) ?_
      refine lv_iadd hx hb d_Mod_block_42 ?_
      refine lv_topi (fun y9 e9 => ?_)
      obtain rfl : y9 = (nI (d + j) : Int32) := by rw [e9]; rw [nI_add]
      refine lv_bipush (v := 64) hx hb d_Mod_block_43 (by decide) ?_
      refine lv_icmp_ge (tgt := 66) hx hb d_Mod_block_45 rfl (fun h1 => ?_) (fun h1 => ?_)
      · exact absurd h1 (Int32.not_le.mpr (nI_lt (a := d + j) (b := 64) (by omega) (by omega)))
      · refine lv_aload_n hx hb d_Mod_block_48 rfl (lv_at hl 3 rfl) ?_
        refine va_get (D := (dC, dI)) (ci := 1) (v := .ref gh) (C := R_Mod) (T := F_Mod) (N := 8) hx hb hT in_Mod hown hK hP 0 rfl rfl 2 (by decide) (hT _ tw_184) (fun _ h9 => h9) rfl d_Mod_block_49 ?_
        refine lv_iload_n hx hb d_Mod_block_52 rfl (lv_at hl 1 rfl) ?_
        refine lv_iload hx hb d_Mod_block_53 (lv_at hl 0 rfl) ?_
        refine lv_iadd hx hb d_Mod_block_55 ?_
        refine lv_topi (fun y9 e9 => ?_)
        obtain rfl : y9 = (nI (d + j) : Int32) := by rw [e9]; rw [nI_add]
        refine va_zald hx hb hK hP 3 2 rfl rfl (vp_in_nI (by omega) (by decide)) d_Mod_block_56 ?_
        rw [nI_clamp (by omega)]
        refine lv_if_eq (tgt := 66) hx hb d_Mod_block_57 rfl (fun h2 => ?_) (fun h2 => ?_)
        · refine lv_iload_n hx hb d_Mod_block_66 rfl (lv_at hl 2 rfl) ?_
          refine lv_if_eq (tgt := 75) hx hb d_Mod_block_67 rfl (fun h5 => ?_) (fun h5 => ?_)
          · refine lv_aload_n hx hb d_Mod_block_75 rfl (lv_at hl 3 rfl) ?_
            refine va_get (D := (dC, dI)) (ci := 1) (v := .int nx) (C := R_Mod) (T := F_Mod) (N := 8) hx hb hT in_Mod hown hK hP 0 rfl rfl 3 (by decide) (hT _ tw_185) (fun _ h9 => h9) rfl d_Mod_block_76 ?_
            refine lv_iload_n hx hb d_Mod_block_79 rfl (lv_at hl 1 rfl) ?_
            refine lv_iadd hx hb d_Mod_block_80 ?_
            exact W.iret (v := nx + (nI d)) hx hb hr_ (fun t ht hW => ⟨⟨nx + (nI d), (), rfl, ⟨d, hd, hdb, hdc, Or.inl ⟨h5, rfl⟩⟩, by rw [ht]; exact hP, va_K.moved hW.alike hK, hD⟩, hS.F ht⟩) hS.2.2 d_Mod_block_81
          · refine lv_iload hx hb d_Mod_block_70 (lv_at hl 0 rfl) ?_
            refine lv_goto (tgt := 81) hx hb d_Mod_block_72 rfl ?_
            exact W.iret (v := nI j) hx hb hr_ (fun t ht hW => ⟨⟨nI j, (), rfl, ⟨d, hd, hdb, hdc, Or.inr ⟨h5, j, rfl, by omega, hall, fun _ => hm_z.mp h2⟩⟩, by rw [ht]; exact hP, va_K.moved hW.alike hK, hD⟩, hS.F ht⟩) hS.2.2 d_Mod_block_81
        · refine lv_iinc (v := nI (j + 1)) hx hb d_Mod_block_60 hl (k := 0) rfl (by rw [← nI_1]; rfl) (by decide) rfl (fun ls hl => ?_)
          have hl : lv_has ls 5 [(4, .int (nI (j + 1))), (3, .int (nI d)), (2, .int mb), (0, .ref g0)] := hl
          refine lv_goto (tgt := 39) hx hb d_Mod_block_63 rfl ?_
          exact ih (j + 1) ls H locs (by omega) (lt_s hall (by simpa using (fun q => h2 (hm_z.mpr q)))) (lv_sub hl [0, 1, 2, 3] rfl) hP hD hS
  refine lv_iload_n hx hb d_Mod_block_0 rfl (lv_at hl 1 rfl) ?_
  refine lv_if_ge (tgt := 8) hx hb d_Mod_block_1 rfl (fun h1 => ?_) (fun h1 => ?_)
  · refine lv_aload_n hx hb d_Mod_block_8 rfl (lv_at hl 0 rfl) ?_
    refine lv_iload_n hx hb d_Mod_block_9 rfl (lv_at hl 1 rfl) ?_
    refine vp_callSi (W.runV (As := [.int (nI k)]) (rest := []) ⟨hx, hb, hml, hown, hT⟩ (c_Mod_from l dC dI g0 gu gb gh cU cV cZ nx mn en th he un ba M k (by omega)) (cwV 1 hT (tb_wsV tw_237 tw_239 ts_7 tw_2 tw_240) rfl rfl rfl (by decide +kernel) ⟨Nat.le_of_ble_eq_true rfl, Nat.le_of_ble_eq_true rfl⟩) ⟨wd_blind, va_recv hK hP (q0 := 0) rfl rfl, wd_at hK hP⟩ rfl rfl hl.1 rfl (lv_room (Nat.le_of_ble_eq_true rfl)) d_Mod_block_10 ⟨Nat.le_of_ble_eq_true rfl, Nat.le_of_ble_eq_true rfl⟩) (fun r hr9 => ?_)
    rcases hr9 with ⟨d, hd, rfl, hdb, hdc⟩ | ⟨e1, e2⟩
    · refine lv_istore_n hx hb d_Mod_block_13 rfl hl (by decide) rfl (fun ls hl => ?_)
      have hl : lv_has ls 5 [(3, .int (nI d)), (0, .ref g0), (1, .int (nI k)), (2, .int mb)] := hl
      refine lv_iconst (v := 0) hx hb d_Mod_block_14 (by decide) ?_
      refine lv_istore hx hb d_Mod_block_15 hl (by decide) rfl (fun ls hl => ?_)
      have hl : lv_has ls 5 [(4, .int 0), (3, .int (nI d)), (0, .ref g0), (1, .int (nI k)), (2, .int mb)] := hl
      refine lv_aload_n hx hb d_Mod_block_17 rfl (lv_at hl 2 rfl) ?_
      refine lv_iload_n hx hb d_Mod_block_18 rfl (lv_at hl 1 rfl) ?_
      refine lv_if_ge (tgt := 26) hx hb d_Mod_block_19 rfl (fun h2 => ?_) (fun h2 => ?_)
      · refine lv_iconst (v := 0) hx hb d_Mod_block_26 (by decide) ?_
        refine va_put (D := (dC, dI)) (ci := 1) (v := .int 0) (ty := .int) (C := R_Mod) (T := F_Mod) (N := 8) hx hb hT in_Mod t_Mod t_Mod_ok n_Mod hown hK hP hD hS 0 rfl rfl 6 (by decide) (hT _ tw_188) (fun _ h9 => h9) rfl (by decide +kernel) rfl rfl (Nat.le_of_ble_eq_true rfl) d_Mod_block_27 (fun H locs hP hD hS => ?_)
        have hP : va_P (dC, dI) classes [(g0, .inr (1, [.ref gu, .ref gb, .ref gh, .int nx, .int mn, .int en, .int 0, .int he])), (gu, .inl (cU, 64, .inl un)), (gb, .inl (cV, 64, .inl ba)), (gh, .inl (cZ, 64, .inl (hm M)))] H := hP
        have hD : va_D A [(g0, .inr (1, [.ref gu, .ref gb, .ref gh, .int nx, .int mn, .int en, .int 0, .int he])), (gu, .inl (cU, 64, .inl un)), (gb, .inl (cV, 64, .inl ba)), (gh, .inl (cZ, 64, .inl (hm M)))] := hD
        refine lv_aload_n hx hb d_Mod_block_30 rfl (lv_at hl 2 rfl) ?_
        refine va_get (D := (dC, dI)) (ci := 1) (v := .int 0) (C := R_Mod) (T := F_Mod) (N := 8) hx hb hT in_Mod hown hK hP 0 rfl rfl 6 (by decide) (hT _ tw_188) (fun _ h9 => h9) rfl d_Mod_block_31 ?_
        refine lv_if_le (tgt := 39) hx hb d_Mod_block_34 rfl (fun h3 => ?_) (fun h3 => ?_)
        · exact loop d hd hdb hdc (64 - d) 0 ls H locs (by omega) lt_0 (lv_sub hl [0, 1, 4, 2] rfl) hP hD hS
        · exact absurd (by decide) h3
      · exact absurd (nI_pos' (by omega)) h2
    · exact absurd e2 (by omega)
  · exact absurd (nI_pos' (by omega)) h1
set_option maxHeartbeats 4000000 in
set_option maxRecDepth 100000 in
/-- SegmentBoxModel() -/
theorem c_Mod_init (l : Launch) (dC : Nat → ClassId) (dI : Nat → Nat → Nat) (g0 : Nat) (sz : Nat) : Met l y_Mod_init w_Mod_init ({ frames := 1, cells := 3, slots := 192, locals := 30 }) (va_Pc [.ref g0] (we dC dI sz [(g0, .inr (1, [.null, .null, .null, .int 0, .int 0, .int 0, .int 0, .int 0]))] [])) (va_Qv (fun _ : Nat × Nat × Nat × ClassId × ClassId × ClassId => True) (fun q => wz dC dI (va_A [(g0, .inr (1, [.null, .null, .null, .int 0, .int 0, .int 0, .int 0, .int 0]))] sz) [(g0, .inr (1, [.ref (q.1), .ref (q.2.1), .ref (q.2.2.1), .int 0, .int 0, .int 0, .int 0, .int 0])), (q.1, .inl (q.2.2.2.1, 64, .inl (fun _ => 0))), (q.2.1, .inl (q.2.2.2.2.1, 64, .inl (fun _ => 0))), (q.2.2.1, .inl (q.2.2.2.2.2, 64, .inl (fun _ => 0)))] [(q.2.2.2.1, .int), (q.2.2.2.2.1, .int), (q.2.2.2.2.2, .boolean)]) (va_A [(g0, .inr (1, [.null, .null, .null, .int 0, .int 0, .int 0, .int 0, .int 0]))] sz)) 3 192 (va_A [(g0, .inr (1, [.null, .null, .null, .int 0, .int 0, .int 0, .int 0, .int 0]))] sz) := by
  refine Met.ofW (cc := b_Mod_init) (maxL := 1) (ret := none) (by decide) rfl ?_
  intro p e s m args below meth c s₁ B hml hv
  obtain ⟨rfl, hsz, hP, hK, hD0⟩ := hv
  have hx := B.exec
  have hb := B.bytes
  have hr_ := B.returns
  have hT : ∀ w ∈ tb, w.before _ s = true := fun w hw => atoms_spec (ws := w_Mod_init) B.pre w (List.mem_cons_of_mem _ hw)
  have hown : s.vm.findClass R_Mod = some m.cls := findClass_of_methodNamed B.named
  have hlocks := B.notSynchronized
  have hin : meth.name = "<init>" := (name_of_methodNamed B.named B.method).1
  subst hsz
  have hD := hD0.self (sz := s.heap.size)
  generalize hAe : va_A [(g0, .inr (1, [.null, .null, .null, .int 0, .int 0, .int 0, .int 0, .int 0]))] s.heap.size = A at hD ⊢
  have hA : ∀ q : Nat, s.heap.size ≤ q → A q := fun q h => by rw [← hAe]; exact Or.inr h
  have hS : va_S A s.heap s.heap [] := va_S.rf
  have hP : va_P (dC, dI) classes [(g0, .inr (1, [.null, .null, .null, .int 0, .int 0, .int 0, .int 0, .int 0]))] s.heap := hP
  have hl := lv_entry ([.ref g0]) (n := 1) (Nat.le_of_ble_eq_true rfl)
  rw [lg_entry_eq]
  generalize (lg_sl ([.ref g0]) ++ List.replicate (1 - (lg_sl ([.ref g0])).length) Slot.unset).toArray = ls at hl ⊢
  have hl : lv_has ls 1 [(0, .ref g0)] := hl
  refine lv_aload_n hx hb d_Mod_init_0 rfl (lv_at hl 0 rfl) ?_
  refine W.objInit hx hb hown (hT _ tw_181) (hT _ tw_14) (hT _ tw_15) rfl (by rw [hml]; exact hl.1) rfl d_Mod_init_1 (Nat.le_of_ble_eq_true rfl) (Nat.le_of_ble_eq_true rfl) ?_
  refine W.eq (g2 := F0 m 4 ls []) rfl ?_
  refine lv_aload_n hx hb d_Mod_init_4 rfl (lv_at hl 0 rfl) ?_
  refine lv_bipush (v := 64) hx hb d_Mod_init_5 (by decide) ?_
  refine va_newa (atype := .int) (ty := .int) (a0 := (64, .inl (fun _ => 0))) hx hb (hT _ tw_207) rfl hK hP hD hS hA (fun _ => rfl) (by decide) (by decide) (by decide) (Nat.le_of_ble_eq_true rfl) (Nat.le_of_ble_eq_true rfl) d_Mod_init_7 (fun gu cU H hK hP hD hS => ?_)
  have hP : va_P (dC, dI) classes [(g0, .inr (1, [.null, .null, .null, .int 0, .int 0, .int 0, .int 0, .int 0])), (gu, .inl (cU, 64, .inl (fun _ => 0)))] H := hP
  have hD : va_D A [(g0, .inr (1, [.null, .null, .null, .int 0, .int 0, .int 0, .int 0, .int 0])), (gu, .inl (cU, 64, .inl (fun _ => 0)))] := hD
  have hK : va_K (dC, dI) classes [(cU, .int)] s := hK
  refine va_putF (D := (dC, dI)) (ci := 1) (v := .ref gu) (ty := .array .int) (C := R_Mod) (T := F_Mod) (N := 8) hx hb hT in_Mod t_Mod t_Mod_ok n_Mod hown hK hP hD hS 0 rfl rfl 0 (by decide) (hT _ tw_182) (fun _ h9 => h9) rfl hin rfl (by decide +kernel) rfl rfl (Nat.le_of_ble_eq_true rfl) d_Mod_init_9 (fun H locs hP hD hS => ?_)
  have hP : va_P (dC, dI) classes [(g0, .inr (1, [.ref gu, .null, .null, .int 0, .int 0, .int 0, .int 0, .int 0])), (gu, .inl (cU, 64, .inl (fun _ => 0)))] H := hP
  have hD : va_D A [(g0, .inr (1, [.ref gu, .null, .null, .int 0, .int 0, .int 0, .int 0, .int 0])), (gu, .inl (cU, 64, .inl (fun _ => 0)))] := hD
  refine lv_aload_n hx hb d_Mod_init_12 rfl (lv_at hl 0 rfl) ?_
  refine lv_bipush (v := 64) hx hb d_Mod_init_13 (by decide) ?_
  refine va_newa (atype := .int) (ty := .int) (a0 := (64, .inl (fun _ => 0))) hx hb (hT _ tw_207) rfl hK hP hD hS hA (fun _ => rfl) (by decide) (by decide) (by decide) (Nat.le_of_ble_eq_true rfl) (Nat.le_of_ble_eq_true rfl) d_Mod_init_15 (fun gb cV H hK hP hD hS => ?_)
  have hP : va_P (dC, dI) classes [(g0, .inr (1, [.ref gu, .null, .null, .int 0, .int 0, .int 0, .int 0, .int 0])), (gu, .inl (cU, 64, .inl (fun _ => 0))), (gb, .inl (cV, 64, .inl (fun _ => 0)))] H := hP
  have hD : va_D A [(g0, .inr (1, [.ref gu, .null, .null, .int 0, .int 0, .int 0, .int 0, .int 0])), (gu, .inl (cU, 64, .inl (fun _ => 0))), (gb, .inl (cV, 64, .inl (fun _ => 0)))] := hD
  have hK : va_K (dC, dI) classes [(cU, .int), (cV, .int)] s := hK
  refine va_putF (D := (dC, dI)) (ci := 1) (v := .ref gb) (ty := .array .int) (C := R_Mod) (T := F_Mod) (N := 8) hx hb hT in_Mod t_Mod t_Mod_ok n_Mod hown hK hP hD hS 0 rfl rfl 1 (by decide) (hT _ tw_183) (fun _ h9 => h9) rfl hin rfl (by decide +kernel) rfl rfl (Nat.le_of_ble_eq_true rfl) d_Mod_init_17 (fun H locs hP hD hS => ?_)
  have hP : va_P (dC, dI) classes [(g0, .inr (1, [.ref gu, .ref gb, .null, .int 0, .int 0, .int 0, .int 0, .int 0])), (gu, .inl (cU, 64, .inl (fun _ => 0))), (gb, .inl (cV, 64, .inl (fun _ => 0)))] H := hP
  have hD : va_D A [(g0, .inr (1, [.ref gu, .ref gb, .null, .int 0, .int 0, .int 0, .int 0, .int 0])), (gu, .inl (cU, 64, .inl (fun _ => 0))), (gb, .inl (cV, 64, .inl (fun _ => 0)))] := hD
  refine lv_aload_n hx hb d_Mod_init_20 rfl (lv_at hl 0 rfl) ?_
  refine lv_bipush (v := 64) hx hb d_Mod_init_21 (by decide) ?_
  refine va_newa (atype := .boolean) (ty := .boolean) (a0 := (64, .inl (fun _ => 0))) hx hb (hT _ tw_208) rfl hK hP hD hS hA (fun _ => rfl) (by decide) (by decide) (by decide) (Nat.le_of_ble_eq_true rfl) (Nat.le_of_ble_eq_true rfl) d_Mod_init_23 (fun gh cZ H hK hP hD hS => ?_)
  have hP : va_P (dC, dI) classes [(g0, .inr (1, [.ref gu, .ref gb, .null, .int 0, .int 0, .int 0, .int 0, .int 0])), (gu, .inl (cU, 64, .inl (fun _ => 0))), (gb, .inl (cV, 64, .inl (fun _ => 0))), (gh, .inl (cZ, 64, .inl (fun _ => 0)))] H := hP
  have hD : va_D A [(g0, .inr (1, [.ref gu, .ref gb, .null, .int 0, .int 0, .int 0, .int 0, .int 0])), (gu, .inl (cU, 64, .inl (fun _ => 0))), (gb, .inl (cV, 64, .inl (fun _ => 0))), (gh, .inl (cZ, 64, .inl (fun _ => 0)))] := hD
  have hK : va_K (dC, dI) classes [(cU, .int), (cV, .int), (cZ, .boolean)] s := hK
  refine va_putF (D := (dC, dI)) (ci := 1) (v := .ref gh) (ty := .array .boolean) (C := R_Mod) (T := F_Mod) (N := 8) hx hb hT in_Mod t_Mod t_Mod_ok n_Mod hown hK hP hD hS 0 rfl rfl 2 (by decide) (hT _ tw_184) (fun _ h9 => h9) rfl hin rfl (by decide +kernel) rfl rfl (Nat.le_of_ble_eq_true rfl) d_Mod_init_25 (fun H locs hP hD hS => ?_)
  have hP : va_P (dC, dI) classes [(g0, .inr (1, [.ref gu, .ref gb, .ref gh, .int 0, .int 0, .int 0, .int 0, .int 0])), (gu, .inl (cU, 64, .inl (fun _ => 0))), (gb, .inl (cV, 64, .inl (fun _ => 0))), (gh, .inl (cZ, 64, .inl (fun _ => 0)))] H := hP
  have hD : va_D A [(g0, .inr (1, [.ref gu, .ref gb, .ref gh, .int 0, .int 0, .int 0, .int 0, .int 0])), (gu, .inl (cU, 64, .inl (fun _ => 0))), (gb, .inl (cV, 64, .inl (fun _ => 0))), (gh, .inl (cZ, 64, .inl (fun _ => 0)))] := hD
  exact W.vret hx hb hr_ (fun t ht hW => ⟨⟨(gu, gb, gh, cU, cV, cZ), rfl, trivial, by rw [ht]; exact hP, va_K.moved hW.alike hK, hD⟩, hS.F ht⟩) hS.2.2 d_Mod_init_28
end
section
/-! SegmentBoxModel.segment: tied to what the box does -/
theorem sg_or (M j D : Nat) : (M ||| 2 ^ (j + D)) / 2 ^ j = M / 2 ^ j ||| 2 ^ D := by
  apply Nat.eq_of_testBit_eq
  intro i
  rw [mb_div, mb_tst, mb_tst, mb_div]
  congr 1
  rw [decide_eq_decide]; omega
set_option maxHeartbeats 4000000 in
set_option maxRecDepth 100000 in
/-- segment(n, v, k), k in 0..8 -/
theorem c_Mod_segment (l : Launch) (dC : Nat → ClassId) (dI : Nat → Nat → Nat) (g0 gu gb gh : Nat) (cU cV cZ : ClassId) (ff uu : Nat) (nx en lf ex th : Int32) (rg un ba : Nat → Int32) (M : Nat) (sz : Nat) (n : Int32) (v : Int64) (k : Nat) (hff : ff < 64) (huu : uu ≤ 64) (hk : k ≤ 8) (hQ : sg_Q ff uu M rg 0 un ba) (hb00 : M.testBit 0 = false) (hE : sg_E uu nx en lf ex M) : Met l y_Mod_segment w_Mod_segment rm_1 (va_Pc [.ref g0, .int n, .long v, .int (nI k)] (we dC dI sz [(g0, .inr (1, [.ref gu, .ref gb, .ref gh, .int nx, .int (nI uu), .int ex, .int th, .int en])), (gu, .inl (cU, 64, .inl un)), (gb, .inl (cV, 64, .inl ba)), (gh, .inl (cZ, 64, .inl (hm M)))] [(cU, .int), (cV, .int), (cZ, .boolean)])) (va_Qi (fun r (q : (Nat × (Nat → Int32) × Nat) × (Nat → Int32) × (Nat → Int32)) => (q.1.1, q.1.2.1) = bs_fill ff uu nx en lf n v k (M, rg) ∧ r = nI q.1.2.2 ∧ sg_Q ff uu q.1.1 q.1.2.1 q.1.2.2 q.2.1 q.2.2 ∧ q.1.1.testBit q.1.2.2 = false ∧ sg_E uu nx en lf ex q.1.1) (fun q => wz dC dI (va_A [(g0, .inr (1, [.ref gu, .ref gb, .ref gh, .int nx, .int (nI uu), .int ex, .int th, .int en])), (gu, .inl (cU, 64, .inl un)), (gb, .inl (cV, 64, .inl ba)), (gh, .inl (cZ, 64, .inl (hm M)))] sz) [(g0, .inr (1, [.ref gu, .ref gb, .ref gh, .int (nx + nI q.1.2.2), .int (nI (uu + q.1.2.2)), .int ex, .int 0, .int en])), (gu, .inl (cU, 64, .inl (q.2.1))), (gb, .inl (cV, 64, .inl (q.2.2))), (gh, .inl (cZ, 64, .inl (hm (q.1.1 / 2 ^ q.1.2.2))))] [(cU, .int), (cV, .int), (cZ, .boolean)]) (va_A [(g0, .inr (1, [.ref gu, .ref gb, .ref gh, .int nx, .int (nI uu), .int ex, .int th, .int en])), (gu, .inl (cU, 64, .inl un)), (gb, .inl (cV, 64, .inl ba)), (gh, .inl (cZ, 64, .inl (hm M)))] sz)) 0 0 (va_A [(g0, .inr (1, [.ref gu, .ref gb, .ref gh, .int nx, .int (nI uu), .int ex, .int th, .int en])), (gu, .inl (cU, 64, .inl un)), (gb, .inl (cV, 64, .inl ba)), (gh, .inl (cZ, 64, .inl (hm M)))] sz) := by
  refine Met.ofW (cc := b_Mod_segment) (maxL := 8) (ret := (some .int)) (by decide) rfl ?_
  intro p e s m args below meth c s₁ B hml hv
  obtain ⟨rfl, hsz, hP, hK, hD0⟩ := hv
  have hx := B.exec
  have hb := B.bytes
  have hr_ := B.returns
  have hT : ∀ w ∈ tb, w.before _ s = true := fun w hw => atoms_spec (ws := w_Mod_segment) B.pre w (List.mem_cons_of_mem _ hw)
  have hown : s.vm.findClass R_Mod = some m.cls := findClass_of_methodNamed B.named
  have hlocks := B.notSynchronized
  subst hsz
  have hD := hD0.self (sz := s.heap.size)
  generalize hAe : va_A [(g0, .inr (1, [.ref gu, .ref gb, .ref gh, .int nx, .int (nI uu), .int ex, .int th, .int en])), (gu, .inl (cU, 64, .inl un)), (gb, .inl (cV, 64, .inl ba)), (gh, .inl (cZ, 64, .inl (hm M)))] s.heap.size = A at hD ⊢
  have hA : ∀ q : Nat, s.heap.size ≤ q → A q := fun q h => by rw [← hAe]; exact Or.inr h
  have hS : va_S A s.heap s.heap [] := va_S.rf
  have hP : va_P (dC, dI) classes [(g0, .inr (1, [.ref gu, .ref gb, .ref gh, .int nx, .int (nI uu), .int ex, .int th, .int en])), (gu, .inl (cU, 64, .inl un)), (gb, .inl (cV, 64, .inl ba)), (gh, .inl (cZ, 64, .inl (hm M)))] s.heap := hP
  have hl := lv_entry ([.ref g0, .int n, .long v, .int (nI k)]) (n := 8) (Nat.le_of_ble_eq_true rfl)
  rw [lg_entry_eq]
  generalize (lg_sl ([.ref g0, .int n, .long v, .int (nI k)]) ++ List.replicate (8 - (lg_sl ([.ref g0, .int n, .long v, .int (nI k)])).length) Slot.unset).toArray = ls at hl ⊢
  have hl : lv_has ls 8 [(0, .ref g0), (1, .int n), (2, .long v), (4, .int (nI k))] := hl
  have ups : ∀ (M2 : Nat) (r2 : Nat → Int32) (kk : Nat), (∀ (i : Nat) (un ba : Nat → Int32) (ls : Array Slot) (H : Heap) (locs : List Loc), sg_Q ff uu M2 r2 i un ba → M2.testBit i = false → lv_has ls 8 [(6, .int (nI kk)), (5, .int (nI uu)), (4, .int (nI k)), (2, .long v), (1, .int n), (0, .ref g0)] → va_P (dC, dI) classes [(g0, .inr (1, [.ref gu, .ref gb, .ref gh, .int (nx + nI i), .int (nI (uu + i)), .int ex, .int 0, .int en])), (gu, .inl (cU, 64, .inl un)), (gb, .inl (cV, 64, .inl ba)), (gh, .inl (cZ, 64, .inl (hm (M2 / 2 ^ i))))] H → va_D A [(g0, .inr (1, [.ref gu, .ref gb, .ref gh, .int (nx + nI i), .int (nI (uu + i)), .int ex, .int 0, .int en])), (gu, .inl (cU, 64, .inl un)), (gb, .inl (cV, 64, .inl ba)), (gh, .inl (cZ, 64, .inl (hm (M2 / 2 ^ i))))] → va_S A s.heap H locs → W p l e (headSpec w_Mod_segment rm_1).room s m ([.ref g0, .int n, .long v, .int (nI k)] : List Value).toArray below meth c H locs 0 0 (MQ below (va_Qi (fun r (q : (Nat × (Nat → Int32) × Nat) × (Nat → Int32) × (Nat → Int32)) => (q.1.1, q.1.2.1) = bs_fill ff uu nx en lf n v k (M, rg) ∧ r = nI q.1.2.2 ∧ sg_Q ff uu q.1.1 q.1.2.1 q.1.2.2 q.2.1 q.2.2 ∧ q.1.1.testBit q.1.2.2 = false ∧ sg_E uu nx en lf ex q.1.1) (fun q => wz dC dI A [(g0, .inr (1, [.ref gu, .ref gb, .ref gh, .int (nx + nI q.1.2.2), .int (nI (uu + q.1.2.2)), .int ex, .int 0, .int en])), (gu, .inl (cU, 64, .inl (q.2.1))), (gb, .inl (cV, 64, .inl (q.2.2))), (gh, .inl (cZ, 64, .inl (hm (q.1.1 / 2 ^ q.1.2.2))))] [(cU, .int), (cV, .int), (cZ, .boolean)]) A) ([.ref g0, .int n, .long v, .int (nI k)] : List Value).toArray s 0 0 A) (F0 m 151 ls [])) → ∀ (c0 i : Nat) (un ba : Nat → Int32) (ls : Array Slot) (H : Heap) (locs : List Loc), c0 + i = 64 → sg_Q ff uu M2 r2 i un ba → lv_has ls 8 [(6, .int (nI kk)), (5, .int (nI uu)), (4, .int (nI k)), (2, .long v), (1, .int n), (0, .ref g0)] → va_P (dC, dI) classes [(g0, .inr (1, [.ref gu, .ref gb, .ref gh, .int (nx + nI i), .int (nI (uu + i)), .int ex, .int 0, .int en])), (gu, .inl (cU, 64, .inl un)), (gb, .inl (cV, 64, .inl ba)), (gh, .inl (cZ, 64, .inl (hm (M2 / 2 ^ i))))] H → va_D A [(g0, .inr (1, [.ref gu, .ref gb, .ref gh, .int (nx + nI i), .int (nI (uu + i)), .int ex, .int 0, .int en])), (gu, .inl (cU, 64, .inl un)), (gb, .inl (cV, 64, .inl ba)), (gh, .inl (cZ, 64, .inl (hm (M2 / 2 ^ i))))] → va_S A s.heap H locs → W p l e (headSpec w_Mod_segment rm_1).room s m ([.ref g0, .int n, .long v, .int (nI k)] : List Value).toArray below meth c H locs 0 0 (MQ below (va_Qi (fun r (q : (Nat × (Nat → Int32) × Nat) × (Nat → Int32) × (Nat → Int32)) => (q.1.1, q.1.2.1) = bs_fill ff uu nx en lf n v k (M, rg) ∧ r = nI q.1.2.2 ∧ sg_Q ff uu q.1.1 q.1.2.1 q.1.2.2 q.2.1 q.2.2 ∧ q.1.1.testBit q.1.2.2 = false ∧ sg_E uu nx en lf ex q.1.1) (fun q => wz dC dI A [(g0, .inr (1, [.ref gu, .ref gb, .ref gh, .int (nx + nI q.1.2.2), .int (nI (uu + q.1.2.2)), .int ex, .int 0, .int en])), (gu, .inl (cU, 64, .inl (q.2.1))), (gb, .inl (cV, 64, .inl (q.2.2))), (gh, .inl (cZ, 64, .inl (hm (q.1.1 / 2 ^ q.1.2.2))))] [(cU, .int), (cV, .int), (cZ, .boolean)]) A) ([.ref g0, .int n, .long v, .int (nI k)] : List Value).toArray s 0 0 A) (F0 m 135 ls []) := by
    intro M2 r2 kk kont c0
    induction c0 with
    | zero =>
      intro i un ba ls H locs hi hq hl hP hD hS
      have hm2 : M2 < 2 ^ 64 := sg_64 hq.2.1
      have hb0 : (M2 / 2 ^ i).testBit 0 = M2.testBit i := by rw [mb_div, Nat.add_zero]
      refine lv_aload_n hx hb d_Mod_segment_135 rfl (lv_at hl 5 rfl) ?_
      refine va_get (D := (dC, dI)) (ci := 1) (v := .ref gh) (C := R_Mod) (T := F_Mod) (N := 8) hx hb hT in_Mod hown hK hP 0 rfl rfl 2 (by decide) (hT _ tw_184) (fun _ h9 => h9) rfl d_Mod_segment_136 ?_
      refine lv_iconst (v := 0) hx hb d_Mod_segment_139 (by decide) ?_
      refine va_zald hx hb hK hP 3 2 rfl rfl (vp_in_nI (n := 0) (N := 64) (by omega) (by decide)) d_Mod_segment_140 ?_
      rw [sb_cl0]
      refine lv_if_eq (tgt := 151) hx hb d_Mod_segment_141 rfl (fun h1 => ?_) (fun h1 => ?_)
      · exact kont i un ba ls H locs hq (by rw [← hb0]; exact hm_z.mp h1) hl hP hD hS
      · exact absurd (hm_z.mpr (by rw [hb0]; exact mb_big hm2 (by omega))) h1
    | succ c0 ih =>
      intro i un ba ls H locs hi hq hl hP hD hS
      have hm2 : M2 < 2 ^ 64 := sg_64 hq.2.1
      have hb0 : (M2 / 2 ^ i).testBit 0 = M2.testBit i := by rw [mb_div, Nat.add_zero]
      refine lv_aload_n hx hb d_Mod_segment_135 rfl (lv_at hl 5 rfl) ?_
      refine va_get (D := (dC, dI)) (ci := 1) (v := .ref gh) (C := R_Mod) (T := F_Mod) (N := 8) hx hb hT in_Mod hown hK hP 0 rfl rfl 2 (by decide) (hT _ tw_184) (fun _ h9 => h9) rfl d_Mod_segment_136 ?_
      refine lv_iconst (v := 0) hx hb d_Mod_segment_139 (by decide) ?_
      refine va_zald hx hb hK hP 3 2 rfl rfl (vp_in_nI (n := 0) (N := 64) (by omega) (by decide)) d_Mod_segment_140 ?_
      rw [sb_cl0]
      refine lv_if_eq (tgt := 151) hx hb d_Mod_segment_141 rfl (fun h1 => ?_) (fun h1 => ?_)
      · exact kont i un ba ls H locs hq (by rw [← hb0]; exact hm_z.mp h1) hl hP hD hS
      · have hbi : M2.testBit i = true := by rw [← hb0]; simpa using (fun q => h1 (hm_z.mpr q))
        have hil := sg_bit hq.2.1 hbi
        refine lv_aload_n hx hb d_Mod_segment_144 rfl (lv_at hl 5 rfl) ?_
        have hPc := hP.sub (ws' := [(g0, .inr (1, [.ref gu, .ref gb, .ref gh, .int (nx + nI i), .int (nI (uu + i)), .int ex, .int 0, .int en])), (gu, .inl (cU, 64, .inl un)), (gb, .inl (cV, 64, .inl ba)), (gh, .inl (cZ, 64, .inl (hm (M2 / 2 ^ i))))]) [0, 1, 2, 3] rfl
        have hDc := hD.sub (ws' := [(g0, .inr (1, [.ref gu, .ref gb, .ref gh, .int (nx + nI i), .int (nI (uu + i)), .int ex, .int 0, .int en])), (gu, .inl (cU, 64, .inl un)), (gb, .inl (cV, 64, .inl ba)), (gh, .inl (cZ, 64, .inl (hm (M2 / 2 ^ i))))]) [0, 1, 2, 3] (by decide) rfl
        have hKc := hK.sub (tys' := [(cU, .int), (cV, .int), (cZ, .boolean)]) [0, 1, 2] rfl
        have hFc := va_free (wc := [(g0, .inr (1, [.ref gu, .ref gb, .ref gh, .int (nx + nI i), .int (nI (uu + i)), .int ex, .int 0, .int en])), (gu, .inl (cU, 64, .inl un)), (gb, .inl (cV, 64, .inl ba)), (gh, .inl (cZ, 64, .inl (hm (M2 / 2 ^ i))))]) hD hS hA [0, 1, 2, 3] rfl
        refine va_callv (va_runV (As := []) (rest := []) ⟨hx, hb, hml, hown, hT⟩ (c_Mod_up l dC dI g0 gu gb gh cU cV cZ (nx + nI i) (uu + i) ex 0 en un ba (M2 / 2 ^ i) H.size (by omega) (Nat.lt_of_le_of_lt (Nat.div_le_self _ _) hm2)) (cwV 0 hT (tb_wsV tw_221 tw_223 ts_6 tw_2 tw_224) rfl rfl rfl (by decide +kernel) ⟨Nat.le_of_ble_eq_true rfl, Nat.le_of_ble_eq_true rfl⟩) ⟨we_blind, va_recv hK hP (q0 := 0) rfl rfl, we_at hKc hPc hDc⟩ rfl rfl hl.1 rfl (lv_room (Nat.le_of_ble_eq_true rfl)) d_Mod_segment_145 ⟨Nat.le_of_ble_eq_true rfl, Nat.le_of_ble_eq_true rfl⟩) hS (fun q _ h => hFc q h) hFc (fun u9 t9 H1 locs ht hvm hw9 hB hz1 hk1 hS => ?_)
        obtain ⟨hP1, hK1, hD1⟩ := hB
        rw [ht] at hP1
        have hK1 := va_K.moved hvm.symm hK1
        obtain ⟨hP, hD⟩ := va_join (wr := []) (w1 := [(g0, .inr (1, [.ref gu, .ref gb, .ref gh, .int (nx + nI i + 1), .int (nI (uu + i + 1)), .int ex, .int 0, .int en])), (gu, .inl (cU, 64, .inl (upd un (uu + i) (ba 0)))), (gb, .inl (cV, 64, .inl (md_sh ba 63))), (gh, .inl (cZ, 64, .inl (hm (M2 / 2 ^ i / 2))))]) hP hD [0, 1, 2, 3] [] rfl rfl (by decide) (by decide) hk1 hFc hP1 hD1
        have hK := (hK.sub (tys' := []) [] rfl).app hK1
        generalize H1 = H at hP hS ⊢
        have hP : va_P (dC, dI) classes [(g0, .inr (1, [.ref gu, .ref gb, .ref gh, .int (nx + nI i + 1), .int (nI (uu + i + 1)), .int ex, .int 0, .int en])), (gu, .inl (cU, 64, .inl (upd un (uu + i) (ba 0)))), (gb, .inl (cV, 64, .inl (md_sh ba 63))), (gh, .inl (cZ, 64, .inl (hm (M2 / 2 ^ i / 2))))] H := hP
        have hD : va_D A [(g0, .inr (1, [.ref gu, .ref gb, .ref gh, .int (nx + nI i + 1), .int (nI (uu + i + 1)), .int ex, .int 0, .int en])), (gu, .inl (cU, 64, .inl (upd un (uu + i) (ba 0)))), (gb, .inl (cV, 64, .inl (md_sh ba 63))), (gh, .inl (cZ, 64, .inl (hm (M2 / 2 ^ i / 2))))] := hD
        have hK : va_K (dC, dI) classes [(cU, .int), (cV, .int), (cZ, .boolean)] s := hK
        rw [i_add1, Nat.div_div_eq_div_mul, ← Nat.pow_succ] at hP hD
        refine lv_goto (tgt := 135) hx hb d_Mod_segment_148 rfl ?_
        exact ih (i + 1) _ _ ls H locs (by omega) (sg_up hq hbi) hl hP hD hS
  have loop : ∀ (c0 kk M1 : Nat) (r1 : Nat → Int32) (j : Nat) (un ba : Nat → Int32) (ls : Array Slot) (H : Heap) (locs : List Loc), c0 + kk = k → (M1, r1) = bs_fill ff uu nx en lf n v kk (M, rg) → sg_Q ff uu M1 r1 j un ba → M1.testBit j = false → sg_E uu nx en lf ex M1 → lv_has ls 8 [(6, .int (nI kk)), (5, .int (nI uu)), (4, .int (nI k)), (2, .long v), (1, .int n), (0, .ref g0)] → va_P (dC, dI) classes [(g0, .inr (1, [.ref gu, .ref gb, .ref gh, .int (nx + nI j), .int (nI (uu + j)), .int ex, .int 0, .int en])), (gu, .inl (cU, 64, .inl un)), (gb, .inl (cV, 64, .inl ba)), (gh, .inl (cZ, 64, .inl (hm (M1 / 2 ^ j))))] H → va_D A [(g0, .inr (1, [.ref gu, .ref gb, .ref gh, .int (nx + nI j), .int (nI (uu + j)), .int ex, .int 0, .int en])), (gu, .inl (cU, 64, .inl un)), (gb, .inl (cV, 64, .inl ba)), (gh, .inl (cZ, 64, .inl (hm (M1 / 2 ^ j))))] → va_S A s.heap H locs → W p l e (headSpec w_Mod_segment rm_1).room s m ([.ref g0, .int n, .long v, .int (nI k)] : List Value).toArray below meth c H locs 0 0 (MQ below (va_Qi (fun r (q : (Nat × (Nat → Int32) × Nat) × (Nat → Int32) × (Nat → Int32)) => (q.1.1, q.1.2.1) = bs_fill ff uu nx en lf n v k (M, rg) ∧ r = nI q.1.2.2 ∧ sg_Q ff uu q.1.1 q.1.2.1 q.1.2.2 q.2.1 q.2.2 ∧ q.1.1.testBit q.1.2.2 = false ∧ sg_E uu nx en lf ex q.1.1) (fun q => wz dC dI A [(g0, .inr (1, [.ref gu, .ref gb, .ref gh, .int (nx + nI q.1.2.2), .int (nI (uu + q.1.2.2)), .int ex, .int 0, .int en])), (gu, .inl (cU, 64, .inl (q.2.1))), (gb, .inl (cV, 64, .inl (q.2.2))), (gh, .inl (cZ, 64, .inl (hm (q.1.1 / 2 ^ q.1.2.2))))] [(cU, .int), (cV, .int), (cZ, .boolean)]) A) ([.ref g0, .int n, .long v, .int (nI k)] : List Value).toArray s 0 0 A) (F0 m 39 ls []) := by
    intro c0
    induction c0 with
    | zero =>
      intro kk M1 r1 j un ba ls H locs hj hfill hq hbj hE1 hl hP hD hS
      obtain rfl : k = kk := by omega
      refine lv_iload hx hb d_Mod_segment_39 (lv_at hl 0 rfl) ?_
      refine lv_iload hx hb d_Mod_segment_41 (lv_at hl 2 rfl) ?_
      refine lv_icmp_ge (tgt := 157) hx hb d_Mod_segment_43 rfl (fun h1 => ?_) (fun h1 => ?_)
      · refine lv_aload_n hx hb d_Mod_segment_157 rfl (lv_at hl 5 rfl) ?_
        refine va_get (D := (dC, dI)) (ci := 1) (v := .int (nI (uu + j))) (C := R_Mod) (T := F_Mod) (N := 8) hx hb hT in_Mod hown hK hP 0 rfl rfl 4 (by decide) (hT _ tw_186) (fun _ h9 => h9) rfl d_Mod_segment_158 ?_
        refine lv_iload hx hb d_Mod_segment_161 (lv_at hl 1 rfl) ?_
        refine lv_isub hx hb d_Mod_segment_163 ?_
        refine lv_topi (fun y9 e9 => ?_)
        obtain rfl : y9 = (nI j : Int32) := by rw [e9]; rw [pk_sub (by omega)]; congr 1; omega
        exact W.iret (v := nI j) hx hb hr_ (fun t ht hW => ⟨⟨nI j, ((M1, r1, j), un, ba), rfl, ⟨hfill, rfl, hq, hbj, hE1⟩, by rw [ht]; exact hP, va_K.moved hW.alike hK, hD⟩, hS.F ht⟩) hS.2.2 d_Mod_segment_164
      · exact absurd (nI_le (Nat.le_refl _) (by omega)) h1
    | succ c0 ih =>
      intro kk M1 r1 j un ba ls H locs hj hfill hq hbj hE1 hl hP hD hS
      have hjl : j ≤ 64 - uu := sg_le hq.1 hq.2.1
      refine lv_iload hx hb d_Mod_segment_39 (lv_at hl 0 rfl) ?_
      refine lv_iload hx hb d_Mod_segment_41 (lv_at hl 2 rfl) ?_
      refine lv_icmp_ge (tgt := 157) hx hb d_Mod_segment_43 rfl (fun h1 => ?_) (fun h1 => ?_)
      · exact absurd h1 (Int32.not_le.mpr (nI_lt (by omega) (by omega)))
      · refine lv_iload_n hx hb d_Mod_segment_46 rfl (lv_at hl 4 rfl) ?_
        refine lv_iload hx hb d_Mod_segment_47 (lv_at hl 0 rfl) ?_
        refine lv_iadd hx hb d_Mod_segment_49 ?_
        refine lv_aload_n hx hb d_Mod_segment_50 rfl (lv_at hl 5 rfl) ?_
        refine va_get (D := (dC, dI)) (ci := 1) (v := .int (nx + nI j)) (C := R_Mod) (T := F_Mod) (N := 8) hx hb hT in_Mod hown hK hP 0 rfl rfl 3 (by decide) (hT _ tw_185) (fun _ h9 => h9) rfl d_Mod_segment_51 ?_
        refine lv_isub hx hb d_Mod_segment_54 ?_
        refine lv_topi (fun d0 e_d0 => ?_)
        refine lv_istore hx hb d_Mod_segment_55 hl (by decide) rfl (fun ls hl => ?_)
        have hl : lv_has ls 8 [(7, .int d0), (6, .int (nI kk)), (5, .int (nI uu)), (4, .int (nI k)), (2, .long v), (1, .int n), (0, .ref g0)] := hl
        rw [sg_off] at e_d0
        have key : bx_near (nI uu) en lf (n + nI kk - nx) → M1.testBit (n + nI kk - nx).toNatClampNeg = false → ∃ D, d0 = nI D ∧ uu + j + D < 64 ∧ M1.testBit (j + D) = false ∧ (en = 0 ∨ nI (j + D) < lf) := fun a1 a2 => by
          obtain ⟨D, b1, b2, b3, b4, b5⟩ := sg_near huu hq.1 a1 a2
          exact ⟨D, by rw [e_d0]; exact b3, b2, b4, b5⟩
        refine lv_iload hx hb d_Mod_segment_57 (lv_at hl 0 rfl) ?_
        refine lv_if_lt (tgt := 151) hx hb d_Mod_segment_59 rfl (fun h2 => ?_) (fun h2 => ?_)
        · have hskip : bs_put ff uu nx en lf n v kk (M1, r1) = (M1, r1) := bs_skip (fun hn => by obtain ⟨D, b1, b2, b3, b4⟩ := key hn.1 hn.2; rw [b1] at h2; exact nI_pos (by omega) h2)
          refine lv_iinc (v := nI (kk + 1)) hx hb d_Mod_segment_151 hl (k := 1) rfl (by rw [← nI_1]; rfl) (by decide) rfl (fun ls hl => ?_)
          have hl : lv_has ls 8 [(6, .int (nI (kk + 1))), (7, .int d0), (5, .int (nI uu)), (4, .int (nI k)), (2, .long v), (1, .int n), (0, .ref g0)] := hl
          refine lv_goto (tgt := 39) hx hb d_Mod_segment_154 rfl ?_
          exact ih (kk + 1) M1 r1 j un ba ls H locs (by omega) (by show _ = bs_put _ _ _ _ _ _ _ _ _; rw [← hfill, hskip]) hq hbj hE1 (lv_sub hl [0, 2, 3, 4, 5, 6] rfl) hP hD hS
        · refine lv_iload hx hb d_Mod_segment_62 (lv_at hl 0 rfl) ?_
          refine lv_bipush (v := 64) hx hb d_Mod_segment_64 (by decide) ?_
          refine lv_aload_n hx hb d_Mod_segment_66 rfl (lv_at hl 6 rfl) ?_
          refine va_get (D := (dC, dI)) (ci := 1) (v := .int (nI (uu + j))) (C := R_Mod) (T := F_Mod) (N := 8) hx hb hT in_Mod hown hK hP 0 rfl rfl 4 (by decide) (hT _ tw_186) (fun _ h9 => h9) rfl d_Mod_segment_67 ?_
          refine lv_isub hx hb d_Mod_segment_70 ?_
          refine lv_icmp_ge (tgt := 151) hx hb d_Mod_segment_71 rfl (fun h3 => ?_) (fun h3 => ?_)
          · have hskip : bs_put ff uu nx en lf n v kk (M1, r1) = (M1, r1) := bs_skip (fun hn => by obtain ⟨D, b1, b2, b3, b4⟩ := key hn.1 hn.2; rw [b1, show (64 : Int32) = nI 64 from rfl, pk_sub (by omega), nI_leI (by omega) (by omega)] at h3; omega)
            refine lv_iinc (v := nI (kk + 1)) hx hb d_Mod_segment_151 hl (k := 1) rfl (by rw [← nI_1]; rfl) (by decide) rfl (fun ls hl => ?_)
            have hl : lv_has ls 8 [(6, .int (nI (kk + 1))), (7, .int d0), (5, .int (nI uu)), (4, .int (nI k)), (2, .long v), (1, .int n), (0, .ref g0)] := hl
            refine lv_goto (tgt := 39) hx hb d_Mod_segment_154 rfl ?_
            exact ih (kk + 1) M1 r1 j un ba ls H locs (by omega) (by show _ = bs_put _ _ _ _ _ _ _ _ _; rw [← hfill, hskip]) hq hbj hE1 (lv_sub hl [0, 2, 3, 4, 5, 6] rfl) hP hD hS
          · obtain ⟨D, hD31, rfl⟩ := nI_of h2
            have hDl : uu + j + D < 64 := by have h9 := Int32.not_le.mp h3; rw [show (64 : Int32) = nI 64 from rfl, pk_sub (by omega), nI_ltI hD31 (by omega)] at h9; omega
            have hbD : (M1 / 2 ^ j).testBit D = M1.testBit (j + D) := mb_div
            refine lv_aload_n hx hb d_Mod_segment_74 rfl (lv_at hl 6 rfl) ?_
            refine va_get (D := (dC, dI)) (ci := 1) (v := .ref gh) (C := R_Mod) (T := F_Mod) (N := 8) hx hb hT in_Mod hown hK hP 0 rfl rfl 2 (by decide) (hT _ tw_184) (fun _ h9 => h9) rfl d_Mod_segment_75 ?_
            refine lv_iload hx hb d_Mod_segment_78 (lv_at hl 0 rfl) ?_
            refine va_zald hx hb hK hP 3 2 rfl rfl (vp_in_nI (by omega) (by decide)) d_Mod_segment_80 ?_
            rw [nI_clamp (by omega)]
            refine lv_if_ne (tgt := 151) hx hb d_Mod_segment_81 rfl (fun h4 => ?_) (fun h4 => ?_)
            · have hskip : bs_put ff uu nx en lf n v kk (M1, r1) = (M1, r1) := bs_skip (fun hn => by obtain ⟨D, b1, b2, b3, b4⟩ := key hn.1 hn.2; have h12 := (nI_eq hD31 (by omega)).mp b1; refine h4 (hm_z.mpr ?_); rw [hbD, h12]; exact b3)
              refine lv_iinc (v := nI (kk + 1)) hx hb d_Mod_segment_151 hl (k := 1) rfl (by rw [← nI_1]; rfl) (by decide) rfl (fun ls hl => ?_)
              have hl : lv_has ls 8 [(6, .int (nI (kk + 1))), (7, .int (nI D)), (5, .int (nI uu)), (4, .int (nI k)), (2, .long v), (1, .int n), (0, .ref g0)] := hl
              refine lv_goto (tgt := 39) hx hb d_Mod_segment_154 rfl ?_
              exact ih (kk + 1) M1 r1 j un ba ls H locs (by omega) (by show _ = bs_put _ _ _ _ _ _ _ _ _; rw [← hfill, hskip]) hq hbj hE1 (lv_sub hl [0, 2, 3, 4, 5, 6] rfl) hP hD hS
            · have hbit : M1.testBit (j + D) = false := by rw [← hbD]; exact hm_z.mp h4
              refine lv_aload_n hx hb d_Mod_segment_84 rfl (lv_at hl 6 rfl) ?_
              refine va_get (D := (dC, dI)) (ci := 1) (v := .int en) (C := R_Mod) (T := F_Mod) (N := 8) hx hb hT in_Mod hown hK hP 0 rfl rfl 7 (by decide) (hT _ tw_189) (fun _ h9 => h9) rfl d_Mod_segment_85 ?_
              refine lv_if_eq (tgt := 108) hx hb d_Mod_segment_88 rfl (fun h5 => ?_) (fun h5 => ?_)
              · have hen : en = 0 ∨ nI (j + D) < lf := Or.inl h5
                obtain ⟨g1, g2⟩ := sg_mnear huu hDl e_d0.symm hen
                have htake : bs_put ff uu nx en lf n v kk (M1, r1) = (M1 ||| 2 ^ (j + D), upd r1 ((ff + uu + (j + D)) % 64) (bs_b v kk)) := bs_take (by omega) g1 (by rw [← g1]; exact g2) hbit
                refine lv_aload_n hx hb d_Mod_segment_108 rfl (lv_at hl 6 rfl) ?_
                refine va_get (D := (dC, dI)) (ci := 1) (v := .ref gh) (C := R_Mod) (T := F_Mod) (N := 8) hx hb hT in_Mod hown hK hP 0 rfl rfl 2 (by decide) (hT _ tw_184) (fun _ h9 => h9) rfl d_Mod_segment_109 ?_
                refine lv_iload hx hb d_Mod_segment_112 (lv_at hl 0 rfl) ?_
                refine lv_iconst (v := 1) hx hb d_Mod_segment_114 (by decide) ?_
                refine va_zast hx hb hK hP hD hS 3 2 rfl rfl (vp_in_nI (by omega) (by decide)) d_Mod_segment_115 (fun H locs hP hD hS => ?_)
                rw [nI_clamp hD31, hm_set, ← sg_or] at hP hD
                have hP : va_P (dC, dI) classes [(g0, .inr (1, [.ref gu, .ref gb, .ref gh, .int (nx + nI j), .int (nI (uu + j)), .int ex, .int 0, .int en])), (gu, .inl (cU, 64, .inl un)), (gb, .inl (cV, 64, .inl ba)), (gh, .inl (cZ, 64, .inl (hm ((M1 ||| 2 ^ (j + D)) / 2 ^ j))))] H := hP
                have hD : va_D A [(g0, .inr (1, [.ref gu, .ref gb, .ref gh, .int (nx + nI j), .int (nI (uu + j)), .int ex, .int 0, .int en])), (gu, .inl (cU, 64, .inl un)), (gb, .inl (cV, 64, .inl ba)), (gh, .inl (cZ, 64, .inl (hm ((M1 ||| 2 ^ (j + D)) / 2 ^ j))))] := hD
                refine lv_aload_n hx hb d_Mod_segment_116 rfl (lv_at hl 6 rfl) ?_
                refine va_get (D := (dC, dI)) (ci := 1) (v := .ref gb) (C := R_Mod) (T := F_Mod) (N := 8) hx hb hT in_Mod hown hK hP 0 rfl rfl 1 (by decide) (hT _ tw_183) (fun _ h9 => h9) rfl d_Mod_segment_117 ?_
                refine lv_iload hx hb d_Mod_segment_120 (lv_at hl 0 rfl) ?_
                refine lv_lload_n hx hb d_Mod_segment_122 rfl (lv_at hl 4 rfl) ?_
                refine lv_bipush (v := 8) hx hb d_Mod_segment_123 (by decide) ?_
                refine lv_iload hx hb d_Mod_segment_125 (lv_at hl 1 rfl) ?_
                refine lv_imul hx hb d_Mod_segment_127 ?_
                refine lv_lshr hx hb d_Mod_segment_128 rfl ?_
                refine lv_l2i hx hb d_Mod_segment_129 rfl ?_
                refine lv_sipush (v := 255) hx hb d_Mod_segment_130 (by decide) ?_
                refine lv_iand hx hb d_Mod_segment_133 ?_
                refine va_iast hx hb hK hP hD hS 2 1 rfl rfl (vp_in_nI (by omega) (by decide)) d_Mod_segment_134 (fun H locs hP hD hS => ?_)
                rw [nI_clamp hD31] at hP hD
                have hP : va_P (dC, dI) classes [(g0, .inr (1, [.ref gu, .ref gb, .ref gh, .int (nx + nI j), .int (nI (uu + j)), .int ex, .int 0, .int en])), (gu, .inl (cU, 64, .inl un)), (gb, .inl (cV, 64, .inl (upd ba D (md_b v kk)))), (gh, .inl (cZ, 64, .inl (hm ((M1 ||| 2 ^ (j + D)) / 2 ^ j))))] H := hP
                have hD : va_D A [(g0, .inr (1, [.ref gu, .ref gb, .ref gh, .int (nx + nI j), .int (nI (uu + j)), .int ex, .int 0, .int en])), (gu, .inl (cU, 64, .inl un)), (gb, .inl (cV, 64, .inl (upd ba D (md_b v kk)))), (gh, .inl (cZ, 64, .inl (hm ((M1 ||| 2 ^ (j + D)) / 2 ^ j))))] := hD
                refine ups (M1 ||| 2 ^ (j + D)) (upd r1 ((ff + uu + (j + D)) % 64) (bs_b v kk)) kk ?_ (64 - j) j un (upd ba D (md_b v kk)) ls H locs (by omega) (sg_put hq hff hDl hbit (md_bytes (by omega))) (lv_sub hl [1, 2, 3, 4, 5, 6] rfl) hP hD hS
                intro i un2 ba2 ls H locs hq2 hbi hl hP hD hS
                refine lv_iinc (v := nI (kk + 1)) hx hb d_Mod_segment_151 hl (k := 0) rfl (by rw [← nI_1]; rfl) (by decide) rfl (fun ls hl => ?_)
                have hl : lv_has ls 8 [(6, .int (nI (kk + 1))), (5, .int (nI uu)), (4, .int (nI k)), (2, .long v), (1, .int n), (0, .ref g0)] := hl
                refine lv_goto (tgt := 39) hx hb d_Mod_segment_154 rfl ?_
                refine ih (kk + 1) _ _ i un2 ba2 ls H locs (by omega) (by show _ = bs_put _ _ _ _ _ _ _ _ _; rw [← hfill, htake]) hq2 hbi (sg_Eput hE1 (fun ee h8 h9 => ?_)) (lv_sub hl [0, 1, 2, 3, 4, 5] rfl) hP hD hS
                rcases hen with h | h
                · exact absurd h h9
                · rcases hE1 with h7 | ⟨e7, c1, c2, c3, c4⟩
                  · exact absurd h7 h9
                  · have h10 : nI e7 = nI ee := c1.symm.trans h8
                    rw [c1] at h
                    rw [h10] at h
                    by_cases h11 : ee < 2 ^ 31
                    · exact (nI_ltI (by omega) h11).mp h
                    · omega
              · refine lv_iload hx hb d_Mod_segment_91 (lv_at hl 0 rfl) ?_
                refine lv_aload_n hx hb d_Mod_segment_93 rfl (lv_at hl 6 rfl) ?_
                refine va_get (D := (dC, dI)) (ci := 1) (v := .int ex) (C := R_Mod) (T := F_Mod) (N := 8) hx hb hT in_Mod hown hK hP 0 rfl rfl 5 (by decide) (hT _ tw_187) (fun _ h9 => h9) rfl d_Mod_segment_94 ?_
                refine lv_aload_n hx hb d_Mod_segment_97 rfl (lv_at hl 6 rfl) ?_
                refine va_get (D := (dC, dI)) (ci := 1) (v := .int (nx + nI j)) (C := R_Mod) (T := F_Mod) (N := 8) hx hb hT in_Mod hown hK hP 0 rfl rfl 3 (by decide) (hT _ tw_185) (fun _ h9 => h9) rfl d_Mod_segment_98 ?_
                refine lv_isub hx hb d_Mod_segment_101 ?_
                refine lv_icmp_lt (tgt := 108) hx hb d_Mod_segment_102 rfl (fun h6 => ?_) (fun h6 => ?_)
                · have hen : en = 0 ∨ nI (j + D) < lf := by rcases hE1 with h | ⟨ee, c1, c2, c3, c4⟩; exact Or.inl h; right; rw [c4, sg_end (sg_le hq.1 c3), nI_ltI hD31 (by omega)] at h6; rw [c1]; exact nI_lt (by omega) (by omega)
                  obtain ⟨g1, g2⟩ := sg_mnear huu hDl e_d0.symm hen
                  have htake : bs_put ff uu nx en lf n v kk (M1, r1) = (M1 ||| 2 ^ (j + D), upd r1 ((ff + uu + (j + D)) % 64) (bs_b v kk)) := bs_take (by omega) g1 (by rw [← g1]; exact g2) hbit
                  refine lv_aload_n hx hb d_Mod_segment_108 rfl (lv_at hl 6 rfl) ?_
                  refine va_get (D := (dC, dI)) (ci := 1) (v := .ref gh) (C := R_Mod) (T := F_Mod) (N := 8) hx hb hT in_Mod hown hK hP 0 rfl rfl 2 (by decide) (hT _ tw_184) (fun _ h9 => h9) rfl d_Mod_segment_109 ?_
                  refine lv_iload hx hb d_Mod_segment_112 (lv_at hl 0 rfl) ?_
                  refine lv_iconst (v := 1) hx hb d_Mod_segment_114 (by decide) ?_
                  refine va_zast hx hb hK hP hD hS 3 2 rfl rfl (vp_in_nI (by omega) (by decide)) d_Mod_segment_115 (fun H locs hP hD hS => ?_)
                  rw [nI_clamp hD31, hm_set, ← sg_or] at hP hD
                  have hP : va_P (dC, dI) classes [(g0, .inr (1, [.ref gu, .ref gb, .ref gh, .int (nx + nI j), .int (nI (uu + j)), .int ex, .int 0, .int en])), (gu, .inl (cU, 64, .inl un)), (gb, .inl (cV, 64, .inl ba)), (gh, .inl (cZ, 64, .inl (hm ((M1 ||| 2 ^ (j + D)) / 2 ^ j))))] H := hP
                  have hD : va_D A [(g0, .inr (1, [.ref gu, .ref gb, .ref gh, .int (nx + nI j), .int (nI (uu + j)), .int ex, .int 0, .int en])), (gu, .inl (cU, 64, .inl un)), (gb, .inl (cV, 64, .inl ba)), (gh, .inl (cZ, 64, .inl (hm ((M1 ||| 2 ^ (j + D)) / 2 ^ j))))] := hD
                  refine lv_aload_n hx hb d_Mod_segment_116 rfl (lv_at hl 6 rfl) ?_
                  refine va_get (D := (dC, dI)) (ci := 1) (v := .ref gb) (C := R_Mod) (T := F_Mod) (N := 8) hx hb hT in_Mod hown hK hP 0 rfl rfl 1 (by decide) (hT _ tw_183) (fun _ h9 => h9) rfl d_Mod_segment_117 ?_
                  refine lv_iload hx hb d_Mod_segment_120 (lv_at hl 0 rfl) ?_
                  refine lv_lload_n hx hb d_Mod_segment_122 rfl (lv_at hl 4 rfl) ?_
                  refine lv_bipush (v := 8) hx hb d_Mod_segment_123 (by decide) ?_
                  refine lv_iload hx hb d_Mod_segment_125 (lv_at hl 1 rfl) ?_
                  refine lv_imul hx hb d_Mod_segment_127 ?_
                  refine lv_lshr hx hb d_Mod_segment_128 rfl ?_
                  refine lv_l2i hx hb d_Mod_segment_129 rfl ?_
                  refine lv_sipush (v := 255) hx hb d_Mod_segment_130 (by decide) ?_
                  refine lv_iand hx hb d_Mod_segment_133 ?_
                  refine va_iast hx hb hK hP hD hS 2 1 rfl rfl (vp_in_nI (by omega) (by decide)) d_Mod_segment_134 (fun H locs hP hD hS => ?_)
                  rw [nI_clamp hD31] at hP hD
                  have hP : va_P (dC, dI) classes [(g0, .inr (1, [.ref gu, .ref gb, .ref gh, .int (nx + nI j), .int (nI (uu + j)), .int ex, .int 0, .int en])), (gu, .inl (cU, 64, .inl un)), (gb, .inl (cV, 64, .inl (upd ba D (md_b v kk)))), (gh, .inl (cZ, 64, .inl (hm ((M1 ||| 2 ^ (j + D)) / 2 ^ j))))] H := hP
                  have hD : va_D A [(g0, .inr (1, [.ref gu, .ref gb, .ref gh, .int (nx + nI j), .int (nI (uu + j)), .int ex, .int 0, .int en])), (gu, .inl (cU, 64, .inl un)), (gb, .inl (cV, 64, .inl (upd ba D (md_b v kk)))), (gh, .inl (cZ, 64, .inl (hm ((M1 ||| 2 ^ (j + D)) / 2 ^ j))))] := hD
                  refine ups (M1 ||| 2 ^ (j + D)) (upd r1 ((ff + uu + (j + D)) % 64) (bs_b v kk)) kk ?_ (64 - j) j un (upd ba D (md_b v kk)) ls H locs (by omega) (sg_put hq hff hDl hbit (md_bytes (by omega))) (lv_sub hl [1, 2, 3, 4, 5, 6] rfl) hP hD hS
                  intro i un2 ba2 ls H locs hq2 hbi hl hP hD hS
                  refine lv_iinc (v := nI (kk + 1)) hx hb d_Mod_segment_151 hl (k := 0) rfl (by rw [← nI_1]; rfl) (by decide) rfl (fun ls hl => ?_)
                  have hl : lv_has ls 8 [(6, .int (nI (kk + 1))), (5, .int (nI uu)), (4, .int (nI k)), (2, .long v), (1, .int n), (0, .ref g0)] := hl
                  refine lv_goto (tgt := 39) hx hb d_Mod_segment_154 rfl ?_
                  refine ih (kk + 1) _ _ i un2 ba2 ls H locs (by omega) (by show _ = bs_put _ _ _ _ _ _ _ _ _; rw [← hfill, htake]) hq2 hbi (sg_Eput hE1 (fun ee h8 h9 => ?_)) (lv_sub hl [0, 1, 2, 3, 4, 5] rfl) hP hD hS
                  rcases hen with h | h
                  · exact absurd h h9
                  · rcases hE1 with h7 | ⟨e7, c1, c2, c3, c4⟩
                    · exact absurd h7 h9
                    · have h10 : nI e7 = nI ee := c1.symm.trans h8
                      rw [c1] at h
                      rw [h10] at h
                      by_cases h11 : ee < 2 ^ 31
                      · exact (nI_ltI (by omega) h11).mp h
                      · omega
                · have hskip : bs_put ff uu nx en lf n v kk (M1, r1) = (M1, r1) := bs_skip (fun hn => by obtain ⟨D, b1, b2, b3, b4⟩ := key hn.1 hn.2; rcases hE1 with h | ⟨ee, c1, c2, c3, c4⟩; exact h5 h; rcases b4 with h | h; exact h5 h; refine h6 ?_; have hee := sg_le hq.1 c3; rw [c4, sg_end hee]; rw [c1, nI_ltI (by omega) (by omega)] at h; have h12 := (nI_eq hD31 (by omega)).mp b1; exact nI_lt (by omega) (by omega))
                  refine lv_goto (tgt := 151) hx hb d_Mod_segment_105 rfl ?_
                  refine lv_iinc (v := nI (kk + 1)) hx hb d_Mod_segment_151 hl (k := 1) rfl (by rw [← nI_1]; rfl) (by decide) rfl (fun ls hl => ?_)
                  have hl : lv_has ls 8 [(6, .int (nI (kk + 1))), (7, .int (nI D)), (5, .int (nI uu)), (4, .int (nI k)), (2, .long v), (1, .int n), (0, .ref g0)] := hl
                  refine lv_goto (tgt := 39) hx hb d_Mod_segment_154 rfl ?_
                  exact ih (kk + 1) M1 r1 j un ba ls H locs (by omega) (by show _ = bs_put _ _ _ _ _ _ _ _ _; rw [← hfill, hskip]) hq hbj hE1 (lv_sub hl [0, 2, 3, 4, 5, 6] rfl) hP hD hS
  refine lv_aload_n hx hb d_Mod_segment_0 rfl (lv_at hl 0 rfl) ?_
  refine lv_iload hx hb d_Mod_segment_1 (lv_at hl 3 rfl) ?_
  refine lv_if_lt (tgt := 13) hx hb d_Mod_segment_3 rfl (fun h1 => ?_) (fun h1 => ?_)
  · exact absurd h1 (nI_pos (by omega))
  · refine lv_iload hx hb d_Mod_segment_6 (lv_at hl 3 rfl) ?_
    refine lv_bipush (v := 8) hx hb d_Mod_segment_8 (by decide) ?_
    refine lv_icmp_le (tgt := 17) hx hb d_Mod_segment_10 rfl (fun h2 => ?_) (fun h2 => ?_)
    · refine lv_iconst (v := 0) hx hb d_Mod_segment_17 (by decide) ?_
      refine va_put (D := (dC, dI)) (ci := 1) (v := .int 0) (ty := .int) (C := R_Mod) (T := F_Mod) (N := 8) hx hb hT in_Mod t_Mod t_Mod_ok n_Mod hown hK hP hD hS 0 rfl rfl 6 (by decide) (hT _ tw_188) (fun _ h9 => h9) rfl (by decide +kernel) rfl rfl (Nat.le_of_ble_eq_true rfl) d_Mod_segment_18 (fun H locs hP hD hS => ?_)
      have hP : va_P (dC, dI) classes [(g0, .inr (1, [.ref gu, .ref gb, .ref gh, .int nx, .int (nI uu), .int ex, .int 0, .int en])), (gu, .inl (cU, 64, .inl un)), (gb, .inl (cV, 64, .inl ba)), (gh, .inl (cZ, 64, .inl (hm M)))] H := hP
      have hD : va_D A [(g0, .inr (1, [.ref gu, .ref gb, .ref gh, .int nx, .int (nI uu), .int ex, .int 0, .int en])), (gu, .inl (cU, 64, .inl un)), (gb, .inl (cV, 64, .inl ba)), (gh, .inl (cZ, 64, .inl (hm M)))] := hD
      refine lv_aload_n hx hb d_Mod_segment_21 rfl (lv_at hl 0 rfl) ?_
      refine va_get (D := (dC, dI)) (ci := 1) (v := .int 0) (C := R_Mod) (T := F_Mod) (N := 8) hx hb hT in_Mod hown hK hP 0 rfl rfl 6 (by decide) (hT _ tw_188) (fun _ h9 => h9) rfl d_Mod_segment_22 ?_
      refine lv_if_le (tgt := 30) hx hb d_Mod_segment_25 rfl (fun h3 => ?_) (fun h3 => ?_)
      · refine lv_aload_n hx hb d_Mod_segment_30 rfl (lv_at hl 0 rfl) ?_
        refine va_get (D := (dC, dI)) (ci := 1) (v := .int (nI uu)) (C := R_Mod) (T := F_Mod) (N := 8) hx hb hT in_Mod hown hK hP 0 rfl rfl 4 (by decide) (hT _ tw_186) (fun _ h9 => h9) rfl d_Mod_segment_31 ?_
        refine lv_istore hx hb d_Mod_segment_34 hl (by decide) rfl (fun ls hl => ?_)
        have hl : lv_has ls 8 [(5, .int (nI uu)), (0, .ref g0), (1, .int n), (2, .long v), (4, .int (nI k))] := hl
        refine lv_iconst (v := 0) hx hb d_Mod_segment_36 (by decide) ?_
        refine lv_istore hx hb d_Mod_segment_37 hl (by decide) rfl (fun ls hl => ?_)
        have hl : lv_has ls 8 [(6, .int 0), (5, .int (nI uu)), (0, .ref g0), (1, .int n), (2, .long v), (4, .int (nI k))] := hl
        have e0 : M / 2 ^ 0 = M := by rw [Nat.pow_zero, Nat.div_one]
        refine loop k 0 M rg 0 un ba ls H locs (by omega) rfl hQ hb00 hE (lv_sub hl [0, 1, 5, 4, 3, 2] rfl) ?_ ?_ hS
        · rw [e0, Nat.add_zero, show nx + nI 0 = nx from Int32.add_zero nx]; exact hP
        · rw [e0, Nat.add_zero, show nx + nI 0 = nx from Int32.add_zero nx]; exact hD
      · exact absurd (by decide) h3
    · exact absurd (nI_le (a := k) (b := 8) hk (by omega)) h2
end
section
/-! the law's three helpers -/
theorem kx_tab {l : List ExceptionTableEntry} {a b c d : Nat} (h : l.map (fun h => (h.startPc, h.endPc, h.handlerPc, h.catchType)) = [(a, b, c, d)]) : l = [⟨a, b, c, d⟩] := by
  match l, h with
  | [x], h =>
    obtain ⟨x1, x2, x3, x4⟩ := x
    simp at h
    obtain ⟨rfl, rfl, rfl, rfl⟩ := h
    rfl
theorem kx_ent {p : Program} {l : Launch} {y : MethodName} {S : Spec} {cc : ByteArray} {maxL : Nat} {ret : Option FieldType} {e : Env} {s : State} {m : MethodId} {args : Array Value} {below : List Frame} {meth : Method} {c : Code} {s₁ : State} {x1 x2 x3 x4 : Nat}
    (B : BodyLoose p l y S cc maxL ret e s m args below meth c s₁) (h : (Cond.codeWith y cc maxL ret [(x1, x2, x3, x4)]).before args s = true) : c.exceptionTable.toList = [⟨x1, x2, x3, x4⟩] := by
  obtain ⟨m2, meth2, c2, hn2, hm2, hc2, -, -, ht2, -, -, -⟩ := Cond.codeWith_spec h
  cases B.named.symm.trans hn2
  cases B.method.symm.trans hm2
  cases (Stand.of_body B).code.symm.trans hc2
  exact kx_tab ht2
set_option maxHeartbeats 4000000 in
set_option maxRecDepth 100000 in
/-- segment(x, n, v, k, out), k in 0..8 -/
theorem c_Law_segment_1 (l : Launch) (dC : Nat → ClassId) (dI : Nat → Nat → Nat) (h0 hr ho : Nat) (cB cL : ClassId) (ff uu : Nat) (nx : Int32) (M : Nat) (en lf : Int32) (rg : Nat → Int32) (of : Nat → Int64) (sz : Nat) (n : Int32) (v : Int64) (k : Nat) (hff : ff < 64) (huu : uu ≤ 64) (hk : k ≤ 8) (hM : M < 2 ^ 64) : Met l y_Law_segment w_Law_segment rm_3 (va_Pc [.ref h0, .int n, .long v, .int (nI k), .ref ho] (we dC dI sz [(h0, .inr (0, [.ref hr, .int (nI ff), .int (nI uu), .int nx, .long (lN M), .int en, .int lf])), (hr, .inl (cB, 64, .inl rg)), (ho, .inl (cL, 1, .inr (.inl of)))] [(cB, .byte), (cL, .long)])) (va_Qi (fun r (q : Nat × (Nat → Int32) × Nat) => r = 0 ∧ (q.1, q.2.1) = bs_fill ff uu nx en lf n v k (M, rg) ∧ q.1 < 2 ^ 64 ∧ (∀ i, i < q.2.2 → q.1.testBit i = true) ∧ q.1.testBit q.2.2 = false) (fun q => wz dC dI (va_A [(h0, .inr (0, [.ref hr, .int (nI ff), .int (nI uu), .int nx, .long (lN M), .int en, .int lf])), (hr, .inl (cB, 64, .inl rg)), (ho, .inl (cL, 1, .inr (.inl of)))] sz) [(h0, .inr (0, [.ref hr, .int (nI ff), .int (nI (uu + q.2.2)), .int (nx + nI q.2.2), .long (lN (q.1 / 2 ^ q.2.2)), .int en, .int (lf - nI q.2.2)])), (hr, .inl (cB, 64, .inl (q.2.1))), (ho, .inl (cL, 1, .inr (.inl (vp_updL of 0 (nI q.2.2).toInt64))))] [(cB, .byte), (cL, .long)]) (va_A [(h0, .inr (0, [.ref hr, .int (nI ff), .int (nI uu), .int nx, .long (lN M), .int en, .int lf])), (hr, .inl (cB, 64, .inl rg)), (ho, .inl (cL, 1, .inr (.inl of)))] sz)) 0 0 (va_A [(h0, .inr (0, [.ref hr, .int (nI ff), .int (nI uu), .int nx, .long (lN M), .int en, .int lf])), (hr, .inl (cB, 64, .inl rg)), (ho, .inl (cL, 1, .inr (.inl of)))] sz) := by
  refine va_MetW (cc := b_Law_segment) (maxL := 7) (ret := some .int) (hh := [(0, 13, 16, 13)]) (by decide) rfl ?_
  intro p e s m args below meth c s₁ B hml hv
  obtain ⟨rfl, hsz, hP, hK, hD0⟩ := hv
  have hx := B.exec
  have hb := B.bytes
  have hr_ := B.returns
  have hT : ∀ w ∈ tb, w.before _ s = true := fun w hw => atoms_spec (ws := w_Law_segment) B.pre w (List.mem_cons_of_mem _ hw)
  have hown : s.vm.findClass R_Law = some m.cls := findClass_of_methodNamed B.named
  have hlocks := B.notSynchronized
  subst hsz
  have hD := hD0.self (sz := s.heap.size)
  generalize hAe : va_A [(h0, .inr (0, [.ref hr, .int (nI ff), .int (nI uu), .int nx, .long (lN M), .int en, .int lf])), (hr, .inl (cB, 64, .inl rg)), (ho, .inl (cL, 1, .inr (.inl of)))] s.heap.size = A at hD ⊢
  have hA : ∀ q : Nat, s.heap.size ≤ q → A q := fun q h => by rw [← hAe]; exact Or.inr h
  have hS : va_S A s.heap s.heap [] := va_S.rf
  have hP : va_P (dC, dI) classes [(h0, .inr (0, [.ref hr, .int (nI ff), .int (nI uu), .int nx, .long (lN M), .int en, .int lf])), (hr, .inl (cB, 64, .inl rg)), (ho, .inl (cL, 1, .inr (.inl of)))] s.heap := hP
  have hl := lv_entry ([.ref h0, .int n, .long v, .int (nI k), .ref ho]) (n := 7) (Nat.le_of_ble_eq_true rfl)
  rw [lg_entry_eq]
  generalize (lg_sl ([.ref h0, .int n, .long v, .int (nI k), .ref ho]) ++ List.replicate (7 - (lg_sl ([.ref h0, .int n, .long v, .int (nI k), .ref ho])).length) Slot.unset).toArray = ls at hl ⊢
  have hl : lv_has ls 7 [(0, .ref h0), (1, .int n), (2, .long v), (4, .int (nI k)), (5, .ref ho)] := hl
  refine lv_aload hx hb d_Law_segment_0 (lv_at hl 4 rfl) ?_
  refine lv_iconst (v := 0) hx hb d_Law_segment_2 (by decide) ?_
  refine lv_aload_n hx hb d_Law_segment_3 rfl (lv_at hl 0 rfl) ?_
  refine lv_iload_n hx hb d_Law_segment_4 rfl (lv_at hl 1 rfl) ?_
  refine lv_lload_n hx hb d_Law_segment_5 rfl (lv_at hl 2 rfl) ?_
  refine lv_iload hx hb d_Law_segment_6 (lv_at hl 3 rfl) ?_
  have hPc := hP.sub (ws' := [(h0, .inr (0, [.ref hr, .int (nI ff), .int (nI uu), .int nx, .long (lN M), .int en, .int lf])), (hr, .inl (cB, 64, .inl rg))]) [0, 1] rfl
  have hDc := hD.sub (ws' := [(h0, .inr (0, [.ref hr, .int (nI ff), .int (nI uu), .int nx, .long (lN M), .int en, .int lf])), (hr, .inl (cB, 64, .inl rg))]) [0, 1] (by decide) rfl
  have hKc := hK.sub (tys' := [(cB, .byte)]) [0] rfl
  have hFc := va_free (wc := [(h0, .inr (0, [.ref hr, .int (nI ff), .int (nI uu), .int nx, .long (lN M), .int en, .int lf])), (hr, .inl (cB, 64, .inl rg))]) hD hS hA [0, 1] rfl
  refine va_calli (va_runV (As := [.int n, .long v, .int (nI k)]) (rest := [.int 0, .ref ho]) ⟨hx, hb, hml, hown, hT⟩ (c_Box_segment l dC dI h0 hr cB ff uu nx M en lf rg s.heap.size n v k hff huu hk hM) (cwV 3 hT (tb_wsV tw_63 tw_64 tw_65 tw_1 tw_66) rfl rfl rfl (by decide +kernel) ⟨Nat.le_of_ble_eq_true rfl, Nat.le_of_ble_eq_true rfl⟩) ⟨we_blind, va_recv hK hP (q0 := 0) rfl rfl, we_at hKc hPc hDc⟩ rfl rfl hl.1 rfl (lv_room (Nat.le_of_ble_eq_true rfl)) d_Law_segment_8 ⟨Nat.le_of_ble_eq_true rfl, Nat.le_of_ble_eq_true rfl⟩) hS (fun q _ h => hFc q h) hFc (fun r9 u9 t9 H1 locs ht hvm hw9 hB hz1 hk1 hS => ?_)
  obtain ⟨M1, r1, j⟩ := u9
  obtain ⟨g1, g2, rfl, g3, g4⟩ := hw9
  obtain ⟨hP1, hK1, hD1⟩ := hB
  rw [ht] at hP1
  have hK1 := va_K.moved hvm.symm hK1
  obtain ⟨hP, hD⟩ := va_join (wr := [(ho, .inl (cL, 1, .inr (.inl of)))]) (w1 := [(h0, .inr (0, [.ref hr, .int (nI ff), .int (nI (uu + j)), .int (nx + nI j), .long (lN (M1 / 2 ^ j)), .int en, .int (lf - nI j)])), (hr, .inl (cB, 64, .inl r1))]) hP hD [0, 1] [2] rfl rfl (by decide) (by decide) hk1 hFc hP1 hD1
  have hK := (hK.sub (tys' := [(cL, .long)]) [1] rfl).app hK1
  generalize H1 = H at hP hS ⊢
  have hP : va_P (dC, dI) classes [(ho, .inl (cL, 1, .inr (.inl of))), (h0, .inr (0, [.ref hr, .int (nI ff), .int (nI (uu + j)), .int (nx + nI j), .long (lN (M1 / 2 ^ j)), .int en, .int (lf - nI j)])), (hr, .inl (cB, 64, .inl r1))] H := hP
  have hD : va_D A [(ho, .inl (cL, 1, .inr (.inl of))), (h0, .inr (0, [.ref hr, .int (nI ff), .int (nI (uu + j)), .int (nx + nI j), .long (lN (M1 / 2 ^ j)), .int en, .int (lf - nI j)])), (hr, .inl (cB, 64, .inl r1))] := hD
  have hK : va_K (dC, dI) classes [(cL, .long), (cB, .byte)] s := hK
  refine lv_i2l hx hb d_Law_segment_11 rfl ?_
  refine va_last hx hb hK hP hD hS 0 0 rfl rfl (vp_in_nI (n := 0) (N := 1) (by omega) (by decide)) d_Law_segment_12 (fun H locs hP hD hS => ?_)
  rw [sb_cl0] at hP hD
  have hP : va_P (dC, dI) classes [(ho, .inl (cL, 1, .inr (.inl (vp_updL of 0 (nI j).toInt64)))), (h0, .inr (0, [.ref hr, .int (nI ff), .int (nI (uu + j)), .int (nx + nI j), .long (lN (M1 / 2 ^ j)), .int en, .int (lf - nI j)])), (hr, .inl (cB, 64, .inl r1))] H := hP
  have hD : va_D A [(ho, .inl (cL, 1, .inr (.inl (vp_updL of 0 (nI j).toInt64)))), (h0, .inr (0, [.ref hr, .int (nI ff), .int (nI (uu + j)), .int (nx + nI j), .long (lN (M1 / 2 ^ j)), .int en, .int (lf - nI j)])), (hr, .inl (cB, 64, .inl r1))] := hD
  refine lv_goto (tgt := 20) hx hb d_Law_segment_13 rfl ?_
  refine lv_iconst (v := 0) hx hb d_Law_segment_20 (by decide) ?_
  have hP := hP.sub (ws' := [(h0, .inr (0, [.ref hr, .int (nI ff), .int (nI (uu + j)), .int (nx + nI j), .long (lN (M1 / 2 ^ j)), .int en, .int (lf - nI j)])), (hr, .inl (cB, 64, .inl r1)), (ho, .inl (cL, 1, .inr (.inl (vp_updL of 0 (nI j).toInt64))))]) [1, 2, 0] rfl
  have hD := hD.sub (ws' := [(h0, .inr (0, [.ref hr, .int (nI ff), .int (nI (uu + j)), .int (nx + nI j), .long (lN (M1 / 2 ^ j)), .int en, .int (lf - nI j)])), (hr, .inl (cB, 64, .inl r1)), (ho, .inl (cL, 1, .inr (.inl (vp_updL of 0 (nI j).toInt64))))]) [1, 2, 0] (by decide) rfl
  have hK := hK.sub (tys' := [(cB, .byte), (cL, .long)]) [1, 0] rfl
  exact W.iret (v := 0) hx hb hr_ (fun t ht hW => ⟨⟨0, (M1, r1, j), rfl, ⟨rfl, g1, g2, g3, g4⟩, by rw [ht]; exact hP, va_K.moved hW.alike hK, hD⟩, hS.F ht⟩) hS.2.2 d_Law_segment_21
set_option maxHeartbeats 4000000 in
set_option maxRecDepth 100000 in
/-- told(x, k, out), k in 0..5 -/
theorem c_Law_told_1 (l : Launch) (dC : Nat → ClassId) (dI : Nat → Nat → Nat) (h0 hr ho : Nat) (cB cL : ClassId) (f u nx : Int32) (M : Nat) (en lf : Int32) (rg : Nat → Int32) (of : Nat → Int64) (sz : Nat) (k : Nat) (hk : k < 6) (hM : M < 2 ^ 64) : Met l y_Law_told w_Law_told rm_3 (va_Pc [.ref h0, .int (nI k), .ref ho] (we dC dI sz [(h0, .inr (0, [.ref hr, .int f, .int u, .int nx, .long (lN M), .int en, .int lf])), (hr, .inl (cB, 64, .inl rg)), (ho, .inl (cL, 1, .inr (.inl of)))] [(cB, .byte), (cL, .long)])) (va_Qi (fun r (_ : Unit) => r = 0) (fun _ => wz dC dI (va_A [(h0, .inr (0, [.ref hr, .int f, .int u, .int nx, .long (lN M), .int en, .int lf])), (hr, .inl (cB, 64, .inl rg)), (ho, .inl (cL, 1, .inr (.inl of)))] sz) [(h0, .inr (0, [.ref hr, .int f, .int u, .int nx, .long (lN M), .int en, .int lf])), (hr, .inl (cB, 64, .inl rg)), (ho, .inl (cL, 1, .inr (.inl (vp_updL of 0 (bx_told u nx M en k).toInt64))))] [(cB, .byte), (cL, .long)]) (va_A [(h0, .inr (0, [.ref hr, .int f, .int u, .int nx, .long (lN M), .int en, .int lf])), (hr, .inl (cB, 64, .inl rg)), (ho, .inl (cL, 1, .inr (.inl of)))] sz)) 0 0 (va_A [(h0, .inr (0, [.ref hr, .int f, .int u, .int nx, .long (lN M), .int en, .int lf])), (hr, .inl (cB, 64, .inl rg)), (ho, .inl (cL, 1, .inr (.inl of)))] sz) := by
  refine va_MetW (cc := b_Law_told) (maxL := 4) (ret := some .int) (hh := [(0, 9, 12, 13)]) (by decide) rfl ?_
  intro p e s m args below meth c s₁ B hml hv
  obtain ⟨rfl, hsz, hP, hK, hD0⟩ := hv
  have hx := B.exec
  have hb := B.bytes
  have hr_ := B.returns
  have hT : ∀ w ∈ tb, w.before _ s = true := fun w hw => atoms_spec (ws := w_Law_told) B.pre w (List.mem_cons_of_mem _ hw)
  have hown : s.vm.findClass R_Law = some m.cls := findClass_of_methodNamed B.named
  have hlocks := B.notSynchronized
  subst hsz
  have hD := hD0.self (sz := s.heap.size)
  generalize hAe : va_A [(h0, .inr (0, [.ref hr, .int f, .int u, .int nx, .long (lN M), .int en, .int lf])), (hr, .inl (cB, 64, .inl rg)), (ho, .inl (cL, 1, .inr (.inl of)))] s.heap.size = A at hD ⊢
  have hA : ∀ q : Nat, s.heap.size ≤ q → A q := fun q h => by rw [← hAe]; exact Or.inr h
  have hS : va_S A s.heap s.heap [] := va_S.rf
  have hP : va_P (dC, dI) classes [(h0, .inr (0, [.ref hr, .int f, .int u, .int nx, .long (lN M), .int en, .int lf])), (hr, .inl (cB, 64, .inl rg)), (ho, .inl (cL, 1, .inr (.inl of)))] s.heap := hP
  have hl := lv_entry ([.ref h0, .int (nI k), .ref ho]) (n := 4) (Nat.le_of_ble_eq_true rfl)
  rw [lg_entry_eq]
  generalize (lg_sl ([.ref h0, .int (nI k), .ref ho]) ++ List.replicate (4 - (lg_sl ([.ref h0, .int (nI k), .ref ho])).length) Slot.unset).toArray = ls at hl ⊢
  have hl : lv_has ls 4 [(0, .ref h0), (1, .int (nI k)), (2, .ref ho)] := hl
  refine lv_aload_n hx hb d_Law_told_0 rfl (lv_at hl 2 rfl) ?_
  refine lv_iconst (v := 0) hx hb d_Law_told_1 (by decide) ?_
  refine lv_aload_n hx hb d_Law_told_2 rfl (lv_at hl 0 rfl) ?_
  refine lv_iload_n hx hb d_Law_told_3 rfl (lv_at hl 1 rfl) ?_
  have hPc := hP.sub (ws' := [(h0, .inr (0, [.ref hr, .int f, .int u, .int nx, .long (lN M), .int en, .int lf])), (hr, .inl (cB, 64, .inl rg))]) [0, 1] rfl
  have hKc := hK.sub (tys' := [(cB, .byte)]) [0] rfl
  refine vp_callSi (W.runV (As := [.int (nI k)]) (rest := [.int 0, .ref ho]) ⟨hx, hb, hml, hown, hT⟩ (c_Box_told l dC dI h0 hr cB f u nx M en lf rg k hk hM) (cwV 1 hT (tb_wsV tw_136 tw_137 tw_138 tw_1 tw_139) rfl rfl rfl (by decide +kernel) ⟨Nat.le_of_ble_eq_true rfl, Nat.le_of_ble_eq_true rfl⟩) ⟨wd_blind, va_recv hK hP (q0 := 0) rfl rfl, wd_at hKc hPc⟩ rfl rfl hl.1 rfl (lv_room (Nat.le_of_ble_eq_true rfl)) d_Law_told_4 ⟨Nat.le_of_ble_eq_true rfl, Nat.le_of_ble_eq_true rfl⟩) (fun r9 hr9 => ?_)
  subst hr9
  refine lv_i2l hx hb d_Law_told_7 rfl ?_
  refine va_last hx hb hK hP hD hS 2 1 rfl rfl (vp_in_nI (n := 0) (N := 1) (by omega) (by decide)) d_Law_told_8 (fun H locs hP hD hS => ?_)
  rw [sb_cl0] at hP hD
  have hP : va_P (dC, dI) classes [(h0, .inr (0, [.ref hr, .int f, .int u, .int nx, .long (lN M), .int en, .int lf])), (hr, .inl (cB, 64, .inl rg)), (ho, .inl (cL, 1, .inr (.inl (vp_updL of 0 (bx_told u nx M en k).toInt64))))] H := hP
  have hD : va_D A [(h0, .inr (0, [.ref hr, .int f, .int u, .int nx, .long (lN M), .int en, .int lf])), (hr, .inl (cB, 64, .inl rg)), (ho, .inl (cL, 1, .inr (.inl (vp_updL of 0 (bx_told u nx M en k).toInt64))))] := hD
  refine lv_goto (tgt := 15) hx hb d_Law_told_9 rfl ?_
  refine lv_iconst (v := 0) hx hb d_Law_told_15 (by decide) ?_
  exact W.iret (v := 0) hx hb hr_ (fun t ht hW => ⟨⟨0, (), rfl, rfl, by rw [ht]; exact hP, va_K.moved hW.alike hK, hD⟩, hS.F ht⟩) hS.2.2 d_Law_told_16
set_option maxHeartbeats 4000000 in
set_option maxRecDepth 100000 in
/-- block(x, k, many, out), k a block -/
theorem c_Law_block_1 (l : Launch) (dC : Nat → ClassId) (dI : Nat → Nat → Nat) (h0 hr ho : Nat) (cB cL : ClassId) (f u nx : Int32) (M : Nat) (en lf : Int32) (rg : Nat → Int32) (of : Nat → Int64) (sz : Nat) (k : Nat) (mb : Int32) (hM : M < 2 ^ 64) (hk : k < cn (bg M).testBit 64) : Met l y_Law_block w_Law_block rm_3 (va_Pc [.ref h0, .int (nI k), .int mb, .ref ho] (we dC dI sz [(h0, .inr (0, [.ref hr, .int f, .int u, .int nx, .long (lN M), .int en, .int lf])), (hr, .inl (cB, 64, .inl rg)), (ho, .inl (cL, 1, .inr (.inl of)))] [(cB, .byte), (cL, .long)])) (va_Qi (fun r (q : Int32) => r = 0 ∧ ∃ d, d < 64 ∧ (bg M).testBit d = true ∧ cn (bg M).testBit d = k ∧ ((mb = 0 ∧ q = nx + nI d) ∨ (¬ mb = 0 ∧ ∃ n, q = nI n ∧ bk_run M d n))) (fun q => wz dC dI (va_A [(h0, .inr (0, [.ref hr, .int f, .int u, .int nx, .long (lN M), .int en, .int lf])), (hr, .inl (cB, 64, .inl rg)), (ho, .inl (cL, 1, .inr (.inl of)))] sz) [(h0, .inr (0, [.ref hr, .int f, .int u, .int nx, .long (lN M), .int en, .int lf])), (hr, .inl (cB, 64, .inl rg)), (ho, .inl (cL, 1, .inr (.inl (vp_updL of 0 q.toInt64))))] [(cB, .byte), (cL, .long)]) (va_A [(h0, .inr (0, [.ref hr, .int f, .int u, .int nx, .long (lN M), .int en, .int lf])), (hr, .inl (cB, 64, .inl rg)), (ho, .inl (cL, 1, .inr (.inl of)))] sz)) 0 0 (va_A [(h0, .inr (0, [.ref hr, .int f, .int u, .int nx, .long (lN M), .int en, .int lf])), (hr, .inl (cB, 64, .inl rg)), (ho, .inl (cL, 1, .inr (.inl of)))] sz) := by
  refine va_MetW (cc := b_Law_block) (maxL := 5) (ret := some .int) (hh := [(0, 10, 13, 23)]) (by decide) rfl ?_
  intro p e s m args below meth c s₁ B hml hv
  obtain ⟨rfl, hsz, hP, hK, hD0⟩ := hv
  have hx := B.exec
  have hb := B.bytes
  have hr_ := B.returns
  have hT : ∀ w ∈ tb, w.before _ s = true := fun w hw => atoms_spec (ws := w_Law_block) B.pre w (List.mem_cons_of_mem _ hw)
  have hown : s.vm.findClass R_Law = some m.cls := findClass_of_methodNamed B.named
  have hlocks := B.notSynchronized
  subst hsz
  have hD := hD0.self (sz := s.heap.size)
  generalize hAe : va_A [(h0, .inr (0, [.ref hr, .int f, .int u, .int nx, .long (lN M), .int en, .int lf])), (hr, .inl (cB, 64, .inl rg)), (ho, .inl (cL, 1, .inr (.inl of)))] s.heap.size = A at hD ⊢
  have hA : ∀ q : Nat, s.heap.size ≤ q → A q := fun q h => by rw [← hAe]; exact Or.inr h
  have hS : va_S A s.heap s.heap [] := va_S.rf
  have hP : va_P (dC, dI) classes [(h0, .inr (0, [.ref hr, .int f, .int u, .int nx, .long (lN M), .int en, .int lf])), (hr, .inl (cB, 64, .inl rg)), (ho, .inl (cL, 1, .inr (.inl of)))] s.heap := hP
  have hl := lv_entry ([.ref h0, .int (nI k), .int mb, .ref ho]) (n := 5) (Nat.le_of_ble_eq_true rfl)
  rw [lg_entry_eq]
  generalize (lg_sl ([.ref h0, .int (nI k), .int mb, .ref ho]) ++ List.replicate (5 - (lg_sl ([.ref h0, .int (nI k), .int mb, .ref ho])).length) Slot.unset).toArray = ls at hl ⊢
  have hl : lv_has ls 5 [(0, .ref h0), (1, .int (nI k)), (2, .int mb), (3, .ref ho)] := hl
  refine lv_aload_n hx hb d_Law_block_0 rfl (lv_at hl 3 rfl) ?_
  refine lv_iconst (v := 0) hx hb d_Law_block_1 (by decide) ?_
  refine lv_aload_n hx hb d_Law_block_2 rfl (lv_at hl 0 rfl) ?_
  refine lv_iload_n hx hb d_Law_block_3 rfl (lv_at hl 1 rfl) ?_
  refine lv_iload_n hx hb d_Law_block_4 rfl (lv_at hl 2 rfl) ?_
  have hPc := hP.sub (ws' := [(h0, .inr (0, [.ref hr, .int f, .int u, .int nx, .long (lN M), .int en, .int lf])), (hr, .inl (cB, 64, .inl rg))]) [0, 1] rfl
  have hKc := hK.sub (tys' := [(cB, .byte)]) [0] rfl
  refine vp_callSi (W.runV (As := [.int (nI k), .int mb]) (rest := [.int 0, .ref ho]) ⟨hx, hb, hml, hown, hT⟩ (c_Box_block l dC dI h0 hr cB f u nx M en lf rg k mb hM hk) (cwV 2 hT (tb_wsV tw_157 tw_158 tw_159 tw_1 tw_160) rfl rfl rfl (by decide +kernel) ⟨Nat.le_of_ble_eq_true rfl, Nat.le_of_ble_eq_true rfl⟩) ⟨wd_blind, va_recv hK hP (q0 := 0) rfl rfl, wd_at hKc hPc⟩ rfl rfl hl.1 rfl (lv_room (Nat.le_of_ble_eq_true rfl)) d_Law_block_5 ⟨Nat.le_of_ble_eq_true rfl, Nat.le_of_ble_eq_true rfl⟩) (fun r9 hr9 => ?_)
  refine lv_i2l hx hb d_Law_block_8 rfl ?_
  refine va_last hx hb hK hP hD hS 2 1 rfl rfl (vp_in_nI (n := 0) (N := 1) (by omega) (by decide)) d_Law_block_9 (fun H locs hP hD hS => ?_)
  rw [sb_cl0] at hP hD
  have hP : va_P (dC, dI) classes [(h0, .inr (0, [.ref hr, .int f, .int u, .int nx, .long (lN M), .int en, .int lf])), (hr, .inl (cB, 64, .inl rg)), (ho, .inl (cL, 1, .inr (.inl (vp_updL of 0 r9.toInt64))))] H := hP
  have hD : va_D A [(h0, .inr (0, [.ref hr, .int f, .int u, .int nx, .long (lN M), .int en, .int lf])), (hr, .inl (cB, 64, .inl rg)), (ho, .inl (cL, 1, .inr (.inl (vp_updL of 0 r9.toInt64))))] := hD
  refine lv_goto (tgt := 17) hx hb d_Law_block_10 rfl ?_
  refine lv_iconst (v := 0) hx hb d_Law_block_17 (by decide) ?_
  exact W.iret (v := 0) hx hb hr_ (fun t ht hW => ⟨⟨0, r9, rfl, ⟨rfl, hr9⟩, by rw [ht]; exact hP, va_K.moved hW.alike hK, hD⟩, hS.F ht⟩) hS.2.2 d_Law_block_18
set_option maxHeartbeats 4000000 in
set_option maxRecDepth 100000 in
/-- segment(x, n, v, k, out), k not in 0..8 -/
theorem c_Law_segment_0 (l : Launch) (hfl : l.stackTraces = false) (dC : Nat → ClassId) (dI : Nat → Nat → Nat) (h0 hr ho : Nat) (cB cL : ClassId) (f u nx : Int32) (M : Nat) (en lf : Int32) (rg : Nat → Int32) (of : Nat → Int64) (sz : Nat) (n : Int32) (v : Int64) (k : Int32) (hk : k < 0 ∨ 8 < k) : Met l y_Law_segment w_Law_segment rm_u (va_Pc [.ref h0, .int n, .long v, .int k, .ref ho] (fun U => th_ok th_IA U ∧ we dC dI sz [(h0, .inr (0, [.ref hr, .int f, .int u, .int nx, .long (lN M), .int en, .int lf])), (hr, .inl (cB, 64, .inl rg)), (ho, .inl (cL, 1, .inr (.inl of)))] [(cB, .byte), (cL, .long)] U)) (va_Qi (fun r (_ : Unit) => r = 1) (fun _ => wz dC dI (va_A [(h0, .inr (0, [.ref hr, .int f, .int u, .int nx, .long (lN M), .int en, .int lf])), (hr, .inl (cB, 64, .inl rg)), (ho, .inl (cL, 1, .inr (.inl of)))] sz) [(h0, .inr (0, [.ref hr, .int f, .int u, .int nx, .long (lN M), .int en, .int lf])), (hr, .inl (cB, 64, .inl rg)), (ho, .inl (cL, 1, .inr (.inl of)))] [(cB, .byte), (cL, .long)]) (va_A [(h0, .inr (0, [.ref hr, .int f, .int u, .int nx, .long (lN M), .int en, .int lf])), (hr, .inl (cB, 64, .inl rg)), (ho, .inl (cL, 1, .inr (.inl of)))] sz)) 1 6 (va_A [(h0, .inr (0, [.ref hr, .int f, .int u, .int nx, .long (lN M), .int en, .int lf])), (hr, .inl (cB, 64, .inl rg)), (ho, .inl (cL, 1, .inr (.inl of)))] sz) := by
  refine va_MetW (cc := b_Law_segment) (maxL := 7) (ret := some .int) (hh := [(0, 13, 16, 13)]) (by decide) rfl ?_
  intro p e s m args below meth c s₁ B hml hv0
  obtain ⟨hv1, hth, hv2⟩ := hv0
  have hv : _ ∧ _ := ⟨hv1, hv2⟩
  have htab := kx_ent B (atoms_spec (ws := w_Law_segment) B.pre _ List.mem_cons_self)
  obtain ⟨rfl, hsz, hP, hK, hD0⟩ := hv
  have hx := B.exec
  have hb := B.bytes
  have hr_ := B.returns
  have hT : ∀ w ∈ tb, w.before _ s = true := fun w hw => atoms_spec (ws := w_Law_segment) B.pre w (List.mem_cons_of_mem _ hw)
  have hown : s.vm.findClass R_Law = some m.cls := findClass_of_methodNamed B.named
  have hlocks := B.notSynchronized
  subst hsz
  have hD := hD0.self (sz := s.heap.size)
  generalize hAe : va_A [(h0, .inr (0, [.ref hr, .int f, .int u, .int nx, .long (lN M), .int en, .int lf])), (hr, .inl (cB, 64, .inl rg)), (ho, .inl (cL, 1, .inr (.inl of)))] s.heap.size = A at hD ⊢
  have hA : ∀ q : Nat, s.heap.size ≤ q → A q := fun q h => by rw [← hAe]; exact Or.inr h
  have hS : va_S A s.heap s.heap [] := va_S.rf
  have hP : va_P (dC, dI) classes [(h0, .inr (0, [.ref hr, .int f, .int u, .int nx, .long (lN M), .int en, .int lf])), (hr, .inl (cB, 64, .inl rg)), (ho, .inl (cL, 1, .inr (.inl of)))] s.heap := hP
  have hl := lv_entry ([.ref h0, .int n, .long v, .int k, .ref ho]) (n := 7) (Nat.le_of_ble_eq_true rfl)
  rw [lg_entry_eq]
  generalize (lg_sl ([.ref h0, .int n, .long v, .int k, .ref ho]) ++ List.replicate (7 - (lg_sl ([.ref h0, .int n, .long v, .int k, .ref ho])).length) Slot.unset).toArray = ls at hl ⊢
  have hl : lv_has ls 7 [(0, .ref h0), (1, .int n), (2, .long v), (4, .int k), (5, .ref ho)] := hl
  refine lv_aload hx hb d_Law_segment_0 (lv_at hl 4 rfl) ?_
  refine lv_iconst (v := 0) hx hb d_Law_segment_2 (by decide) ?_
  refine lv_aload_n hx hb d_Law_segment_3 rfl (lv_at hl 0 rfl) ?_
  refine lv_iload_n hx hb d_Law_segment_4 rfl (lv_at hl 1 rfl) ?_
  refine lv_lload_n hx hb d_Law_segment_5 rfl (lv_at hl 2 rfl) ?_
  refine lv_iload hx hb d_Law_segment_6 (lv_at hl 3 rfl) ?_
  have hPc := hP.sub (ws' := [(h0, .inr (0, [.ref hr, .int f, .int u, .int nx, .long (lN M), .int en, .int lf])), (hr, .inl (cB, 64, .inl rg))]) [0, 1] rfl
  have hKc := hK.sub (tys' := [(cB, .byte)]) [0] rfl
  refine kx_runVT (X := th_IA) (As := [.int n, .long v, .int k]) (rest := [.int 0, .ref ho]) ⟨hx, hb, hml, hown, hT⟩ (c_Box_segment_T l hfl dC dI h0 hr cB f u nx M en lf rg n v k hk) (cwV 3 hT (tb_wsV tw_63 tw_64 tw_65 tw_1 tw_66) rfl rfl rfl (by decide +kernel) ⟨Nat.le_of_ble_eq_true rfl, Nat.le_of_ble_eq_true rfl⟩) ⟨wt_blind, va_recv hK hP (q0 := 0) rfl rfl, wt_at hth (fun _ _ => rfl) hKc hPc⟩ rfl hl.1 rfl (lv_room (Nat.le_of_ble_eq_true rfl)) d_Law_segment_8 ⟨Nat.le_of_ble_eq_true rfl, Nat.le_of_ble_eq_true rfl⟩ htab (by decide) (by decide) (hT _ tw_62) (fun x9 H hz hk1 => ?_)
  refine W.eq (g2 := F0 m 16 ls [.ref x9]) rfl ?_
  have hP := hP.kept (H1 := H) (fun k9 q9 h9 => hk1 q9.1 (hP k9 q9 h9).lt)
  have hS : va_S A s.heap H [] := ⟨hz, fun q h1 _ => hk1 q h1, fun _ h => by cases h⟩
  refine lv_astore hx hb d_Law_segment_16 hl (by decide) rfl (fun ls hl => ?_)
  have hl : lv_has ls 7 [(6, .ref x9), (0, .ref h0), (1, .int n), (2, .long v), (4, .int k), (5, .ref ho)] := hl
  refine lv_iconst (v := 1) hx hb d_Law_segment_18 (by decide) ?_
  exact W.iret (v := 1) hx hb hr_ (fun t ht hW => ⟨⟨1, (), rfl, rfl, by rw [ht]; exact hP, va_K.moved hW.alike hK, hD⟩, hS.F ht⟩) hS.2.2 d_Law_segment_19
set_option maxHeartbeats 4000000 in
set_option maxRecDepth 100000 in
/-- told(x, k, out) beyond 0..5 -/
theorem c_Law_told_0 (l : Launch) (hfl : l.stackTraces = false) (dC : Nat → ClassId) (dI : Nat → Nat → Nat) (h0 hr ho : Nat) (cB cL : ClassId) (f u nx : Int32) (M : Nat) (en lf : Int32) (rg : Nat → Int32) (of : Nat → Int64) (sz : Nat) (k : Int32) (hk : k.toInt < 0 ∨ 5 < k.toInt) : Met l y_Law_told w_Law_told rm_u (va_Pc [.ref h0, .int k, .ref ho] (fun U => th_ok th_IA U ∧ we dC dI sz [(h0, .inr (0, [.ref hr, .int f, .int u, .int nx, .long (lN M), .int en, .int lf])), (hr, .inl (cB, 64, .inl rg)), (ho, .inl (cL, 1, .inr (.inl of)))] [(cB, .byte), (cL, .long)] U)) (va_Qi (fun r (_ : Unit) => r = 1) (fun _ => wz dC dI (va_A [(h0, .inr (0, [.ref hr, .int f, .int u, .int nx, .long (lN M), .int en, .int lf])), (hr, .inl (cB, 64, .inl rg)), (ho, .inl (cL, 1, .inr (.inl of)))] sz) [(h0, .inr (0, [.ref hr, .int f, .int u, .int nx, .long (lN M), .int en, .int lf])), (hr, .inl (cB, 64, .inl rg)), (ho, .inl (cL, 1, .inr (.inl of)))] [(cB, .byte), (cL, .long)]) (va_A [(h0, .inr (0, [.ref hr, .int f, .int u, .int nx, .long (lN M), .int en, .int lf])), (hr, .inl (cB, 64, .inl rg)), (ho, .inl (cL, 1, .inr (.inl of)))] sz)) 1 6 (va_A [(h0, .inr (0, [.ref hr, .int f, .int u, .int nx, .long (lN M), .int en, .int lf])), (hr, .inl (cB, 64, .inl rg)), (ho, .inl (cL, 1, .inr (.inl of)))] sz) := by
  refine va_MetW (cc := b_Law_told) (maxL := 4) (ret := some .int) (hh := [(0, 9, 12, 13)]) (by decide) rfl ?_
  intro p e s m args below meth c s₁ B hml hv0
  obtain ⟨hv1, hth, hv2⟩ := hv0
  have hv : _ ∧ _ := ⟨hv1, hv2⟩
  have htab := kx_ent B (atoms_spec (ws := w_Law_told) B.pre _ List.mem_cons_self)
  obtain ⟨rfl, hsz, hP, hK, hD0⟩ := hv
  have hx := B.exec
  have hb := B.bytes
  have hr_ := B.returns
  have hT : ∀ w ∈ tb, w.before _ s = true := fun w hw => atoms_spec (ws := w_Law_told) B.pre w (List.mem_cons_of_mem _ hw)
  have hown : s.vm.findClass R_Law = some m.cls := findClass_of_methodNamed B.named
  have hlocks := B.notSynchronized
  subst hsz
  have hD := hD0.self (sz := s.heap.size)
  generalize hAe : va_A [(h0, .inr (0, [.ref hr, .int f, .int u, .int nx, .long (lN M), .int en, .int lf])), (hr, .inl (cB, 64, .inl rg)), (ho, .inl (cL, 1, .inr (.inl of)))] s.heap.size = A at hD ⊢
  have hA : ∀ q : Nat, s.heap.size ≤ q → A q := fun q h => by rw [← hAe]; exact Or.inr h
  have hS : va_S A s.heap s.heap [] := va_S.rf
  have hP : va_P (dC, dI) classes [(h0, .inr (0, [.ref hr, .int f, .int u, .int nx, .long (lN M), .int en, .int lf])), (hr, .inl (cB, 64, .inl rg)), (ho, .inl (cL, 1, .inr (.inl of)))] s.heap := hP
  have hl := lv_entry ([.ref h0, .int k, .ref ho]) (n := 4) (Nat.le_of_ble_eq_true rfl)
  rw [lg_entry_eq]
  generalize (lg_sl ([.ref h0, .int k, .ref ho]) ++ List.replicate (4 - (lg_sl ([.ref h0, .int k, .ref ho])).length) Slot.unset).toArray = ls at hl ⊢
  have hl : lv_has ls 4 [(0, .ref h0), (1, .int k), (2, .ref ho)] := hl
  refine lv_aload_n hx hb d_Law_told_0 rfl (lv_at hl 2 rfl) ?_
  refine lv_iconst (v := 0) hx hb d_Law_told_1 (by decide) ?_
  refine lv_aload_n hx hb d_Law_told_2 rfl (lv_at hl 0 rfl) ?_
  refine lv_iload_n hx hb d_Law_told_3 rfl (lv_at hl 1 rfl) ?_
  have hPc := hP.sub (ws' := [(h0, .inr (0, [.ref hr, .int f, .int u, .int nx, .long (lN M), .int en, .int lf])), (hr, .inl (cB, 64, .inl rg))]) [0, 1] rfl
  have hKc := hK.sub (tys' := [(cB, .byte)]) [0] rfl
  refine kx_runVT (X := th_IA) (As := [.int k]) (rest := [.int 0, .ref ho]) ⟨hx, hb, hml, hown, hT⟩ (c_Box_told_T l hfl dC dI h0 hr cB f u nx M en lf rg k hk) (cwV 1 hT (tb_wsV tw_136 tw_137 tw_138 tw_1 tw_139) rfl rfl rfl (by decide +kernel) ⟨Nat.le_of_ble_eq_true rfl, Nat.le_of_ble_eq_true rfl⟩) ⟨wt_blind, va_recv hK hP (q0 := 0) rfl rfl, wt_at hth (fun _ _ => rfl) hKc hPc⟩ rfl hl.1 rfl (lv_room (Nat.le_of_ble_eq_true rfl)) d_Law_told_4 ⟨Nat.le_of_ble_eq_true rfl, Nat.le_of_ble_eq_true rfl⟩ htab (by decide) (by decide) (hT _ tw_62) (fun x9 H hz hk1 => ?_)
  refine W.eq (g2 := F0 m 12 ls [.ref x9]) rfl ?_
  have hP := hP.kept (H1 := H) (fun k9 q9 h9 => hk1 q9.1 (hP k9 q9 h9).lt)
  have hS : va_S A s.heap H [] := ⟨hz, fun q h1 _ => hk1 q h1, fun _ h => by cases h⟩
  refine lv_astore_n hx hb d_Law_told_12 rfl hl (by decide) rfl (fun ls hl => ?_)
  have hl : lv_has ls 4 [(3, .ref x9), (0, .ref h0), (1, .int k), (2, .ref ho)] := hl
  refine lv_iconst (v := 1) hx hb d_Law_told_13 (by decide) ?_
  exact W.iret (v := 1) hx hb hr_ (fun t ht hW => ⟨⟨1, (), rfl, rfl, by rw [ht]; exact hP, va_K.moved hW.alike hK, hD⟩, hS.F ht⟩) hS.2.2 d_Law_told_14
set_option maxHeartbeats 4000000 in
set_option maxRecDepth 100000 in
/-- block(x, k, many, out), k no block -/
theorem c_Law_block_0 (l : Launch) (hfl : l.stackTraces = false) (dC : Nat → ClassId) (dI : Nat → Nat → Nat) (h0 hr ho : Nat) (cB cL : ClassId) (f u nx : Int32) (M : Nat) (en lf : Int32) (rg : Nat → Int32) (of : Nat → Int64) (sz : Nat) (k mb : Int32) (hM : M < 2 ^ 64) (hk : k < 0 ∨ nI (cn (bg M).testBit 64) ≤ k) : Met l y_Law_block w_Law_block rm_u (va_Pc [.ref h0, .int k, .int mb, .ref ho] (fun U => th_ok th_IO U ∧ we dC dI sz [(h0, .inr (0, [.ref hr, .int f, .int u, .int nx, .long (lN M), .int en, .int lf])), (hr, .inl (cB, 64, .inl rg)), (ho, .inl (cL, 1, .inr (.inl of)))] [(cB, .byte), (cL, .long)] U)) (va_Qi (fun r (_ : Unit) => r = 1) (fun _ => wz dC dI (va_A [(h0, .inr (0, [.ref hr, .int f, .int u, .int nx, .long (lN M), .int en, .int lf])), (hr, .inl (cB, 64, .inl rg)), (ho, .inl (cL, 1, .inr (.inl of)))] sz) [(h0, .inr (0, [.ref hr, .int f, .int u, .int nx, .long (lN M), .int en, .int lf])), (hr, .inl (cB, 64, .inl rg)), (ho, .inl (cL, 1, .inr (.inl of)))] [(cB, .byte), (cL, .long)]) (va_A [(h0, .inr (0, [.ref hr, .int f, .int u, .int nx, .long (lN M), .int en, .int lf])), (hr, .inl (cB, 64, .inl rg)), (ho, .inl (cL, 1, .inr (.inl of)))] sz)) 1 6 (va_A [(h0, .inr (0, [.ref hr, .int f, .int u, .int nx, .long (lN M), .int en, .int lf])), (hr, .inl (cB, 64, .inl rg)), (ho, .inl (cL, 1, .inr (.inl of)))] sz) := by
  refine va_MetW (cc := b_Law_block) (maxL := 5) (ret := some .int) (hh := [(0, 10, 13, 23)]) (by decide) rfl ?_
  intro p e s m args below meth c s₁ B hml hv0
  obtain ⟨hv1, hth, hv2⟩ := hv0
  have hv : _ ∧ _ := ⟨hv1, hv2⟩
  have htab := kx_ent B (atoms_spec (ws := w_Law_block) B.pre _ List.mem_cons_self)
  obtain ⟨rfl, hsz, hP, hK, hD0⟩ := hv
  have hx := B.exec
  have hb := B.bytes
  have hr_ := B.returns
  have hT : ∀ w ∈ tb, w.before _ s = true := fun w hw => atoms_spec (ws := w_Law_block) B.pre w (List.mem_cons_of_mem _ hw)
  have hown : s.vm.findClass R_Law = some m.cls := findClass_of_methodNamed B.named
  have hlocks := B.notSynchronized
  subst hsz
  have hD := hD0.self (sz := s.heap.size)
  generalize hAe : va_A [(h0, .inr (0, [.ref hr, .int f, .int u, .int nx, .long (lN M), .int en, .int lf])), (hr, .inl (cB, 64, .inl rg)), (ho, .inl (cL, 1, .inr (.inl of)))] s.heap.size = A at hD ⊢
  have hA : ∀ q : Nat, s.heap.size ≤ q → A q := fun q h => by rw [← hAe]; exact Or.inr h
  have hS : va_S A s.heap s.heap [] := va_S.rf
  have hP : va_P (dC, dI) classes [(h0, .inr (0, [.ref hr, .int f, .int u, .int nx, .long (lN M), .int en, .int lf])), (hr, .inl (cB, 64, .inl rg)), (ho, .inl (cL, 1, .inr (.inl of)))] s.heap := hP
  have hl := lv_entry ([.ref h0, .int k, .int mb, .ref ho]) (n := 5) (Nat.le_of_ble_eq_true rfl)
  rw [lg_entry_eq]
  generalize (lg_sl ([.ref h0, .int k, .int mb, .ref ho]) ++ List.replicate (5 - (lg_sl ([.ref h0, .int k, .int mb, .ref ho])).length) Slot.unset).toArray = ls at hl ⊢
  have hl : lv_has ls 5 [(0, .ref h0), (1, .int k), (2, .int mb), (3, .ref ho)] := hl
  refine lv_aload_n hx hb d_Law_block_0 rfl (lv_at hl 3 rfl) ?_
  refine lv_iconst (v := 0) hx hb d_Law_block_1 (by decide) ?_
  refine lv_aload_n hx hb d_Law_block_2 rfl (lv_at hl 0 rfl) ?_
  refine lv_iload_n hx hb d_Law_block_3 rfl (lv_at hl 1 rfl) ?_
  refine lv_iload_n hx hb d_Law_block_4 rfl (lv_at hl 2 rfl) ?_
  have hPc := hP.sub (ws' := [(h0, .inr (0, [.ref hr, .int f, .int u, .int nx, .long (lN M), .int en, .int lf])), (hr, .inl (cB, 64, .inl rg))]) [0, 1] rfl
  have hKc := hK.sub (tys' := [(cB, .byte)]) [0] rfl
  refine kx_runVT (X := th_IO) (As := [.int k, .int mb]) (rest := [.int 0, .ref ho]) ⟨hx, hb, hml, hown, hT⟩ (c_Box_block_T l hfl dC dI h0 hr cB f u nx M en lf rg k mb hM hk) (cwV 2 hT (tb_wsV tw_157 tw_158 tw_159 tw_1 tw_160) rfl rfl rfl (by decide +kernel) ⟨Nat.le_of_ble_eq_true rfl, Nat.le_of_ble_eq_true rfl⟩) ⟨wt_blind, va_recv hK hP (q0 := 0) rfl rfl, wt_at hth (fun _ _ => rfl) hKc hPc⟩ rfl hl.1 rfl (lv_room (Nat.le_of_ble_eq_true rfl)) d_Law_block_5 ⟨Nat.le_of_ble_eq_true rfl, Nat.le_of_ble_eq_true rfl⟩ htab (by decide) (by decide) (hT _ tw_156) (fun x9 H hz hk1 => ?_)
  refine W.eq (g2 := F0 m 13 ls [.ref x9]) rfl ?_
  have hP := hP.kept (H1 := H) (fun k9 q9 h9 => hk1 q9.1 (hP k9 q9 h9).lt)
  have hS : va_S A s.heap H [] := ⟨hz, fun q h1 _ => hk1 q h1, fun _ h => by cases h⟩
  refine lv_astore hx hb d_Law_block_13 hl (by decide) rfl (fun ls hl => ?_)
  have hl : lv_has ls 5 [(4, .ref x9), (0, .ref h0), (1, .int k), (2, .int mb), (3, .ref ho)] := hl
  refine lv_iconst (v := 1) hx hb d_Law_block_15 (by decide) ?_
  exact W.iret (v := 1) hx hb hr_ (fun t ht hW => ⟨⟨1, (), rfl, rfl, by rw [ht]; exact hP, va_K.moved hW.alike hK, hD⟩, hS.F ht⟩) hS.2.2 d_Law_block_16
end
section
/-! what holds between the law's turns; starts of the helpers that may throw -/
def lw_I (ff uu : Nat) (nx en lf ex : Int32) (M : Nat) (rg un ba : Nat → Int32) : Prop := ff < 64 ∧ uu ≤ 64 ∧ sg_Q ff uu M rg 0 un ba ∧ M.testBit 0 = false ∧ sg_E uu nx en lf ex M
theorem lw_I.lt {ff uu : Nat} {nx en lf ex : Int32} {M : Nat} {rg un ba : Nat → Int32} (h : lw_I ff uu nx en lf ex M rg un ba) : M < 2 ^ 64 := sg_64 h.2.2.1.2.1
theorem lw_open (nx lf ex : Int32) (rg un ba : Nat → Int32) : lw_I 0 0 nx 0 lf ex 0 rg un ba :=
  ⟨by decide, by decide, ⟨lt_0, by decide, lt_0, fun d h => by rw [Nat.zero_testBit] at h; cases h⟩, Nat.zero_testBit 0, Or.inl rfl⟩
theorem lw_seg {ff uu : Nat} {nx en lf ex : Int32} {M1 j : Nat} {r1 un ba : Nat → Int32} (hff : ff < 64) (hq : sg_Q ff uu M1 r1 j un ba) (hb : M1.testBit j = false) (hE : sg_E uu nx en lf ex M1) (huu : uu ≤ 64) :
    lw_I ff (uu + j) (nx + nI j) en (lf - nI j) ex (M1 / 2 ^ j) r1 un ba := by
  have hj : j ≤ 64 - uu := sg_le hq.1 hq.2.1
  have hdiv : ∀ {a : Nat}, j ≤ a → M1 < 2 ^ a → M1 / 2 ^ j < 2 ^ (a - j) := fun {a} h1 h2 => Nat.div_lt_of_lt_mul (by rw [← wb_pw h1]; exact h2)
  refine ⟨hff, by omega, ⟨lt_0, ?_, fun a ha => ?_, fun d hd => ?_⟩, by rw [mb_div, Nat.add_zero]; exact hb, ?_⟩
  · have := hdiv hj hq.2.1
    rwa [show 64 - uu - j = 64 - (uu + j) by omega] at this
  · exact hq.2.2.1 a (by omega)
  · rw [Nat.zero_add, mb_div] at hd
    rw [hq.2.2.2 d hd, show ff + (uu + j) + 0 + d = ff + uu + j + d by omega]
  · rcases hE with h | ⟨ee, h1, h2, h3, h4⟩
    · exact Or.inl h
    · have hje := sg_le hq.1 h3
      refine Or.inr ⟨ee - j, by rw [h1, pk_sub hje], by omega, hdiv hje h3, ?_⟩
      rw [h4, Int32.add_assoc, nI_add, Nat.add_sub_cancel' hje]
theorem lw_end {ff uu : Nat} {nx en lf ex n : Int32} {M : Nat} {rg un ba : Nat → Int32} (h : lw_I ff uu nx en lf ex M rg un ba) (he : bx_ends (nI uu) en M (n - nx)) : lw_I ff uu nx 1 (n - nx) n M rg un ba := by
  obtain ⟨h1, h2, h3, h4, -⟩ := h
  obtain ⟨-, e2, e3, e4⟩ := he
  refine ⟨h1, h2, h3, h4, Or.inr ?_⟩
  obtain ⟨d, hd, ed⟩ := nI_of e2
  rw [ed] at e3 e4 ⊢
  rw [show (64 : Int32) = nI 64 from rfl, pk_sub h2, nI_leI hd (by omega)] at e3
  rw [nI_clamp hd] at e4
  refine ⟨d, rfl, e3, ?_, ?_⟩
  · have h9 := mb_none.mpr e4
    rcases Nat.lt_or_ge M (2 ^ d) with h | h
    · exact h
    · have := Nat.div_pos h (Nat.two_pow_pos d)
      omega
  · rw [← ed, Int32.add_comm, Int32.sub_add_cancel]
theorem lw_read {ff uu : Nat} {nx en lf ex : Int32} {M : Nat} {rg un ba : Nat → Int32} (h : lw_I ff (uu + 1) nx en lf ex M rg un ba) : lw_I ((ff + 1) % 64) uu nx en lf ex M rg (md_sh un uu) ba := by
  obtain ⟨h1, h2, ⟨a1, a2, a3, a4⟩, h4, h5⟩ := h
  refine ⟨Nat.mod_lt _ (by decide), by omega, ⟨lt_0, Nat.lt_of_lt_of_le a2 (Nat.pow_le_pow_right (by decide) (by omega)), fun a ha => ?_, fun d hd => ?_⟩, h4, ?_⟩
  · unfold md_sh
    rw [if_pos (by omega), a3 (a + 1) (by omega), show (ff + (a + 1)) % 64 = ((ff + 1) % 64 + a) % 64 by omega]
  · have := a4 d hd
    rw [this, show (ff + (uu + 1) + 0 + d) % 64 = ((ff + 1) % 64 + uu + 0 + d) % 64 by omega]
  · rcases h5 with h | ⟨ee, e1, e2, e3, e4⟩
    · exact Or.inl h
    · exact Or.inr ⟨ee, e1, by omega, e3, e4⟩
theorem lw_read0 {ff uu : Nat} {nx en lf ex : Int32} {M : Nat} {rg un ba : Nat → Int32} (h : lw_I ff uu nx en lf ex M rg un ba) : (¬ en = 0 ∧ lf = 0) ↔ (¬ en = 0 ∧ nx = ex) := by
  obtain ⟨-, -, -, -, h5⟩ := h
  rcases h5 with h | ⟨ee, e1, e2, e3, e4⟩
  · simp [h]
  · have k1 : lf = 0 ↔ ee = 0 := by rw [e1]; exact nI_eq (b := 0) (by omega) (by omega)
    have k2 : nx = ex ↔ ee = 0 := by
      rw [e4]
      constructor
      · intro h
        have h9 : nI ee = nI 0 := by
          have : nx + nI ee - nx = nx - nx := by rw [← h]
          rw [Int32.add_comm, Int32.add_sub_cancel, Int32.sub_self] at this
          exact this
        exact (nI_eq (by omega) (by omega)).mp h9
      · intro h; rw [h]; exact (Int32.add_zero nx).symm
    rw [k1, k2]
theorem lw_byte {ff uu : Nat} {nx en lf ex : Int32} {M : Nat} {rg un ba : Nat → Int32} (h : lw_I ff (uu + 1) nx en lf ex M rg un ba) : un 0 = rg ff &&& 255 := by
  obtain ⟨h1, -, ⟨-, -, a3, -⟩, -, -⟩ := h
  rw [a3 0 (by omega), Nat.add_zero, Nat.mod_eq_of_lt h1]
theorem lw_ones {M a b : Nat} (ha : ∀ i, i < a → M.testBit i = true) (ha2 : M.testBit a = false) (hb : ∀ i, i < b → M.testBit i = true) (hb2 : M.testBit b = false) : a = b := by
  rcases Nat.lt_trichotomy a b with h | h | h
  · rw [hb a h] at ha2; cases ha2
  · exact h
  · rw [ha b h] at hb2; cases hb2
theorem lw_blk {M k : Nat} {nx mb a b : Int32} (ha : ∃ d, d < 64 ∧ (bg M).testBit d = true ∧ cn (bg M).testBit d = k ∧ ((mb = 0 ∧ a = nx + nI d) ∨ (¬ mb = 0 ∧ ∃ n, a = nI n ∧ bk_run M d n)))
    (hb : ∃ d, d < 64 ∧ (bg M).testBit d = true ∧ cn (bg M).testBit d = k ∧ ((mb = 0 ∧ b = nx + nI d) ∨ (¬ mb = 0 ∧ ∃ n, b = nI n ∧ bk_run M d n))) : a = b := by
  obtain ⟨d, -, p1, p2, p3⟩ := ha
  obtain ⟨d', -, q1, q2, q3⟩ := hb
  obtain rfl := cn_uniq p1 q1 (p2.trans q2.symm)
  rcases p3 with ⟨z1, z2⟩ | ⟨z1, n, z2, z3⟩
  · rcases q3 with ⟨y1, y2⟩ | ⟨y1, -⟩
    · rw [z2, y2]
    · exact absurd z1 y1
  · rcases q3 with ⟨y1, -⟩ | ⟨-, n', y2, y3⟩
    · exact absurd y1 z1
    · rw [z2, y2, bk_run_uniq z3 y3]
theorem lw_gt {a L : Nat} (ha : a < 2 ^ 30) (hL : L < 2 ^ 30) : nI L - 5 < nI a ↔ L < a + 5 := by
  rw [Int32.lt_iff_toInt_lt, show (5 : Int32) = nI 5 from rfl, pk_sub_toInt hL (by omega), nI_toInt (by omega)]
  omega
theorem wv_blind {dC : Nat → ClassId} {dI : Nat → Nat → Nat} {X : String} {sz : Nat} {ws : va_W} {tys : List (ClassId × FieldType)} {av : List Value} : FrameBlind (va_Pc av (fun U => th_ok X U ∧ we dC dI sz ws tys U)) := fun a U g mk q => ⟨q.1, th_calling q.2.1, (we_blind (av := av) a U g mk ⟨q.1, q.2.2⟩).2⟩
theorem wv_at {dC : Nat → ClassId} {dI : Nat → Nat → Nat} {X : String} {ws : va_W} {tys : List (ClassId × FieldType)} {s : State} {H : Heap} {A : Nat → Prop} {av : List Value} (ho : th_ok X s) (hh : ∀ q : Nat, q < s.heap.size → H[q]? = s.heap[q]?) (hK : va_K (dC, dI) classes tys s) (hP : va_P (dC, dI) classes ws H) (hD : va_D A ws) : ∀ U : State, U.heap = H → s.WarmedH U.vm → va_Pc av (fun U => th_ok X U ∧ we dC dI H.size ws tys U) av.toArray U := fun U hU hW => ⟨rfl, th_move hW (by rw [hU]; exact hh) ho, (we_at (av := av) hK hP hD U hU hW).2⟩
end
section
/-! the law: the skeleton's words, then the walk -/
/-! THE CLAIM OUT OF ONE WALK OF THE LAW'S BODY. Your part is whole_start (and what it stands on); all else here is the same for every law, but numbers. -/
def R_law : String := "SegmentBoxLaw"
def lw_P (b : Addr) (xs : List Int32) (args : Array Value) (s : State) : Prop := args = #[.ref b] ∧ s.IntsAt b xs ∧ xs.length ≤ 2560 ∧ (Jvm.Cond.and given_1 narrow_1).before args s = true
def lw_Q (_ : Array Value) (s : State) (o : Outcome) (t : State) : Prop := o = .returned (some (.int 1)) ∧ Framed s o t [] 1034 8482
def lw_Z (below : List Frame) (a : Array Value) (s : State) : State → Prop := fun t => ∃ o, t.status = .running ∧ Ended t below o ∧ lw_Q a s o t
/-- the law's own end, with 1 on the stack, nothing written that was there before, its room as the claim has it -/
theorem lw_ret {p : Program} {l : Launch} {e : Env} {s : State} {m : MethodId} {below : List Frame} {meth : Method} {c : Code} {b : Nat} (hx : p.tables.exec = Jvm.exec) (hb : c.code = code) (hr : meth.sig.returnType = ret) (hlocks : meth.locks = false) {pc : Nat} {H : Heap} {ls : Array Slot} (hdg : decode code pc = .ok (.ireturn, 1)) : W p l e room_1 s m #[Value.ref b] below meth c H [] 1034 8482 (lw_Z below #[Value.ref b] s) (F0 m pc ls [.int 1]) := by
  intro T hT X
  obtain ⟨fs, hret, hrun, hended, hW, hframe⟩ := X.leave (v := some (.int 1)) (hlocks := hlocks) (fun h => by rw [hr] at h; cases h)
  have hmeth' : T.vm.method? m = some meth := X.method'
  refine ⟨T.setFrames fs, ?_, .returned (some (.int 1)), hrun, hended, rfl, ⟨_, rfl⟩, hW, hframe⟩
  jvm_step X.here [X.here.top, hx, hb, hdg, hmeth', hr, ret, narrow_b1]
  (try refine ⟨rfl, ?_⟩); (try refine ⟨rfl, ?_⟩)
  first | (intro acts; rw [hret _ acts rfl rfl rfl]) | rw [hret _ _ rfl rfl rfl]
  exact Steps.refl _
/-- what holds at the law's entry: the machine, the code, the tables' words (any of lw_tbl by 'hts w (by decide +kernel)'), the script of L ints xs at the cell b, what the Statement gives of the start (any of its parts by flat_of_before) -/
def lw_At (p : Program) (s : State) (m : MethodId) (meth : Method) (c : Code) (b L : Nat) (xs : Nat → Int32) : Prop :=
  p.tables.exec = Jvm.exec ∧ c.code = code ∧ meth.sig.returnType = ret ∧ c.maxLocals = 7 ∧ s.vm.findClass R_law = some m.cls ∧ (∀ w ∈ lw_tbl, w.before #[Value.ref b] s = true) ∧ va_X b L xs s s.heap ∧ b < s.heap.size ∧ meth.locks = false ∧ (Jvm.Cond.and given_1 narrow_1).before #[Value.ref b] s = true
theorem lw_t5 {x : Int32} (h : x < 0 ∨ 5 < x) : x.toInt < 0 ∨ 5 < x.toInt := by
  rw [Int32.lt_iff_toInt_lt, Int32.lt_iff_toInt_lt, show (0 : Int32).toInt = 0 by decide, show (5 : Int32).toInt = 5 by decide] at h
  exact h
set_option maxHeartbeats 40000000 in
set_option maxRecDepth 100000 in
/-- from the entry, for every script of at most 2560 ints, the law comes to its end with true; the launch keeps no stack traces -/
theorem law_start {p : Program} {e : Env} {s : State} {m : MethodId} {below : List Frame} {meth : Method} {c : Code} (l : Launch) (hfl : l.stackTraces = false) {b L : Nat} {xs : Nat → Int32} (hL : L ≤ 2560) (C0 : lw_At p s m meth c b L xs) : W p l e room_1 s m #[Value.ref b] below meth c s.heap [] 0 0 (lw_Z below #[Value.ref b] s) (entryFrame m ([Value.ref b] : List Value).toArray 7) := by
  obtain ⟨hx, hb, hr_, hml, hown, hts, hX, hbl, hlocks, hgv⟩ := C0
  have hT : ∀ w ∈ tb, w.before #[Value.ref b] s = true := fun w hw => hts w (tb_in hw)
  have hTT : ∀ (i : Nat) (w : Cond), tables_1[i]? = some w → w.before #[Value.ref b] s = true := fun i w h => hts w (List.mem_append_right _ (List.mem_of_getElem? h))
  have hfb := flat_of_before _ hgv
  have hth_IA : th_ok th_IA s := th_of (A := #[Value.ref b]) (fun w hw => by
    simp only [th_bad, List.mem_cons, List.not_mem_nil, or_false] at hw
    rcases hw with rfl | rfl | rfl | rfl | rfl | rfl | rfl | rfl
    · exact hTT 69 _ rfl
    · exact hTT 70 _ rfl
    · exact hTT 72 _ rfl
    · exact hTT 74 _ rfl
    · exact hTT 94 _ rfl
    · exact hTT 96 _ rfl
    · exact hfb _ (by decide +kernel)
    · exact hfb _ (by decide +kernel))
  have hth_IO : th_ok th_IO s := th_of (A := #[Value.ref b]) (fun w hw => by
    simp only [th_bad, List.mem_cons, List.not_mem_nil, or_false] at hw
    rcases hw with rfl | rfl | rfl | rfl | rfl | rfl | rfl | rfl
    · exact hTT 163 _ rfl
    · exact hTT 70 _ rfl
    · exact hTT 72 _ rfl
    · exact hTT 74 _ rfl
    · exact hTT 94 _ rfl
    · exact hTT 96 _ rfl
    · exact hfb _ (by decide +kernel)
    · exact hfb _ (by decide +kernel))
  obtain ⟨c1, i1, k1⟩ := u_known hT in_Box (hT (.instantiable R_Box 7) tw_9)
  obtain ⟨c2, i2, k2⟩ := u_known hT in_Mod (hT (.instantiable R_Mod 8) tw_177)
  obtain ⟨dC, dI, hK⟩ : ∃ (dC : Nat → ClassId) (dI : Nat → Nat → Nat), va_K (dC, dI) classes [] s := ⟨fun k => match k with | 0 => c1 | _ => c2, fun k => match k with | 0 => i1 | _ => i2, fun c q hq => by
    match c, hq with
    | 0, hq => cases hq; exact k1
    | 1, hq => cases hq; exact k2
    | n + 2, hq => simp at hq, fun k q h => by simp at h⟩
  obtain ⟨A, hAe⟩ : ∃ A : Nat → Prop, A = fun q => s.heap.size ≤ q := ⟨_, rfl⟩
  have hA : ∀ q : Nat, s.heap.size ≤ q → A q := fun q h => by rw [hAe]; exact h
  have hbA : ¬ A b := by rw [hAe]; exact Nat.not_le.mpr hbl
  have hS : va_S A s.heap s.heap [] := va_S.rf
  have hP : va_P (dC, dI) classes [] s.heap := fun k q h => by simp at h
  have hD : va_D A [] := ⟨fun i j p q h => by simp at h, fun k q h => by simp at h⟩
  have hl := lv_entry ([.ref b]) (n := 7) (Nat.le_of_ble_eq_true rfl)
  rw [lg_entry_eq]
  generalize (lg_sl ([.ref b]) ++ List.replicate (7 - (lg_sl ([.ref b])).length) Slot.unset).toArray = ls at hl ⊢
  have hl : lv_has ls 7 [(0, .ref b)] := hl
  refine va_new (D := (dC, dI)) (ci := 0) (fs := [.null, .int 0, .int 0, .int 0, .long 0, .int 0, .int 0]) (C := R_Box) (T := F_Box) (N := 7) hx hb hT in_Box t_Box t_Box_ok hown (hT _ tw_8) (hT _ tw_9) (hT _ tw_1) hK hP hD hS hA rfl (fun j hj => by rcases (show j = 0 ∨ j = 1 ∨ j = 2 ∨ j = 3 ∨ j = 4 ∨ j = 5 ∨ j = 6 by omega) with rfl | rfl | rfl | rfl | rfl | rfl | rfl <;> rfl) (Nat.le_of_ble_eq_true rfl) (Nat.le_of_ble_eq_true rfl) d_Law_law_0 (fun h0 H hP hD hS => ?_)
  have hP : va_P (dC, dI) classes [(h0, .inr (0, [.null, .int 0, .int 0, .int 0, .long 0, .int 0, .int 0]))] H := hP
  have hD : va_D A [(h0, .inr (0, [.null, .int 0, .int 0, .int 0, .long 0, .int 0, .int 0]))] := hD
  refine lv_dup hx hb d_Law_law_3 rfl ?_
  have hPc := hP.sub (ws' := [(h0, .inr (0, [.null, .int 0, .int 0, .int 0, .long 0, .int 0, .int 0]))]) [0] rfl
  have hDc := hD.sub (ws' := [(h0, .inr (0, [.null, .int 0, .int 0, .int 0, .long 0, .int 0, .int 0]))]) [0] (by decide) rfl
  have hKc := hK.sub (tys' := []) [] rfl
  have hFc := va_free (wc := [(h0, .inr (0, [.null, .int 0, .int 0, .int 0, .long 0, .int 0, .int 0]))]) hD hS hA [0] rfl
  refine va_callv (va_runI (As := []) (rest := [.ref h0]) ⟨hx, hb, hml, hown, hT⟩ (c_Box_init l dC dI h0 H.size) (cwI 0 hT (tb_good (tb_cons tw_12)) rfl rfl rfl (hT _ tw_1) (hT _ tw_10) (hT _ tw_11) rfl (by decide +kernel) ⟨(Nat.le_of_ble_eq_true rfl), (Nat.le_of_ble_eq_true rfl)⟩) ⟨we_blind, we_at hKc hPc hDc⟩ rfl rfl hl.1 rfl (lv_room (Nat.le_of_ble_eq_true rfl)) d_Law_law_4 ⟨(Nat.le_of_ble_eq_true rfl), (Nat.le_of_ble_eq_true rfl)⟩) hS (fun q _ h => hFc q h) hFc (fun u9 t9 H1 locs ht hvm hw9 hB hz1 hk1 hS => ?_)
  obtain ⟨hr, cB⟩ := u9
  obtain ⟨hP1, hK1, hD1⟩ := hB
  rw [ht] at hP1
  have hK1 := va_K.moved hvm.symm hK1
  obtain ⟨hP, hD⟩ := va_join (wr := []) (w1 := [(h0, .inr (0, [.ref hr, .int 0, .int 0, .int 0, .long 0, .int 0, .int 0])), (hr, .inl (cB, 64, .inl (fun _ => 0)))]) hP hD [0] [] rfl rfl (by decide) (by decide) hk1 hFc hP1 hD1
  have hK := (hK.sub (tys' := []) [] rfl).app hK1
  generalize H1 = H at hP hS ⊢
  have hP : va_P (dC, dI) classes [(h0, .inr (0, [.ref hr, .int 0, .int 0, .int 0, .long 0, .int 0, .int 0])), (hr, .inl (cB, 64, .inl (fun _ => 0)))] H := hP
  have hD : va_D A [(h0, .inr (0, [.ref hr, .int 0, .int 0, .int 0, .long 0, .int 0, .int 0])), (hr, .inl (cB, 64, .inl (fun _ => 0)))] := hD
  have hK : va_K (dC, dI) classes [(cB, .byte)] s := hK
  refine lv_astore_n hx hb d_Law_law_7 rfl hl (by decide) rfl (fun ls hl => ?_)
  have hl : lv_has ls 7 [(1, .ref h0), (0, .ref b)] := hl
  refine va_new (D := (dC, dI)) (ci := 1) (fs := [.null, .null, .null, .int 0, .int 0, .int 0, .int 0, .int 0]) (C := R_Mod) (T := F_Mod) (N := 8) hx hb hT in_Mod t_Mod t_Mod_ok hown (hT _ tw_176) (hT _ tw_177) (hT _ tw_2) hK hP hD hS hA rfl (fun j hj => by rcases (show j = 0 ∨ j = 1 ∨ j = 2 ∨ j = 3 ∨ j = 4 ∨ j = 5 ∨ j = 6 ∨ j = 7 by omega) with rfl | rfl | rfl | rfl | rfl | rfl | rfl | rfl <;> rfl) (Nat.le_of_ble_eq_true rfl) (Nat.le_of_ble_eq_true rfl) d_Law_law_8 (fun g0 H hP hD hS => ?_)
  have hP : va_P (dC, dI) classes [(h0, .inr (0, [.ref hr, .int 0, .int 0, .int 0, .long 0, .int 0, .int 0])), (hr, .inl (cB, 64, .inl (fun _ => 0))), (g0, .inr (1, [.null, .null, .null, .int 0, .int 0, .int 0, .int 0, .int 0]))] H := hP
  have hD : va_D A [(h0, .inr (0, [.ref hr, .int 0, .int 0, .int 0, .long 0, .int 0, .int 0])), (hr, .inl (cB, 64, .inl (fun _ => 0))), (g0, .inr (1, [.null, .null, .null, .int 0, .int 0, .int 0, .int 0, .int 0]))] := hD
  refine lv_dup hx hb d_Law_law_11 rfl ?_
  have hPc := hP.sub (ws' := [(g0, .inr (1, [.null, .null, .null, .int 0, .int 0, .int 0, .int 0, .int 0]))]) [2] rfl
  have hDc := hD.sub (ws' := [(g0, .inr (1, [.null, .null, .null, .int 0, .int 0, .int 0, .int 0, .int 0]))]) [2] (by decide) rfl
  have hKc := hK.sub (tys' := []) [] rfl
  have hFc := va_free (wc := [(g0, .inr (1, [.null, .null, .null, .int 0, .int 0, .int 0, .int 0, .int 0]))]) hD hS hA [2] rfl
  refine va_callv (va_runI (As := []) (rest := [.ref g0]) ⟨hx, hb, hml, hown, hT⟩ (c_Mod_init l dC dI g0 H.size) (cwI 0 hT (tb_good (tb_cons tw_180)) rfl rfl rfl (hT _ tw_2) (hT _ tw_178) (hT _ tw_179) rfl (by decide +kernel) ⟨(Nat.le_of_ble_eq_true rfl), (Nat.le_of_ble_eq_true rfl)⟩) ⟨we_blind, we_at hKc hPc hDc⟩ rfl rfl hl.1 rfl (lv_room (Nat.le_of_ble_eq_true rfl)) d_Law_law_12 ⟨(Nat.le_of_ble_eq_true rfl), (Nat.le_of_ble_eq_true rfl)⟩) hS (fun q _ h => hFc q h) hFc (fun u9 t9 H1 locs ht hvm hw9 hB hz1 hk1 hS => ?_)
  obtain ⟨gu, gb, gh, cU, cV, cZ⟩ := u9
  obtain ⟨hP1, hK1, hD1⟩ := hB
  rw [ht] at hP1
  have hK1 := va_K.moved hvm.symm hK1
  obtain ⟨hP, hD⟩ := va_join (wr := [(h0, .inr (0, [.ref hr, .int 0, .int 0, .int 0, .long 0, .int 0, .int 0])), (hr, .inl (cB, 64, .inl (fun _ => 0)))]) (w1 := [(g0, .inr (1, [.ref gu, .ref gb, .ref gh, .int 0, .int 0, .int 0, .int 0, .int 0])), (gu, .inl (cU, 64, .inl (fun _ => 0))), (gb, .inl (cV, 64, .inl (fun _ => 0))), (gh, .inl (cZ, 64, .inl (fun _ => 0)))]) hP hD [2] [0, 1] rfl rfl (by decide) (by decide) hk1 hFc hP1 hD1
  have hK := (hK.sub (tys' := [(cB, .byte)]) [0] rfl).app hK1
  generalize H1 = H at hP hS ⊢
  have hP : va_P (dC, dI) classes [(h0, .inr (0, [.ref hr, .int 0, .int 0, .int 0, .long 0, .int 0, .int 0])), (hr, .inl (cB, 64, .inl (fun _ => 0))), (g0, .inr (1, [.ref gu, .ref gb, .ref gh, .int 0, .int 0, .int 0, .int 0, .int 0])), (gu, .inl (cU, 64, .inl (fun _ => 0))), (gb, .inl (cV, 64, .inl (fun _ => 0))), (gh, .inl (cZ, 64, .inl (fun _ => 0)))] H := hP
  have hD : va_D A [(h0, .inr (0, [.ref hr, .int 0, .int 0, .int 0, .long 0, .int 0, .int 0])), (hr, .inl (cB, 64, .inl (fun _ => 0))), (g0, .inr (1, [.ref gu, .ref gb, .ref gh, .int 0, .int 0, .int 0, .int 0, .int 0])), (gu, .inl (cU, 64, .inl (fun _ => 0))), (gb, .inl (cV, 64, .inl (fun _ => 0))), (gh, .inl (cZ, 64, .inl (fun _ => 0)))] := hD
  have hK : va_K (dC, dI) classes [(cB, .byte), (cU, .int), (cV, .int), (cZ, .boolean)] s := hK
  refine lv_astore_n hx hb d_Law_law_15 rfl hl (by decide) rfl (fun ls hl => ?_)
  have hl : lv_has ls 7 [(2, .ref g0), (1, .ref h0), (0, .ref b)] := hl
  refine lv_iconst (v := 1) hx hb d_Law_law_16 (by decide) ?_
  refine va_newa (atype := .long) (ty := .long) (a0 := (1, .inr (.inl (fun _ => 0)))) hx hb (hT _ tw_250) rfl hK hP hD hS hA (fun _ => rfl) (by decide) (by decide) (by decide) (Nat.le_of_ble_eq_true rfl) (Nat.le_of_ble_eq_true rfl) d_Law_law_17 (fun ho cL H hK hP hD hS => ?_)
  have hP : va_P (dC, dI) classes [(h0, .inr (0, [.ref hr, .int 0, .int 0, .int 0, .long 0, .int 0, .int 0])), (hr, .inl (cB, 64, .inl (fun _ => 0))), (g0, .inr (1, [.ref gu, .ref gb, .ref gh, .int 0, .int 0, .int 0, .int 0, .int 0])), (gu, .inl (cU, 64, .inl (fun _ => 0))), (gb, .inl (cV, 64, .inl (fun _ => 0))), (gh, .inl (cZ, 64, .inl (fun _ => 0))), (ho, .inl (cL, 1, .inr (.inl (fun _ => 0))))] H := hP
  have hD : va_D A [(h0, .inr (0, [.ref hr, .int 0, .int 0, .int 0, .long 0, .int 0, .int 0])), (hr, .inl (cB, 64, .inl (fun _ => 0))), (g0, .inr (1, [.ref gu, .ref gb, .ref gh, .int 0, .int 0, .int 0, .int 0, .int 0])), (gu, .inl (cU, 64, .inl (fun _ => 0))), (gb, .inl (cV, 64, .inl (fun _ => 0))), (gh, .inl (cZ, 64, .inl (fun _ => 0))), (ho, .inl (cL, 1, .inr (.inl (fun _ => 0))))] := hD
  have hK : va_K (dC, dI) classes [(cB, .byte), (cU, .int), (cV, .int), (cZ, .boolean), (cL, .long)] s := hK
  refine lv_astore_n hx hb d_Law_law_19 rfl hl (by decide) rfl (fun ls hl => ?_)
  have hl : lv_has ls 7 [(3, .ref ho), (2, .ref g0), (1, .ref h0), (0, .ref b)] := hl
  refine lv_iconst (v := 0) hx hb d_Law_law_20 (by decide) ?_
  refine lv_istore hx hb d_Law_law_21 hl (by decide) rfl (fun ls hl => ?_)
  have hl : lv_has ls 7 [(4, .int 0), (3, .ref ho), (2, .ref g0), (1, .ref h0), (0, .ref b)] := hl
  have loop : ∀ (c0 t ff uu : Nat) (nx : Int32) (M : Nat) (en lf : Int32) (rg : Nat → Int32) (ex th : Int32) (un ba : Nat → Int32) (of : Nat → Int64) (ls : Array Slot) (H : Heap) (locs : List Loc), c0 + t = 513 → lw_I ff uu nx en lf ex M rg un ba → lv_has ls 7 [(4, .int (nI (5 * t))), (3, .ref ho), (2, .ref g0), (1, .ref h0), (0, .ref b)] → va_P (dC, dI) classes [(h0, .inr (0, [.ref hr, .int (nI ff), .int (nI uu), .int nx, .long (lN M), .int en, .int lf])), (hr, .inl (cB, 64, .inl rg)), (g0, .inr (1, [.ref gu, .ref gb, .ref gh, .int nx, .int (nI uu), .int ex, .int th, .int en])), (gu, .inl (cU, 64, .inl un)), (gb, .inl (cV, 64, .inl ba)), (gh, .inl (cZ, 64, .inl (hm M))), (ho, .inl (cL, 1, .inr (.inl of)))] H → va_D A [(h0, .inr (0, [.ref hr, .int (nI ff), .int (nI uu), .int nx, .long (lN M), .int en, .int lf])), (hr, .inl (cB, 64, .inl rg)), (g0, .inr (1, [.ref gu, .ref gb, .ref gh, .int nx, .int (nI uu), .int ex, .int th, .int en])), (gu, .inl (cU, 64, .inl un)), (gb, .inl (cV, 64, .inl ba)), (gh, .inl (cZ, 64, .inl (hm M))), (ho, .inl (cL, 1, .inr (.inl of)))] → va_S A s.heap H locs → W p l e room_1 s m #[Value.ref b] below meth c H locs (7 + t) (272 + 6 * t) (lw_Z below #[Value.ref b] s) (F0 m 23 ls []) := by
    intro c0
    induction c0 with
    | zero =>
      intro t ff uu nx M en lf rg ex th un ba of ls H locs ht hI hl hP hD hS
      refine lv_iload hx hb d_Law_law_23 (lv_at hl 0 rfl) ?_
      refine lv_aload_n hx hb d_Law_law_25 rfl (lv_at hl 4 rfl) ?_
      refine va_slen hx hb hX hbl hbA hS d_Law_law_26 ?_
      refine W.eq (g2 := F0 m 27 ls [.int (nI L), .int (nI (5 * t))]) rfl ?_
      refine lv_iconst (v := 5) hx hb d_Law_law_27 (by decide) ?_
      refine lv_isub hx hb d_Law_law_28 ?_
      refine lv_icmp_gt (tgt := 424) hx hb d_Law_law_29 rfl (fun h1 => ?_) (fun h1 => ?_)
      · refine lv_iconst (v := 1) hx hb d_Law_law_424 (by decide) ?_
        refine va_forget (fun q hq => by have h9 := hS.2.2 q hq; rw [hAe] at h9; exact h9) ?_
        refine W.widen (k := 1034) (n := 8482) (by omega) (by omega) ?_
        exact lw_ret hx hb hr_ hlocks d_Law_law_425
      · exact absurd ((lw_gt (by omega) (by omega)).mpr (by omega)) h1
    | succ c0 ih =>
      intro t ff uu nx M en lf rg ex th un ba of ls H locs ht hI hl hP hD hS
      refine lv_iload hx hb d_Law_law_23 (lv_at hl 0 rfl) ?_
      refine lv_aload_n hx hb d_Law_law_25 rfl (lv_at hl 4 rfl) ?_
      refine va_slen hx hb hX hbl hbA hS d_Law_law_26 ?_
      refine W.eq (g2 := F0 m 27 ls [.int (nI L), .int (nI (5 * t))]) rfl ?_
      refine lv_iconst (v := 5) hx hb d_Law_law_27 (by decide) ?_
      refine lv_isub hx hb d_Law_law_28 ?_
      refine lv_icmp_gt (tgt := 424) hx hb d_Law_law_29 rfl (fun h1 => ?_) (fun h1 => ?_)
      · refine lv_iconst (v := 1) hx hb d_Law_law_424 (by decide) ?_
        refine va_forget (fun q hq => by have h9 := hS.2.2 q hq; rw [hAe] at h9; exact h9) ?_
        refine W.widen (k := 1034) (n := 8482) (by omega) (by omega) ?_
        exact lw_ret hx hb hr_ hlocks d_Law_law_425
      · have hLt : 5 * t + 5 ≤ L := by rcases Nat.lt_or_ge L (5 * t + 5) with h | h; exact absurd ((lw_gt (by omega) (by omega)).mpr h) h1; exact h
        refine lv_aload_n hx hb d_Law_law_32 rfl (lv_at hl 4 rfl) ?_
        refine lv_iload hx hb d_Law_law_33 (lv_at hl 0 rfl) ?_
        refine va_sld hx hb hX hbl hbA hS (vp_in_nI (by omega) (by omega)) d_Law_law_35 ?_
        rw [nI_clamp (by omega)]
        refine lv_bipush (v := 7) hx hb d_Law_law_36 (by decide) ?_
        refine lv_iand hx hb d_Law_law_38 ?_
        obtain ⟨op, hop, eop⟩ := pk_andE (xs (5 * t)) (m := 7) 3 (by decide)
        rw [eop]
        have hop8 : op = 0 ∨ op = 1 ∨ op = 2 ∨ op = 3 ∨ op = 4 ∨ op = 5 ∨ op = 6 ∨ op = 7 := by omega
        rcases hop8 with rfl | rfl | rfl | rfl | rfl | rfl | rfl | rfl
        · refine lv_tableIn (off := 41) (tgt := 80) hx hb d_Law_law_39 (by decide) (by decide) (by decide) rfl ?_
          refine lv_aload_n hx hb d_Law_law_80 rfl (lv_at hl 3 rfl) ?_
          refine lv_aload_n hx hb d_Law_law_81 rfl (lv_at hl 4 rfl) ?_
          refine lv_iload hx hb d_Law_law_82 (lv_at hl 0 rfl) ?_
          refine lv_iconst (v := 1) hx hb d_Law_law_84 (by decide) ?_
          refine lv_iadd hx hb d_Law_law_85 ?_
          refine lv_topi (fun y9 e9 => ?_)
          obtain rfl : y9 = (nI (5 * t + 1) : Int32) := by rw [e9]; exact nI_add _ 1
          refine va_sld hx hb hX hbl hbA hS (vp_in_nI (by omega) (by omega)) d_Law_law_86 ?_
          rw [nI_clamp (by omega)]
          have hPc := hP.sub (ws' := [(h0, .inr (0, [.ref hr, .int (nI ff), .int (nI uu), .int nx, .long (lN M), .int en, .int lf])), (hr, .inl (cB, 64, .inl rg))]) [0, 1] rfl
          have hDc := hD.sub (ws' := [(h0, .inr (0, [.ref hr, .int (nI ff), .int (nI uu), .int nx, .long (lN M), .int en, .int lf])), (hr, .inl (cB, 64, .inl rg))]) [0, 1] (by decide) rfl
          have hKc := hK.sub (tys' := [(cB, .byte)]) [0] rfl
          have hFc := va_free (wc := [(h0, .inr (0, [.ref hr, .int (nI ff), .int (nI uu), .int nx, .long (lN M), .int en, .int lf])), (hr, .inl (cB, 64, .inl rg))]) hD hS hA [0, 1] rfl
          refine va_callv (va_runV (As := [.int (xs (5 * t + 1))]) (rest := []) ⟨hx, hb, hml, hown, hT⟩ (c_Box_open l dC dI h0 hr cB (nI ff) (nI uu) nx M en lf rg H.size (xs (5 * t + 1))) (cwV 1 hT (tb_wsV tw_39 tw_40 tw_41 tw_1 tw_42) rfl rfl rfl (by decide +kernel) ⟨Nat.le_of_ble_eq_true rfl, Nat.le_of_ble_eq_true rfl⟩) ⟨we_blind, va_recv hK hP (q0 := 0) rfl rfl, we_at hKc hPc hDc⟩ rfl rfl hl.1 rfl (lv_room (Nat.le_of_ble_eq_true rfl)) d_Law_law_87 ⟨by show _ ≤ 1034; omega, by show _ ≤ 8482; omega⟩) hS (fun q _ h => hFc q h) hFc (fun u9 t9 H1 locs ht hvm hw9 hB hz1 hk1 hS => ?_)
          obtain ⟨hP1, hK1, hD1⟩ := hB
          rw [ht] at hP1
          have hK1 := va_K.moved hvm.symm hK1
          obtain ⟨hP, hD⟩ := va_join (wr := [(g0, .inr (1, [.ref gu, .ref gb, .ref gh, .int nx, .int (nI uu), .int ex, .int th, .int en])), (gu, .inl (cU, 64, .inl un)), (gb, .inl (cV, 64, .inl ba)), (gh, .inl (cZ, 64, .inl (hm M))), (ho, .inl (cL, 1, .inr (.inl of)))]) (w1 := [(h0, .inr (0, [.ref hr, .int 0, .int 0, .int (xs (5 * t + 1)), .long 0, .int 0, .int 0])), (hr, .inl (cB, 64, .inl rg))]) hP hD [0, 1] [2, 3, 4, 5, 6] rfl rfl (by decide) (by decide) hk1 hFc hP1 hD1
          have hK := (hK.sub (tys' := [(cU, .int), (cV, .int), (cZ, .boolean), (cL, .long)]) [1, 2, 3, 4] rfl).app hK1
          generalize H1 = H at hP hS ⊢
          have hP : va_P (dC, dI) classes [(g0, .inr (1, [.ref gu, .ref gb, .ref gh, .int nx, .int (nI uu), .int ex, .int th, .int en])), (gu, .inl (cU, 64, .inl un)), (gb, .inl (cV, 64, .inl ba)), (gh, .inl (cZ, 64, .inl (hm M))), (ho, .inl (cL, 1, .inr (.inl of))), (h0, .inr (0, [.ref hr, .int 0, .int 0, .int (xs (5 * t + 1)), .long 0, .int 0, .int 0])), (hr, .inl (cB, 64, .inl rg))] H := hP
          have hD : va_D A [(g0, .inr (1, [.ref gu, .ref gb, .ref gh, .int nx, .int (nI uu), .int ex, .int th, .int en])), (gu, .inl (cU, 64, .inl un)), (gb, .inl (cV, 64, .inl ba)), (gh, .inl (cZ, 64, .inl (hm M))), (ho, .inl (cL, 1, .inr (.inl of))), (h0, .inr (0, [.ref hr, .int 0, .int 0, .int (xs (5 * t + 1)), .long 0, .int 0, .int 0])), (hr, .inl (cB, 64, .inl rg))] := hD
          have hK : va_K (dC, dI) classes [(cU, .int), (cV, .int), (cZ, .boolean), (cL, .long), (cB, .byte)] s := hK
          refine lv_aload_n hx hb d_Law_law_90 rfl (lv_at hl 2 rfl) ?_
          refine lv_aload_n hx hb d_Law_law_91 rfl (lv_at hl 4 rfl) ?_
          refine lv_iload hx hb d_Law_law_92 (lv_at hl 0 rfl) ?_
          refine lv_iconst (v := 1) hx hb d_Law_law_94 (by decide) ?_
          refine lv_iadd hx hb d_Law_law_95 ?_
          refine lv_topi (fun y9 e9 => ?_)
          obtain rfl : y9 = (nI (5 * t + 1) : Int32) := by rw [e9]; exact nI_add _ 1
          refine va_sld hx hb hX hbl hbA hS (vp_in_nI (by omega) (by omega)) d_Law_law_96 ?_
          rw [nI_clamp (by omega)]
          have hPc := hP.sub (ws' := [(g0, .inr (1, [.ref gu, .ref gb, .ref gh, .int nx, .int (nI uu), .int ex, .int th, .int en])), (gu, .inl (cU, 64, .inl un)), (gb, .inl (cV, 64, .inl ba)), (gh, .inl (cZ, 64, .inl (hm M)))]) [0, 1, 2, 3] rfl
          have hDc := hD.sub (ws' := [(g0, .inr (1, [.ref gu, .ref gb, .ref gh, .int nx, .int (nI uu), .int ex, .int th, .int en])), (gu, .inl (cU, 64, .inl un)), (gb, .inl (cV, 64, .inl ba)), (gh, .inl (cZ, 64, .inl (hm M)))]) [0, 1, 2, 3] (by decide) rfl
          have hKc := hK.sub (tys' := [(cU, .int), (cV, .int), (cZ, .boolean)]) [0, 1, 2] rfl
          have hFc := va_free (wc := [(g0, .inr (1, [.ref gu, .ref gb, .ref gh, .int nx, .int (nI uu), .int ex, .int th, .int en])), (gu, .inl (cU, 64, .inl un)), (gb, .inl (cV, 64, .inl ba)), (gh, .inl (cZ, 64, .inl (hm M)))]) hD hS hA [0, 1, 2, 3] rfl
          refine va_callv (va_runV (As := [.int (xs (5 * t + 1))]) (rest := []) ⟨hx, hb, hml, hown, hT⟩ (c_Mod_open l dC dI g0 gu gb gh cU cV cZ nx (nI uu) ex th en un ba M H.size (xs (5 * t + 1)) hI.lt) (cwV 1 hT (tb_wsV tw_213 tw_214 tw_215 tw_2 tw_216) rfl rfl rfl (by decide +kernel) ⟨Nat.le_of_ble_eq_true rfl, Nat.le_of_ble_eq_true rfl⟩) ⟨we_blind, va_recv hK hP (q0 := 0) rfl rfl, we_at hKc hPc hDc⟩ rfl rfl hl.1 rfl (lv_room (Nat.le_of_ble_eq_true rfl)) d_Law_law_97 ⟨by show _ ≤ 1034; omega, by show _ ≤ 8482; omega⟩) hS (fun q _ h => hFc q h) hFc (fun u9 t9 H1 locs ht hvm hw9 hB hz1 hk1 hS => ?_)
          obtain ⟨hP1, hK1, hD1⟩ := hB
          rw [ht] at hP1
          have hK1 := va_K.moved hvm.symm hK1
          obtain ⟨hP, hD⟩ := va_join (wr := [(ho, .inl (cL, 1, .inr (.inl of))), (h0, .inr (0, [.ref hr, .int 0, .int 0, .int (xs (5 * t + 1)), .long 0, .int 0, .int 0])), (hr, .inl (cB, 64, .inl rg))]) (w1 := [(g0, .inr (1, [.ref gu, .ref gb, .ref gh, .int (xs (5 * t + 1)), .int 0, .int ex, .int 0, .int 0])), (gu, .inl (cU, 64, .inl un)), (gb, .inl (cV, 64, .inl ba)), (gh, .inl (cZ, 64, .inl (hm 0)))]) hP hD [0, 1, 2, 3] [4, 5, 6] rfl rfl (by decide) (by decide) hk1 hFc hP1 hD1
          have hK := (hK.sub (tys' := [(cL, .long), (cB, .byte)]) [3, 4] rfl).app hK1
          generalize H1 = H at hP hS ⊢
          have hP : va_P (dC, dI) classes [(ho, .inl (cL, 1, .inr (.inl of))), (h0, .inr (0, [.ref hr, .int 0, .int 0, .int (xs (5 * t + 1)), .long 0, .int 0, .int 0])), (hr, .inl (cB, 64, .inl rg)), (g0, .inr (1, [.ref gu, .ref gb, .ref gh, .int (xs (5 * t + 1)), .int 0, .int ex, .int 0, .int 0])), (gu, .inl (cU, 64, .inl un)), (gb, .inl (cV, 64, .inl ba)), (gh, .inl (cZ, 64, .inl (hm 0)))] H := hP
          have hD : va_D A [(ho, .inl (cL, 1, .inr (.inl of))), (h0, .inr (0, [.ref hr, .int 0, .int 0, .int (xs (5 * t + 1)), .long 0, .int 0, .int 0])), (hr, .inl (cB, 64, .inl rg)), (g0, .inr (1, [.ref gu, .ref gb, .ref gh, .int (xs (5 * t + 1)), .int 0, .int ex, .int 0, .int 0])), (gu, .inl (cU, 64, .inl un)), (gb, .inl (cV, 64, .inl ba)), (gh, .inl (cZ, 64, .inl (hm 0)))] := hD
          have hK : va_K (dC, dI) classes [(cL, .long), (cB, .byte), (cU, .int), (cV, .int), (cZ, .boolean)] s := hK
          refine lv_goto (tgt := 418) hx hb d_Law_law_100 rfl ?_
          have hP := hP.sub (ws' := [(h0, .inr (0, [.ref hr, .int 0, .int 0, .int (xs (5 * t + 1)), .long 0, .int 0, .int 0])), (hr, .inl (cB, 64, .inl rg)), (g0, .inr (1, [.ref gu, .ref gb, .ref gh, .int (xs (5 * t + 1)), .int 0, .int ex, .int 0, .int 0])), (gu, .inl (cU, 64, .inl un)), (gb, .inl (cV, 64, .inl ba)), (gh, .inl (cZ, 64, .inl (hm 0))), (ho, .inl (cL, 1, .inr (.inl of)))]) [1, 2, 3, 4, 5, 6, 0] rfl
          have hD := hD.sub (ws' := [(h0, .inr (0, [.ref hr, .int 0, .int 0, .int (xs (5 * t + 1)), .long 0, .int 0, .int 0])), (hr, .inl (cB, 64, .inl rg)), (g0, .inr (1, [.ref gu, .ref gb, .ref gh, .int (xs (5 * t + 1)), .int 0, .int ex, .int 0, .int 0])), (gu, .inl (cU, 64, .inl un)), (gb, .inl (cV, 64, .inl ba)), (gh, .inl (cZ, 64, .inl (hm 0))), (ho, .inl (cL, 1, .inr (.inl of)))]) [1, 2, 3, 4, 5, 6, 0] (by decide) rfl
          have hK := hK.sub (tys' := [(cB, .byte), (cU, .int), (cV, .int), (cZ, .boolean), (cL, .long)]) [1, 2, 3, 4, 0] rfl
          refine W.widen (k := 7 + (t + 1)) (n := 272 + 6 * (t + 1)) (by omega) (by omega) ?_
          refine lv_iinc (v := nI (5 * (t + 1))) hx hb d_Law_law_418 hl (k := 0) rfl (by rw [show 5 * (t + 1) = 5 * t + 5 from by omega, ← nI_add]; rfl) (by decide) rfl (fun ls hl => ?_)
          have hl : lv_has ls 7 [(4, .int (nI (5 * (t + 1)))), (3, .ref ho), (2, .ref g0), (1, .ref h0), (0, .ref b)] := hl
          refine lv_goto (tgt := 23) hx hb d_Law_law_421 rfl ?_
          exact ih (t + 1) 0 0 (xs (5 * t + 1)) 0 0 0 rg ex 0 un ba of ls H locs (by omega) (lw_open _ _ _ _ _ _) (lv_sub hl [0, 1, 2, 3, 4] rfl) hP hD hS
        · refine lv_tableIn (off := 64) (tgt := 103) hx hb d_Law_law_39 (by decide) (by decide) (by decide) rfl ?_
          refine lv_aload_n hx hb d_Law_law_103 rfl (lv_at hl 3 rfl) ?_
          refine lv_aload_n hx hb d_Law_law_104 rfl (lv_at hl 4 rfl) ?_
          refine lv_iload hx hb d_Law_law_105 (lv_at hl 0 rfl) ?_
          refine lv_iconst (v := 1) hx hb d_Law_law_107 (by decide) ?_
          refine lv_iadd hx hb d_Law_law_108 ?_
          refine lv_topi (fun y9 e9 => ?_)
          obtain rfl : y9 = (nI (5 * t + 1) : Int32) := by rw [e9]; exact nI_add _ 1
          refine va_sld hx hb hX hbl hbA hS (vp_in_nI (by omega) (by omega)) d_Law_law_109 ?_
          rw [nI_clamp (by omega)]
          refine lv_aload_n hx hb d_Law_law_110 rfl (lv_at hl 4 rfl) ?_
          refine lv_iload hx hb d_Law_law_111 (lv_at hl 0 rfl) ?_
          refine lv_iconst (v := 2) hx hb d_Law_law_113 (by decide) ?_
          refine lv_iadd hx hb d_Law_law_114 ?_
          refine lv_topi (fun y9 e9 => ?_)
          obtain rfl : y9 = (nI (5 * t + 2) : Int32) := by rw [e9]; exact nI_add _ 2
          refine va_sld hx hb hX hbl hbA hS (vp_in_nI (by omega) (by omega)) d_Law_law_115 ?_
          rw [nI_clamp (by omega)]
          refine lv_i2l hx hb d_Law_law_116 rfl ?_
          refine lv_bipush (v := 32) hx hb d_Law_law_117 (by decide) ?_
          refine lv_lshl hx hb d_Law_law_119 rfl ?_
          refine lv_aload_n hx hb d_Law_law_120 rfl (lv_at hl 4 rfl) ?_
          refine lv_iload hx hb d_Law_law_121 (lv_at hl 0 rfl) ?_
          refine lv_iconst (v := 3) hx hb d_Law_law_123 (by decide) ?_
          refine lv_iadd hx hb d_Law_law_124 ?_
          refine lv_topi (fun y9 e9 => ?_)
          obtain rfl : y9 = (nI (5 * t + 3) : Int32) := by rw [e9]; exact nI_add _ 3
          refine va_sld hx hb hX hbl hbA hS (vp_in_nI (by omega) (by omega)) d_Law_law_125 ?_
          rw [nI_clamp (by omega)]
          refine lv_i2l hx hb d_Law_law_126 rfl ?_
          refine lv_ldc2 hx hb hown (hT _ tw_249) d_Law_law_127 ?_
          refine lv_land hx hb d_Law_law_130 ?_
          refine lv_lor hx hb d_Law_law_131 ?_
          refine lv_topl (fun v e_v => ?_)
          refine lv_aload_n hx hb d_Law_law_132 rfl (lv_at hl 4 rfl) ?_
          refine lv_iload hx hb d_Law_law_133 (lv_at hl 0 rfl) ?_
          refine lv_iconst (v := 4) hx hb d_Law_law_135 (by decide) ?_
          refine lv_iadd hx hb d_Law_law_136 ?_
          refine lv_topi (fun y9 e9 => ?_)
          obtain rfl : y9 = (nI (5 * t + 4) : Int32) := by rw [e9]; exact nI_add _ 4
          refine va_sld hx hb hX hbl hbA hS (vp_in_nI (by omega) (by omega)) d_Law_law_137 ?_
          rw [nI_clamp (by omega)]
          refine lv_aload_n hx hb d_Law_law_138 rfl (lv_at hl 1 rfl) ?_
          by_cases hk : xs (5 * t + 4) < 0 ∨ 8 < xs (5 * t + 4)
          · have hPc := hP.sub (ws' := [(h0, .inr (0, [.ref hr, .int (nI ff), .int (nI uu), .int nx, .long (lN M), .int en, .int lf])), (hr, .inl (cB, 64, .inl rg)), (ho, .inl (cL, 1, .inr (.inl of)))]) [0, 1, 6] rfl
            have hDc := hD.sub (ws' := [(h0, .inr (0, [.ref hr, .int (nI ff), .int (nI uu), .int nx, .long (lN M), .int en, .int lf])), (hr, .inl (cB, 64, .inl rg)), (ho, .inl (cL, 1, .inr (.inl of)))]) [0, 1, 6] (by decide) rfl
            have hKc := hK.sub (tys' := [(cB, .byte), (cL, .long)]) [0, 4] rfl
            have hFc := va_free (wc := [(h0, .inr (0, [.ref hr, .int (nI ff), .int (nI uu), .int nx, .long (lN M), .int en, .int lf])), (hr, .inl (cB, 64, .inl rg)), (ho, .inl (cL, 1, .inr (.inl of)))]) hD hS hA [0, 1, 6] rfl
            refine va_calli (kx_runSW (n := 5) (As := [.ref h0, .int (xs (5 * t + 1)), .long v, .int (xs (5 * t + 4)), .ref ho]) (rest := []) ⟨hx, hb, hml, hown, hT⟩ (c_Law_segment_0 l hfl dC dI h0 hr ho cB cL (nI ff) (nI uu) nx M en lf rg of H.size (xs (5 * t + 1)) v (xs (5 * t + 4)) hk) rfl (tb_good (tb_cons tw_61)) rfl rfl ⟨Nat.le_of_ble_eq_true rfl, Nat.le_of_ble_eq_true rfl⟩ (hT _ tw_0) (hT _ tw_59) (hT _ tw_60) (by decide +kernel) ⟨wv_blind, wv_at hth_IA (fun q h9 => hS.2.1 q h9 (by rw [hAe]; exact Nat.not_le.mpr h9)) hKc hPc hDc⟩ rfl rfl hl.1 rfl (lv_room (Nat.le_of_ble_eq_true rfl)) d_Law_law_139 ⟨by show _ ≤ 1034; omega, by show _ ≤ 8482; omega⟩) hS (fun q _ h => hFc q h) hFc (fun r5 u9 t9 H1 locs ht hvm hw5 hB hz1 hk1 hS => ?_)
            obtain ⟨hP1, hK1, hD1⟩ := hB
            rw [ht] at hP1
            have hK1 := va_K.moved hvm.symm hK1
            obtain ⟨hP, hD⟩ := va_join (wr := [(g0, .inr (1, [.ref gu, .ref gb, .ref gh, .int nx, .int (nI uu), .int ex, .int th, .int en])), (gu, .inl (cU, 64, .inl un)), (gb, .inl (cV, 64, .inl ba)), (gh, .inl (cZ, 64, .inl (hm M)))]) (w1 := [(h0, .inr (0, [.ref hr, .int (nI ff), .int (nI uu), .int nx, .long (lN M), .int en, .int lf])), (hr, .inl (cB, 64, .inl rg)), (ho, .inl (cL, 1, .inr (.inl of)))]) hP hD [0, 1, 6] [2, 3, 4, 5] rfl rfl (by decide) (by decide) hk1 hFc hP1 hD1
            have hK := (hK.sub (tys' := [(cU, .int), (cV, .int), (cZ, .boolean)]) [1, 2, 3] rfl).app hK1
            generalize H1 = H at hP hS ⊢
            have hP : va_P (dC, dI) classes [(g0, .inr (1, [.ref gu, .ref gb, .ref gh, .int nx, .int (nI uu), .int ex, .int th, .int en])), (gu, .inl (cU, 64, .inl un)), (gb, .inl (cV, 64, .inl ba)), (gh, .inl (cZ, 64, .inl (hm M))), (h0, .inr (0, [.ref hr, .int (nI ff), .int (nI uu), .int nx, .long (lN M), .int en, .int lf])), (hr, .inl (cB, 64, .inl rg)), (ho, .inl (cL, 1, .inr (.inl of)))] H := hP
            have hD : va_D A [(g0, .inr (1, [.ref gu, .ref gb, .ref gh, .int nx, .int (nI uu), .int ex, .int th, .int en])), (gu, .inl (cU, 64, .inl un)), (gb, .inl (cV, 64, .inl ba)), (gh, .inl (cZ, 64, .inl (hm M))), (h0, .inr (0, [.ref hr, .int (nI ff), .int (nI uu), .int nx, .long (lN M), .int en, .int lf])), (hr, .inl (cB, 64, .inl rg)), (ho, .inl (cL, 1, .inr (.inl of)))] := hD
            have hK : va_K (dC, dI) classes [(cU, .int), (cV, .int), (cZ, .boolean), (cB, .byte), (cL, .long)] s := hK
            subst hw5
            refine lv_istore hx hb d_Law_law_142 hl (by decide) rfl (fun ls hl => ?_)
            have hl : lv_has ls 7 [(5, .int 1), (4, .int (nI (5 * t))), (3, .ref ho), (2, .ref g0), (1, .ref h0), (0, .ref b)] := hl
            refine lv_aload_n hx hb d_Law_law_144 rfl (lv_at hl 3 rfl) ?_
            refine lv_aload_n hx hb d_Law_law_145 rfl (lv_at hl 5 rfl) ?_
            refine lv_iload hx hb d_Law_law_146 (lv_at hl 1 rfl) ?_
            refine lv_iconst (v := 1) hx hb d_Law_law_148 (by decide) ?_
            refine lv_iadd hx hb d_Law_law_149 ?_
            refine lv_topi (fun y9 e9 => ?_)
            obtain rfl : y9 = (nI (5 * t + 1) : Int32) := by rw [e9]; exact nI_add _ 1
            refine va_sld hx hb hX hbl hbA hS (vp_in_nI (by omega) (by omega)) d_Law_law_150 ?_
            rw [nI_clamp (by omega)]
            refine lv_aload_n hx hb d_Law_law_151 rfl (lv_at hl 5 rfl) ?_
            refine lv_iload hx hb d_Law_law_152 (lv_at hl 1 rfl) ?_
            refine lv_iconst (v := 2) hx hb d_Law_law_154 (by decide) ?_
            refine lv_iadd hx hb d_Law_law_155 ?_
            refine lv_topi (fun y9 e9 => ?_)
            obtain rfl : y9 = (nI (5 * t + 2) : Int32) := by rw [e9]; exact nI_add _ 2
            refine va_sld hx hb hX hbl hbA hS (vp_in_nI (by omega) (by omega)) d_Law_law_156 ?_
            rw [nI_clamp (by omega)]
            refine lv_i2l hx hb d_Law_law_157 rfl ?_
            refine lv_bipush (v := 32) hx hb d_Law_law_158 (by decide) ?_
            refine lv_lshl hx hb d_Law_law_160 rfl ?_
            refine lv_aload_n hx hb d_Law_law_161 rfl (lv_at hl 5 rfl) ?_
            refine lv_iload hx hb d_Law_law_162 (lv_at hl 1 rfl) ?_
            refine lv_iconst (v := 3) hx hb d_Law_law_164 (by decide) ?_
            refine lv_iadd hx hb d_Law_law_165 ?_
            refine lv_topi (fun y9 e9 => ?_)
            obtain rfl : y9 = (nI (5 * t + 3) : Int32) := by rw [e9]; exact nI_add _ 3
            refine va_sld hx hb hX hbl hbA hS (vp_in_nI (by omega) (by omega)) d_Law_law_166 ?_
            rw [nI_clamp (by omega)]
            refine lv_i2l hx hb d_Law_law_167 rfl ?_
            refine lv_ldc2 hx hb hown (hT _ tw_249) d_Law_law_168 ?_
            refine lv_land hx hb d_Law_law_171 ?_
            refine lv_lor hx hb d_Law_law_172 ?_
            refine lv_topl (fun v2 e_v2 => ?_)
            obtain rfl : v = v2 := e_v.trans e_v2.symm
            refine lv_aload_n hx hb d_Law_law_173 rfl (lv_at hl 5 rfl) ?_
            refine lv_iload hx hb d_Law_law_174 (lv_at hl 1 rfl) ?_
            refine lv_iconst (v := 4) hx hb d_Law_law_176 (by decide) ?_
            refine lv_iadd hx hb d_Law_law_177 ?_
            refine lv_topi (fun y9 e9 => ?_)
            obtain rfl : y9 = (nI (5 * t + 4) : Int32) := by rw [e9]; exact nI_add _ 4
            refine va_sld hx hb hX hbl hbA hS (vp_in_nI (by omega) (by omega)) d_Law_law_178 ?_
            rw [nI_clamp (by omega)]
            have hPc := hP.sub (ws' := [(g0, .inr (1, [.ref gu, .ref gb, .ref gh, .int nx, .int (nI uu), .int ex, .int th, .int en])), (gu, .inl (cU, 64, .inl un)), (gb, .inl (cV, 64, .inl ba)), (gh, .inl (cZ, 64, .inl (hm M)))]) [0, 1, 2, 3] rfl
            have hDc := hD.sub (ws' := [(g0, .inr (1, [.ref gu, .ref gb, .ref gh, .int nx, .int (nI uu), .int ex, .int th, .int en])), (gu, .inl (cU, 64, .inl un)), (gb, .inl (cV, 64, .inl ba)), (gh, .inl (cZ, 64, .inl (hm M)))]) [0, 1, 2, 3] (by decide) rfl
            have hKc := hK.sub (tys' := [(cU, .int), (cV, .int), (cZ, .boolean)]) [0, 1, 2] rfl
            have hFc := va_free (wc := [(g0, .inr (1, [.ref gu, .ref gb, .ref gh, .int nx, .int (nI uu), .int ex, .int th, .int en])), (gu, .inl (cU, 64, .inl un)), (gb, .inl (cV, 64, .inl ba)), (gh, .inl (cZ, 64, .inl (hm M)))]) hD hS hA [0, 1, 2, 3] rfl
            refine va_calli (va_runV (As := [.int (xs (5 * t + 1)), .long v, .int (xs (5 * t + 4))]) (rest := []) ⟨hx, hb, hml, hown, hT⟩ (c_Mod_segment_0 l dC dI g0 gu gb gh cU cV cZ nx (nI uu) ex th en un ba M H.size (xs (5 * t + 1)) v (xs (5 * t + 4)) hk) (cwV 3 hT (tb_wsV tw_217 tw_218 tw_219 tw_2 tw_220) rfl rfl rfl (by decide +kernel) ⟨Nat.le_of_ble_eq_true rfl, Nat.le_of_ble_eq_true rfl⟩) ⟨we_blind, va_recv hK hP (q0 := 0) rfl rfl, we_at hKc hPc hDc⟩ rfl rfl hl.1 rfl (lv_room (Nat.le_of_ble_eq_true rfl)) d_Law_law_179 ⟨by show _ ≤ 1034; omega, by show _ ≤ 8482; omega⟩) hS (fun q _ h => hFc q h) hFc (fun r6 u9 t9 H1 locs ht hvm hw6 hB hz1 hk1 hS => ?_)
            obtain ⟨hP1, hK1, hD1⟩ := hB
            rw [ht] at hP1
            have hK1 := va_K.moved hvm.symm hK1
            obtain ⟨hP, hD⟩ := va_join (wr := [(h0, .inr (0, [.ref hr, .int (nI ff), .int (nI uu), .int nx, .long (lN M), .int en, .int lf])), (hr, .inl (cB, 64, .inl rg)), (ho, .inl (cL, 1, .inr (.inl of)))]) (w1 := [(g0, .inr (1, [.ref gu, .ref gb, .ref gh, .int nx, .int (nI uu), .int ex, .int 1, .int en])), (gu, .inl (cU, 64, .inl un)), (gb, .inl (cV, 64, .inl ba)), (gh, .inl (cZ, 64, .inl (hm M)))]) hP hD [0, 1, 2, 3] [4, 5, 6] rfl rfl (by decide) (by decide) hk1 hFc hP1 hD1
            have hK := (hK.sub (tys' := [(cB, .byte), (cL, .long)]) [3, 4] rfl).app hK1
            generalize H1 = H at hP hS ⊢
            have hP : va_P (dC, dI) classes [(h0, .inr (0, [.ref hr, .int (nI ff), .int (nI uu), .int nx, .long (lN M), .int en, .int lf])), (hr, .inl (cB, 64, .inl rg)), (ho, .inl (cL, 1, .inr (.inl of))), (g0, .inr (1, [.ref gu, .ref gb, .ref gh, .int nx, .int (nI uu), .int ex, .int 1, .int en])), (gu, .inl (cU, 64, .inl un)), (gb, .inl (cV, 64, .inl ba)), (gh, .inl (cZ, 64, .inl (hm M)))] H := hP
            have hD : va_D A [(h0, .inr (0, [.ref hr, .int (nI ff), .int (nI uu), .int nx, .long (lN M), .int en, .int lf])), (hr, .inl (cB, 64, .inl rg)), (ho, .inl (cL, 1, .inr (.inl of))), (g0, .inr (1, [.ref gu, .ref gb, .ref gh, .int nx, .int (nI uu), .int ex, .int 1, .int en])), (gu, .inl (cU, 64, .inl un)), (gb, .inl (cV, 64, .inl ba)), (gh, .inl (cZ, 64, .inl (hm M)))] := hD
            have hK : va_K (dC, dI) classes [(cB, .byte), (cL, .long), (cU, .int), (cV, .int), (cZ, .boolean)] s := hK
            subst hw6
            refine lv_istore hx hb d_Law_law_182 hl (by decide) rfl (fun ls hl => ?_)
            have hl : lv_has ls 7 [(6, .int 0), (5, .int 1), (4, .int (nI (5 * t))), (3, .ref ho), (2, .ref g0), (1, .ref h0), (0, .ref b)] := hl
            refine lv_aload_n hx hb d_Law_law_184 rfl (lv_at hl 4 rfl) ?_
            have hPc := hP.sub (ws' := [(g0, .inr (1, [.ref gu, .ref gb, .ref gh, .int nx, .int (nI uu), .int ex, .int 1, .int en])), (gu, .inl (cU, 64, .inl un)), (gb, .inl (cV, 64, .inl ba)), (gh, .inl (cZ, 64, .inl (hm M)))]) [3, 4, 5, 6] rfl
            have hKc := hK.sub (tys' := [(cU, .int), (cV, .int), (cZ, .boolean)]) [2, 3, 4] rfl
            refine vp_callSi (W.runV (As := []) (rest := []) ⟨hx, hb, hml, hown, hT⟩ (c_Mod_thrown l dC dI g0 gu gb gh cU cV cZ nx (nI uu) ex 1 en un ba M) (cwV 0 hT (tb_wsV tw_209 tw_210 tw_211 tw_2 tw_212) rfl rfl rfl (by decide +kernel) ⟨Nat.le_of_ble_eq_true rfl, Nat.le_of_ble_eq_true rfl⟩) ⟨wd_blind, va_recv hK hP (q0 := 3) rfl rfl, wd_at hKc hPc⟩ rfl rfl hl.1 rfl (lv_room (Nat.le_of_ble_eq_true rfl)) d_Law_law_185 ⟨by show _ ≤ 1034; omega, by show _ ≤ 8482; omega⟩) (fun r7 hr7 => ?_)
            subst hr7
            refine lv_iload hx hb d_Law_law_188 (lv_at hl 1 rfl) ?_
            refine lv_icmp_eq (tgt := 195) hx hb d_Law_law_190 rfl (fun h2 => ?_) (fun h2 => ?_)
            · refine lv_iload hx hb d_Law_law_195 (lv_at hl 1 rfl) ?_
              refine lv_if_ne (tgt := 212) hx hb d_Law_law_197 rfl (fun h3 => ?_) (fun h3 => ?_)
              · refine lv_goto (tgt := 418) hx hb d_Law_law_212 rfl ?_
                have hP := hP.sub (ws' := [(h0, .inr (0, [.ref hr, .int (nI ff), .int (nI uu), .int nx, .long (lN M), .int en, .int lf])), (hr, .inl (cB, 64, .inl rg)), (g0, .inr (1, [.ref gu, .ref gb, .ref gh, .int nx, .int (nI uu), .int ex, .int 1, .int en])), (gu, .inl (cU, 64, .inl un)), (gb, .inl (cV, 64, .inl ba)), (gh, .inl (cZ, 64, .inl (hm M))), (ho, .inl (cL, 1, .inr (.inl of)))]) [0, 1, 3, 4, 5, 6, 2] rfl
                have hD := hD.sub (ws' := [(h0, .inr (0, [.ref hr, .int (nI ff), .int (nI uu), .int nx, .long (lN M), .int en, .int lf])), (hr, .inl (cB, 64, .inl rg)), (g0, .inr (1, [.ref gu, .ref gb, .ref gh, .int nx, .int (nI uu), .int ex, .int 1, .int en])), (gu, .inl (cU, 64, .inl un)), (gb, .inl (cV, 64, .inl ba)), (gh, .inl (cZ, 64, .inl (hm M))), (ho, .inl (cL, 1, .inr (.inl of)))]) [0, 1, 3, 4, 5, 6, 2] (by decide) rfl
                have hK := hK.sub (tys' := [(cB, .byte), (cU, .int), (cV, .int), (cZ, .boolean), (cL, .long)]) [0, 2, 3, 4, 1] rfl
                refine W.widen (k := 7 + (t + 1)) (n := 272 + 6 * (t + 1)) (by omega) (by omega) ?_
                refine lv_iinc (v := nI (5 * (t + 1))) hx hb d_Law_law_418 hl (k := 2) rfl (by rw [show 5 * (t + 1) = 5 * t + 5 from by omega, ← nI_add]; rfl) (by decide) rfl (fun ls hl => ?_)
                have hl : lv_has ls 7 [(4, .int (nI (5 * (t + 1)))), (6, .int 0), (5, .int 1), (3, .ref ho), (2, .ref g0), (1, .ref h0), (0, .ref b)] := hl
                refine lv_goto (tgt := 23) hx hb d_Law_law_421 rfl ?_
                exact ih (t + 1) ff uu nx M en lf rg ex 1 un ba of ls H locs (by omega) (hI) (lv_sub hl [0, 3, 4, 5, 6] rfl) hP hD hS
              · exact absurd h3 (by decide)
            · exact absurd rfl h2
          · obtain ⟨k, hk8, ek⟩ := nI_of2 (M := 8) (n := 8) (by decide) (fun h => hk (Or.inl h)) (Int32.not_lt.mp (fun h => hk (Or.inr h)))
            rw [ek]
            have hPc := hP.sub (ws' := [(h0, .inr (0, [.ref hr, .int (nI ff), .int (nI uu), .int nx, .long (lN M), .int en, .int lf])), (hr, .inl (cB, 64, .inl rg)), (ho, .inl (cL, 1, .inr (.inl of)))]) [0, 1, 6] rfl
            have hDc := hD.sub (ws' := [(h0, .inr (0, [.ref hr, .int (nI ff), .int (nI uu), .int nx, .long (lN M), .int en, .int lf])), (hr, .inl (cB, 64, .inl rg)), (ho, .inl (cL, 1, .inr (.inl of)))]) [0, 1, 6] (by decide) rfl
            have hKc := hK.sub (tys' := [(cB, .byte), (cL, .long)]) [0, 4] rfl
            have hFc := va_free (wc := [(h0, .inr (0, [.ref hr, .int (nI ff), .int (nI uu), .int nx, .long (lN M), .int en, .int lf])), (hr, .inl (cB, 64, .inl rg)), (ho, .inl (cL, 1, .inr (.inl of)))]) hD hS hA [0, 1, 6] rfl
            refine va_calli (kx_runSW (n := 5) (As := [.ref h0, .int (xs (5 * t + 1)), .long v, .int (nI k), .ref ho]) (rest := []) ⟨hx, hb, hml, hown, hT⟩ (c_Law_segment_1 l dC dI h0 hr ho cB cL ff uu nx M en lf rg of H.size (xs (5 * t + 1)) v k hI.1 hI.2.1 hk8 hI.lt) rfl (tb_good (tb_cons tw_61)) rfl rfl ⟨Nat.le_of_ble_eq_true rfl, Nat.le_of_ble_eq_true rfl⟩ (hT _ tw_0) (hT _ tw_59) (hT _ tw_60) (by decide +kernel) ⟨we_blind, we_at hKc hPc hDc⟩ rfl rfl hl.1 rfl (lv_room (Nat.le_of_ble_eq_true rfl)) d_Law_law_139 ⟨by show _ ≤ 1034; omega, by show _ ≤ 8482; omega⟩) hS (fun q _ h => hFc q h) hFc (fun r5 u9 t9 H1 locs ht hvm hw5 hB hz1 hk1 hS => ?_)
            obtain ⟨M1, r1, j⟩ := u9
            obtain ⟨rfl, g1, g2, g3, g4⟩ := hw5
            obtain ⟨hP1, hK1, hD1⟩ := hB
            rw [ht] at hP1
            have hK1 := va_K.moved hvm.symm hK1
            obtain ⟨hP, hD⟩ := va_join (wr := [(g0, .inr (1, [.ref gu, .ref gb, .ref gh, .int nx, .int (nI uu), .int ex, .int th, .int en])), (gu, .inl (cU, 64, .inl un)), (gb, .inl (cV, 64, .inl ba)), (gh, .inl (cZ, 64, .inl (hm M)))]) (w1 := [(h0, .inr (0, [.ref hr, .int (nI ff), .int (nI (uu + j)), .int (nx + nI j), .long (lN (M1 / 2 ^ j)), .int en, .int (lf - nI j)])), (hr, .inl (cB, 64, .inl r1)), (ho, .inl (cL, 1, .inr (.inl (vp_updL of 0 (nI j).toInt64))))]) hP hD [0, 1, 6] [2, 3, 4, 5] rfl rfl (by decide) (by decide) hk1 hFc hP1 hD1
            have hK := (hK.sub (tys' := [(cU, .int), (cV, .int), (cZ, .boolean)]) [1, 2, 3] rfl).app hK1
            generalize H1 = H at hP hS ⊢
            have hP : va_P (dC, dI) classes [(g0, .inr (1, [.ref gu, .ref gb, .ref gh, .int nx, .int (nI uu), .int ex, .int th, .int en])), (gu, .inl (cU, 64, .inl un)), (gb, .inl (cV, 64, .inl ba)), (gh, .inl (cZ, 64, .inl (hm M))), (h0, .inr (0, [.ref hr, .int (nI ff), .int (nI (uu + j)), .int (nx + nI j), .long (lN (M1 / 2 ^ j)), .int en, .int (lf - nI j)])), (hr, .inl (cB, 64, .inl r1)), (ho, .inl (cL, 1, .inr (.inl (vp_updL of 0 (nI j).toInt64))))] H := hP
            have hD : va_D A [(g0, .inr (1, [.ref gu, .ref gb, .ref gh, .int nx, .int (nI uu), .int ex, .int th, .int en])), (gu, .inl (cU, 64, .inl un)), (gb, .inl (cV, 64, .inl ba)), (gh, .inl (cZ, 64, .inl (hm M))), (h0, .inr (0, [.ref hr, .int (nI ff), .int (nI (uu + j)), .int (nx + nI j), .long (lN (M1 / 2 ^ j)), .int en, .int (lf - nI j)])), (hr, .inl (cB, 64, .inl r1)), (ho, .inl (cL, 1, .inr (.inl (vp_updL of 0 (nI j).toInt64))))] := hD
            have hK : va_K (dC, dI) classes [(cU, .int), (cV, .int), (cZ, .boolean), (cB, .byte), (cL, .long)] s := hK
            refine lv_istore hx hb d_Law_law_142 hl (by decide) rfl (fun ls hl => ?_)
            have hl : lv_has ls 7 [(5, .int 0), (4, .int (nI (5 * t))), (3, .ref ho), (2, .ref g0), (1, .ref h0), (0, .ref b)] := hl
            refine lv_aload_n hx hb d_Law_law_144 rfl (lv_at hl 3 rfl) ?_
            refine lv_aload_n hx hb d_Law_law_145 rfl (lv_at hl 5 rfl) ?_
            refine lv_iload hx hb d_Law_law_146 (lv_at hl 1 rfl) ?_
            refine lv_iconst (v := 1) hx hb d_Law_law_148 (by decide) ?_
            refine lv_iadd hx hb d_Law_law_149 ?_
            refine lv_topi (fun y9 e9 => ?_)
            obtain rfl : y9 = (nI (5 * t + 1) : Int32) := by rw [e9]; exact nI_add _ 1
            refine va_sld hx hb hX hbl hbA hS (vp_in_nI (by omega) (by omega)) d_Law_law_150 ?_
            rw [nI_clamp (by omega)]
            refine lv_aload_n hx hb d_Law_law_151 rfl (lv_at hl 5 rfl) ?_
            refine lv_iload hx hb d_Law_law_152 (lv_at hl 1 rfl) ?_
            refine lv_iconst (v := 2) hx hb d_Law_law_154 (by decide) ?_
            refine lv_iadd hx hb d_Law_law_155 ?_
            refine lv_topi (fun y9 e9 => ?_)
            obtain rfl : y9 = (nI (5 * t + 2) : Int32) := by rw [e9]; exact nI_add _ 2
            refine va_sld hx hb hX hbl hbA hS (vp_in_nI (by omega) (by omega)) d_Law_law_156 ?_
            rw [nI_clamp (by omega)]
            refine lv_i2l hx hb d_Law_law_157 rfl ?_
            refine lv_bipush (v := 32) hx hb d_Law_law_158 (by decide) ?_
            refine lv_lshl hx hb d_Law_law_160 rfl ?_
            refine lv_aload_n hx hb d_Law_law_161 rfl (lv_at hl 5 rfl) ?_
            refine lv_iload hx hb d_Law_law_162 (lv_at hl 1 rfl) ?_
            refine lv_iconst (v := 3) hx hb d_Law_law_164 (by decide) ?_
            refine lv_iadd hx hb d_Law_law_165 ?_
            refine lv_topi (fun y9 e9 => ?_)
            obtain rfl : y9 = (nI (5 * t + 3) : Int32) := by rw [e9]; exact nI_add _ 3
            refine va_sld hx hb hX hbl hbA hS (vp_in_nI (by omega) (by omega)) d_Law_law_166 ?_
            rw [nI_clamp (by omega)]
            refine lv_i2l hx hb d_Law_law_167 rfl ?_
            refine lv_ldc2 hx hb hown (hT _ tw_249) d_Law_law_168 ?_
            refine lv_land hx hb d_Law_law_171 ?_
            refine lv_lor hx hb d_Law_law_172 ?_
            refine lv_topl (fun v2 e_v2 => ?_)
            obtain rfl : v = v2 := e_v.trans e_v2.symm
            refine lv_aload_n hx hb d_Law_law_173 rfl (lv_at hl 5 rfl) ?_
            refine lv_iload hx hb d_Law_law_174 (lv_at hl 1 rfl) ?_
            refine lv_iconst (v := 4) hx hb d_Law_law_176 (by decide) ?_
            refine lv_iadd hx hb d_Law_law_177 ?_
            refine lv_topi (fun y9 e9 => ?_)
            obtain rfl : y9 = (nI (5 * t + 4) : Int32) := by rw [e9]; exact nI_add _ 4
            refine va_sld hx hb hX hbl hbA hS (vp_in_nI (by omega) (by omega)) d_Law_law_178 ?_
            rw [nI_clamp (by omega)]
            rw [ek]
            have hPc := hP.sub (ws' := [(g0, .inr (1, [.ref gu, .ref gb, .ref gh, .int nx, .int (nI uu), .int ex, .int th, .int en])), (gu, .inl (cU, 64, .inl un)), (gb, .inl (cV, 64, .inl ba)), (gh, .inl (cZ, 64, .inl (hm M)))]) [0, 1, 2, 3] rfl
            have hDc := hD.sub (ws' := [(g0, .inr (1, [.ref gu, .ref gb, .ref gh, .int nx, .int (nI uu), .int ex, .int th, .int en])), (gu, .inl (cU, 64, .inl un)), (gb, .inl (cV, 64, .inl ba)), (gh, .inl (cZ, 64, .inl (hm M)))]) [0, 1, 2, 3] (by decide) rfl
            have hKc := hK.sub (tys' := [(cU, .int), (cV, .int), (cZ, .boolean)]) [0, 1, 2] rfl
            have hFc := va_free (wc := [(g0, .inr (1, [.ref gu, .ref gb, .ref gh, .int nx, .int (nI uu), .int ex, .int th, .int en])), (gu, .inl (cU, 64, .inl un)), (gb, .inl (cV, 64, .inl ba)), (gh, .inl (cZ, 64, .inl (hm M)))]) hD hS hA [0, 1, 2, 3] rfl
            refine va_calli (va_runV (As := [.int (xs (5 * t + 1)), .long v, .int (nI k)]) (rest := []) ⟨hx, hb, hml, hown, hT⟩ (c_Mod_segment l dC dI g0 gu gb gh cU cV cZ ff uu nx en lf ex th rg un ba M H.size (xs (5 * t + 1)) v k hI.1 hI.2.1 hk8 hI.2.2.1 hI.2.2.2.1 hI.2.2.2.2) (cwV 3 hT (tb_wsV tw_217 tw_218 tw_219 tw_2 tw_220) rfl rfl rfl (by decide +kernel) ⟨Nat.le_of_ble_eq_true rfl, Nat.le_of_ble_eq_true rfl⟩) ⟨we_blind, va_recv hK hP (q0 := 0) rfl rfl, we_at hKc hPc hDc⟩ rfl rfl hl.1 rfl (lv_room (Nat.le_of_ble_eq_true rfl)) d_Law_law_179 ⟨by show _ ≤ 1034; omega, by show _ ≤ 8482; omega⟩) hS (fun q _ h => hFc q h) hFc (fun r6 u9 t9 H1 locs ht hvm hw6 hB hz1 hk1 hS => ?_)
            obtain ⟨⟨M2, r2, j2⟩, un2, ba2⟩ := u9
            obtain ⟨f1, rfl, f2, f3, f4⟩ := hw6
            obtain ⟨hP1, hK1, hD1⟩ := hB
            rw [ht] at hP1
            have hK1 := va_K.moved hvm.symm hK1
            obtain ⟨hP, hD⟩ := va_join (wr := [(h0, .inr (0, [.ref hr, .int (nI ff), .int (nI (uu + j)), .int (nx + nI j), .long (lN (M1 / 2 ^ j)), .int en, .int (lf - nI j)])), (hr, .inl (cB, 64, .inl r1)), (ho, .inl (cL, 1, .inr (.inl (vp_updL of 0 (nI j).toInt64))))]) (w1 := [(g0, .inr (1, [.ref gu, .ref gb, .ref gh, .int (nx + nI j2), .int (nI (uu + j2)), .int ex, .int 0, .int en])), (gu, .inl (cU, 64, .inl un2)), (gb, .inl (cV, 64, .inl ba2)), (gh, .inl (cZ, 64, .inl (hm (M2 / 2 ^ j2))))]) hP hD [0, 1, 2, 3] [4, 5, 6] rfl rfl (by decide) (by decide) hk1 hFc hP1 hD1
            have hK := (hK.sub (tys' := [(cB, .byte), (cL, .long)]) [3, 4] rfl).app hK1
            generalize H1 = H at hP hS ⊢
            have hP : va_P (dC, dI) classes [(h0, .inr (0, [.ref hr, .int (nI ff), .int (nI (uu + j)), .int (nx + nI j), .long (lN (M1 / 2 ^ j)), .int en, .int (lf - nI j)])), (hr, .inl (cB, 64, .inl r1)), (ho, .inl (cL, 1, .inr (.inl (vp_updL of 0 (nI j).toInt64)))), (g0, .inr (1, [.ref gu, .ref gb, .ref gh, .int (nx + nI j2), .int (nI (uu + j2)), .int ex, .int 0, .int en])), (gu, .inl (cU, 64, .inl un2)), (gb, .inl (cV, 64, .inl ba2)), (gh, .inl (cZ, 64, .inl (hm (M2 / 2 ^ j2))))] H := hP
            have hD : va_D A [(h0, .inr (0, [.ref hr, .int (nI ff), .int (nI (uu + j)), .int (nx + nI j), .long (lN (M1 / 2 ^ j)), .int en, .int (lf - nI j)])), (hr, .inl (cB, 64, .inl r1)), (ho, .inl (cL, 1, .inr (.inl (vp_updL of 0 (nI j).toInt64)))), (g0, .inr (1, [.ref gu, .ref gb, .ref gh, .int (nx + nI j2), .int (nI (uu + j2)), .int ex, .int 0, .int en])), (gu, .inl (cU, 64, .inl un2)), (gb, .inl (cV, 64, .inl ba2)), (gh, .inl (cZ, 64, .inl (hm (M2 / 2 ^ j2))))] := hD
            have hK : va_K (dC, dI) classes [(cB, .byte), (cL, .long), (cU, .int), (cV, .int), (cZ, .boolean)] s := hK
            dsimp only at g1 g2 g3 g4 f1 f2 f3 f4
            obtain ⟨rfl, rfl⟩ : M1 = M2 ∧ r1 = r2 := by have h9 := g1.trans f1.symm; exact ⟨congrArg Prod.fst h9, congrArg Prod.snd h9⟩
            obtain rfl : j = j2 := lw_ones g3 g4 f2.1 f3
            refine lv_istore hx hb d_Law_law_182 hl (by decide) rfl (fun ls hl => ?_)
            have hl : lv_has ls 7 [(6, .int (nI j)), (5, .int 0), (4, .int (nI (5 * t))), (3, .ref ho), (2, .ref g0), (1, .ref h0), (0, .ref b)] := hl
            refine lv_aload_n hx hb d_Law_law_184 rfl (lv_at hl 4 rfl) ?_
            have hPc := hP.sub (ws' := [(g0, .inr (1, [.ref gu, .ref gb, .ref gh, .int (nx + nI j), .int (nI (uu + j)), .int ex, .int 0, .int en])), (gu, .inl (cU, 64, .inl un2)), (gb, .inl (cV, 64, .inl ba2)), (gh, .inl (cZ, 64, .inl (hm (M1 / 2 ^ j))))]) [3, 4, 5, 6] rfl
            have hKc := hK.sub (tys' := [(cU, .int), (cV, .int), (cZ, .boolean)]) [2, 3, 4] rfl
            refine vp_callSi (W.runV (As := []) (rest := []) ⟨hx, hb, hml, hown, hT⟩ (c_Mod_thrown l dC dI g0 gu gb gh cU cV cZ (nx + nI j) (nI (uu + j)) ex 0 en un2 ba2 (M1 / 2 ^ j)) (cwV 0 hT (tb_wsV tw_209 tw_210 tw_211 tw_2 tw_212) rfl rfl rfl (by decide +kernel) ⟨Nat.le_of_ble_eq_true rfl, Nat.le_of_ble_eq_true rfl⟩) ⟨wd_blind, va_recv hK hP (q0 := 3) rfl rfl, wd_at hKc hPc⟩ rfl rfl hl.1 rfl (lv_room (Nat.le_of_ble_eq_true rfl)) d_Law_law_185 ⟨by show _ ≤ 1034; omega, by show _ ≤ 8482; omega⟩) (fun r7 hr7 => ?_)
            subst hr7
            refine lv_iload hx hb d_Law_law_188 (lv_at hl 1 rfl) ?_
            refine lv_icmp_eq (tgt := 195) hx hb d_Law_law_190 rfl (fun h2 => ?_) (fun h2 => ?_)
            · refine lv_iload hx hb d_Law_law_195 (lv_at hl 1 rfl) ?_
              refine lv_if_ne (tgt := 212) hx hb d_Law_law_197 rfl (fun h3 => ?_) (fun h3 => ?_)
              · exact absurd rfl h3
              · refine lv_aload_n hx hb d_Law_law_200 rfl (lv_at hl 3 rfl) ?_
                refine lv_iconst (v := 0) hx hb d_Law_law_201 (by decide) ?_
                refine va_lald hx hb hK hP 2 1 rfl rfl (vp_in_nI (n := 0) (N := 1) (by omega) (by decide)) d_Law_law_202 ?_
                rw [sb_cl0, pk_uLs]
                refine lv_iload hx hb d_Law_law_203 (lv_at hl 0 rfl) ?_
                refine lv_i2l hx hb d_Law_law_205 rfl ?_
                refine W.lcmp hx hb d_Law_law_206 ?_
                refine lv_if_eq (tgt := 212) hx hb d_Law_law_207 rfl (fun h4 => ?_) (fun h4 => ?_)
                · refine lv_goto (tgt := 418) hx hb d_Law_law_212 rfl ?_
                  have hP := hP.sub (ws' := [(h0, .inr (0, [.ref hr, .int (nI ff), .int (nI (uu + j)), .int (nx + nI j), .long (lN (M1 / 2 ^ j)), .int en, .int (lf - nI j)])), (hr, .inl (cB, 64, .inl r1)), (g0, .inr (1, [.ref gu, .ref gb, .ref gh, .int (nx + nI j), .int (nI (uu + j)), .int ex, .int 0, .int en])), (gu, .inl (cU, 64, .inl un2)), (gb, .inl (cV, 64, .inl ba2)), (gh, .inl (cZ, 64, .inl (hm (M1 / 2 ^ j)))), (ho, .inl (cL, 1, .inr (.inl (vp_updL of 0 (nI j).toInt64))))]) [0, 1, 3, 4, 5, 6, 2] rfl
                  have hD := hD.sub (ws' := [(h0, .inr (0, [.ref hr, .int (nI ff), .int (nI (uu + j)), .int (nx + nI j), .long (lN (M1 / 2 ^ j)), .int en, .int (lf - nI j)])), (hr, .inl (cB, 64, .inl r1)), (g0, .inr (1, [.ref gu, .ref gb, .ref gh, .int (nx + nI j), .int (nI (uu + j)), .int ex, .int 0, .int en])), (gu, .inl (cU, 64, .inl un2)), (gb, .inl (cV, 64, .inl ba2)), (gh, .inl (cZ, 64, .inl (hm (M1 / 2 ^ j)))), (ho, .inl (cL, 1, .inr (.inl (vp_updL of 0 (nI j).toInt64))))]) [0, 1, 3, 4, 5, 6, 2] (by decide) rfl
                  have hK := hK.sub (tys' := [(cB, .byte), (cU, .int), (cV, .int), (cZ, .boolean), (cL, .long)]) [0, 2, 3, 4, 1] rfl
                  refine W.widen (k := 7 + (t + 1)) (n := 272 + 6 * (t + 1)) (by omega) (by omega) ?_
                  refine lv_iinc (v := nI (5 * (t + 1))) hx hb d_Law_law_418 hl (k := 2) rfl (by rw [show 5 * (t + 1) = 5 * t + 5 from by omega, ← nI_add]; rfl) (by decide) rfl (fun ls hl => ?_)
                  have hl : lv_has ls 7 [(4, .int (nI (5 * (t + 1)))), (6, .int (nI j)), (5, .int 0), (3, .ref ho), (2, .ref g0), (1, .ref h0), (0, .ref b)] := hl
                  refine lv_goto (tgt := 23) hx hb d_Law_law_421 rfl ?_
                  exact ih (t + 1) ff (uu + j) (nx + nI j) (M1 / 2 ^ j) en (lf - nI j) r1 ex 0 un2 ba2 (vp_updL of 0 (nI j).toInt64) ls H locs (by omega) (lw_seg hI.1 f2 f3 f4 hI.2.1) (lv_sub hl [0, 3, 4, 5, 6] rfl) hP hD hS
                · exact absurd ((lg_cmp_eq _ _).mpr rfl) h4
            · exact absurd rfl h2
        · refine lv_tableIn (off := 176) (tgt := 215) hx hb d_Law_law_39 (by decide) (by decide) (by decide) rfl ?_
          refine lv_aload_n hx hb d_Law_law_215 rfl (lv_at hl 3 rfl) ?_
          refine lv_aload_n hx hb d_Law_law_216 rfl (lv_at hl 4 rfl) ?_
          refine lv_iload hx hb d_Law_law_217 (lv_at hl 0 rfl) ?_
          refine lv_iconst (v := 1) hx hb d_Law_law_219 (by decide) ?_
          refine lv_iadd hx hb d_Law_law_220 ?_
          refine lv_topi (fun y9 e9 => ?_)
          obtain rfl : y9 = (nI (5 * t + 1) : Int32) := by rw [e9]; exact nI_add _ 1
          refine va_sld hx hb hX hbl hbA hS (vp_in_nI (by omega) (by omega)) d_Law_law_221 ?_
          rw [nI_clamp (by omega)]
          have hPc := hP.sub (ws' := [(h0, .inr (0, [.ref hr, .int (nI ff), .int (nI uu), .int nx, .long (lN M), .int en, .int lf])), (hr, .inl (cB, 64, .inl rg))]) [0, 1] rfl
          have hDc := hD.sub (ws' := [(h0, .inr (0, [.ref hr, .int (nI ff), .int (nI uu), .int nx, .long (lN M), .int en, .int lf])), (hr, .inl (cB, 64, .inl rg))]) [0, 1] (by decide) rfl
          have hKc := hK.sub (tys' := [(cB, .byte)]) [0] rfl
          have hFc := va_free (wc := [(h0, .inr (0, [.ref hr, .int (nI ff), .int (nI uu), .int nx, .long (lN M), .int en, .int lf])), (hr, .inl (cB, 64, .inl rg))]) hD hS hA [0, 1] rfl
          refine va_calli (va_runV (As := [.int (xs (5 * t + 1))]) (rest := []) ⟨hx, hb, hml, hown, hT⟩ (c_Box_end l dC dI h0 hr cB (nI ff) (nI uu) nx M en lf rg H.size (xs (5 * t + 1)) hI.lt ⟨uu, hI.2.1, rfl⟩) (cwV 1 hT (tb_wsV tw_43 tw_44 tw_45 tw_1 tw_46) rfl rfl rfl (by decide +kernel) ⟨Nat.le_of_ble_eq_true rfl, Nat.le_of_ble_eq_true rfl⟩) ⟨we_blind, va_recv hK hP (q0 := 0) rfl rfl, we_at hKc hPc hDc⟩ rfl rfl hl.1 rfl (lv_room (Nat.le_of_ble_eq_true rfl)) d_Law_law_222 ⟨by show _ ≤ 1034; omega, by show _ ≤ 8482; omega⟩) hS (fun q _ h => hFc q h) hFc (fun r5 u9 t9 H1 locs ht hvm hw5 hB hz1 hk1 hS => ?_)
          obtain ⟨eb, lb⟩ := u9
          obtain ⟨hP1, hK1, hD1⟩ := hB
          rw [ht] at hP1
          have hK1 := va_K.moved hvm.symm hK1
          obtain ⟨hP, hD⟩ := va_join (wr := [(g0, .inr (1, [.ref gu, .ref gb, .ref gh, .int nx, .int (nI uu), .int ex, .int th, .int en])), (gu, .inl (cU, 64, .inl un)), (gb, .inl (cV, 64, .inl ba)), (gh, .inl (cZ, 64, .inl (hm M))), (ho, .inl (cL, 1, .inr (.inl of)))]) (w1 := [(h0, .inr (0, [.ref hr, .int (nI ff), .int (nI uu), .int nx, .long (lN M), .int eb, .int lb])), (hr, .inl (cB, 64, .inl rg))]) hP hD [0, 1] [2, 3, 4, 5, 6] rfl rfl (by decide) (by decide) hk1 hFc hP1 hD1
          have hK := (hK.sub (tys' := [(cU, .int), (cV, .int), (cZ, .boolean), (cL, .long)]) [1, 2, 3, 4] rfl).app hK1
          generalize H1 = H at hP hS ⊢
          have hP : va_P (dC, dI) classes [(g0, .inr (1, [.ref gu, .ref gb, .ref gh, .int nx, .int (nI uu), .int ex, .int th, .int en])), (gu, .inl (cU, 64, .inl un)), (gb, .inl (cV, 64, .inl ba)), (gh, .inl (cZ, 64, .inl (hm M))), (ho, .inl (cL, 1, .inr (.inl of))), (h0, .inr (0, [.ref hr, .int (nI ff), .int (nI uu), .int nx, .long (lN M), .int eb, .int lb])), (hr, .inl (cB, 64, .inl rg))] H := hP
          have hD : va_D A [(g0, .inr (1, [.ref gu, .ref gb, .ref gh, .int nx, .int (nI uu), .int ex, .int th, .int en])), (gu, .inl (cU, 64, .inl un)), (gb, .inl (cV, 64, .inl ba)), (gh, .inl (cZ, 64, .inl (hm M))), (ho, .inl (cL, 1, .inr (.inl of))), (h0, .inr (0, [.ref hr, .int (nI ff), .int (nI uu), .int nx, .long (lN M), .int eb, .int lb])), (hr, .inl (cB, 64, .inl rg))] := hD
          have hK : va_K (dC, dI) classes [(cU, .int), (cV, .int), (cZ, .boolean), (cL, .long), (cB, .byte)] s := hK
          refine lv_aload_n hx hb d_Law_law_225 rfl (lv_at hl 2 rfl) ?_
          refine lv_aload_n hx hb d_Law_law_226 rfl (lv_at hl 4 rfl) ?_
          refine lv_iload hx hb d_Law_law_227 (lv_at hl 0 rfl) ?_
          refine lv_iconst (v := 1) hx hb d_Law_law_229 (by decide) ?_
          refine lv_iadd hx hb d_Law_law_230 ?_
          refine lv_topi (fun y9 e9 => ?_)
          obtain rfl : y9 = (nI (5 * t + 1) : Int32) := by rw [e9]; exact nI_add _ 1
          refine va_sld hx hb hX hbl hbA hS (vp_in_nI (by omega) (by omega)) d_Law_law_231 ?_
          rw [nI_clamp (by omega)]
          have hPc := hP.sub (ws' := [(g0, .inr (1, [.ref gu, .ref gb, .ref gh, .int nx, .int (nI uu), .int ex, .int th, .int en])), (gu, .inl (cU, 64, .inl un)), (gb, .inl (cV, 64, .inl ba)), (gh, .inl (cZ, 64, .inl (hm M)))]) [0, 1, 2, 3] rfl
          have hDc := hD.sub (ws' := [(g0, .inr (1, [.ref gu, .ref gb, .ref gh, .int nx, .int (nI uu), .int ex, .int th, .int en])), (gu, .inl (cU, 64, .inl un)), (gb, .inl (cV, 64, .inl ba)), (gh, .inl (cZ, 64, .inl (hm M)))]) [0, 1, 2, 3] (by decide) rfl
          have hKc := hK.sub (tys' := [(cU, .int), (cV, .int), (cZ, .boolean)]) [0, 1, 2] rfl
          have hFc := va_free (wc := [(g0, .inr (1, [.ref gu, .ref gb, .ref gh, .int nx, .int (nI uu), .int ex, .int th, .int en])), (gu, .inl (cU, 64, .inl un)), (gb, .inl (cV, 64, .inl ba)), (gh, .inl (cZ, 64, .inl (hm M)))]) hD hS hA [0, 1, 2, 3] rfl
          refine va_calli (va_runV (As := [.int (xs (5 * t + 1))]) (rest := [.int r5]) ⟨hx, hb, hml, hown, hT⟩ (c_Mod_end l dC dI g0 gu gb gh cU cV cZ nx (nI uu) ex th en un ba M H.size (xs (5 * t + 1)) hI.lt) (cwV 1 hT (tb_wsV tw_225 tw_226 tw_227 tw_2 tw_228) rfl rfl rfl (by decide +kernel) ⟨Nat.le_of_ble_eq_true rfl, Nat.le_of_ble_eq_true rfl⟩) ⟨we_blind, va_recv hK hP (q0 := 0) rfl rfl, we_at hKc hPc hDc⟩ rfl rfl hl.1 rfl (lv_room (Nat.le_of_ble_eq_true rfl)) d_Law_law_232 ⟨by show _ ≤ 1034; omega, by show _ ≤ 8482; omega⟩) hS (fun q _ h => hFc q h) hFc (fun r6 u9 t9 H1 locs ht hvm hw6 hB hz1 hk1 hS => ?_)
          obtain ⟨em, he2⟩ := u9
          obtain ⟨hP1, hK1, hD1⟩ := hB
          rw [ht] at hP1
          have hK1 := va_K.moved hvm.symm hK1
          obtain ⟨hP, hD⟩ := va_join (wr := [(ho, .inl (cL, 1, .inr (.inl of))), (h0, .inr (0, [.ref hr, .int (nI ff), .int (nI uu), .int nx, .long (lN M), .int eb, .int lb])), (hr, .inl (cB, 64, .inl rg))]) (w1 := [(g0, .inr (1, [.ref gu, .ref gb, .ref gh, .int nx, .int (nI uu), .int em, .int 0, .int he2])), (gu, .inl (cU, 64, .inl un)), (gb, .inl (cV, 64, .inl ba)), (gh, .inl (cZ, 64, .inl (hm M)))]) hP hD [0, 1, 2, 3] [4, 5, 6] rfl rfl (by decide) (by decide) hk1 hFc hP1 hD1
          have hK := (hK.sub (tys' := [(cL, .long), (cB, .byte)]) [3, 4] rfl).app hK1
          generalize H1 = H at hP hS ⊢
          have hP : va_P (dC, dI) classes [(ho, .inl (cL, 1, .inr (.inl of))), (h0, .inr (0, [.ref hr, .int (nI ff), .int (nI uu), .int nx, .long (lN M), .int eb, .int lb])), (hr, .inl (cB, 64, .inl rg)), (g0, .inr (1, [.ref gu, .ref gb, .ref gh, .int nx, .int (nI uu), .int em, .int 0, .int he2])), (gu, .inl (cU, 64, .inl un)), (gb, .inl (cV, 64, .inl ba)), (gh, .inl (cZ, 64, .inl (hm M)))] H := hP
          have hD : va_D A [(ho, .inl (cL, 1, .inr (.inl of))), (h0, .inr (0, [.ref hr, .int (nI ff), .int (nI uu), .int nx, .long (lN M), .int eb, .int lb])), (hr, .inl (cB, 64, .inl rg)), (g0, .inr (1, [.ref gu, .ref gb, .ref gh, .int nx, .int (nI uu), .int em, .int 0, .int he2])), (gu, .inl (cU, 64, .inl un)), (gb, .inl (cV, 64, .inl ba)), (gh, .inl (cZ, 64, .inl (hm M)))] := hD
          have hK : va_K (dC, dI) classes [(cL, .long), (cB, .byte), (cU, .int), (cV, .int), (cZ, .boolean)] s := hK
          have key : r5 = r6 ∧ eb = he2 ∧ lw_I ff uu nx eb lb em M rg un ba := by
            rcases hw5 with ⟨a1, a2, a3⟩ | ⟨a1, a2, a3⟩
            · rcases hw6 with ⟨b1, b2, b3⟩ | ⟨b1, b2, b3⟩
              · cases a3; cases b3; exact ⟨a1.trans b1.symm, rfl, lw_end hI a2⟩
              · exact absurd a2 b2
            · rcases hw6 with ⟨b1, b2, b3⟩ | ⟨b1, b2, b3⟩
              · exact absurd b2 a2
              · cases a3; cases b3; exact ⟨a1.trans b1.symm, rfl, hI⟩
          clear hw5 hw6
          obtain ⟨rfl, rfl, hI2⟩ := key
          refine lv_icmp_eq (tgt := 418) hx hb d_Law_law_235 rfl (fun h2 => ?_) (fun h2 => ?_)
          · have hP := hP.sub (ws' := [(h0, .inr (0, [.ref hr, .int (nI ff), .int (nI uu), .int nx, .long (lN M), .int eb, .int lb])), (hr, .inl (cB, 64, .inl rg)), (g0, .inr (1, [.ref gu, .ref gb, .ref gh, .int nx, .int (nI uu), .int em, .int 0, .int eb])), (gu, .inl (cU, 64, .inl un)), (gb, .inl (cV, 64, .inl ba)), (gh, .inl (cZ, 64, .inl (hm M))), (ho, .inl (cL, 1, .inr (.inl of)))]) [1, 2, 3, 4, 5, 6, 0] rfl
            have hD := hD.sub (ws' := [(h0, .inr (0, [.ref hr, .int (nI ff), .int (nI uu), .int nx, .long (lN M), .int eb, .int lb])), (hr, .inl (cB, 64, .inl rg)), (g0, .inr (1, [.ref gu, .ref gb, .ref gh, .int nx, .int (nI uu), .int em, .int 0, .int eb])), (gu, .inl (cU, 64, .inl un)), (gb, .inl (cV, 64, .inl ba)), (gh, .inl (cZ, 64, .inl (hm M))), (ho, .inl (cL, 1, .inr (.inl of)))]) [1, 2, 3, 4, 5, 6, 0] (by decide) rfl
            have hK := hK.sub (tys' := [(cB, .byte), (cU, .int), (cV, .int), (cZ, .boolean), (cL, .long)]) [1, 2, 3, 4, 0] rfl
            refine W.widen (k := 7 + (t + 1)) (n := 272 + 6 * (t + 1)) (by omega) (by omega) ?_
            refine lv_iinc (v := nI (5 * (t + 1))) hx hb d_Law_law_418 hl (k := 0) rfl (by rw [show 5 * (t + 1) = 5 * t + 5 from by omega, ← nI_add]; rfl) (by decide) rfl (fun ls hl => ?_)
            have hl : lv_has ls 7 [(4, .int (nI (5 * (t + 1)))), (3, .ref ho), (2, .ref g0), (1, .ref h0), (0, .ref b)] := hl
            refine lv_goto (tgt := 23) hx hb d_Law_law_421 rfl ?_
            exact ih (t + 1) ff uu nx M eb lb rg em 0 un ba of ls H locs (by omega) (hI2) (lv_sub hl [0, 1, 2, 3, 4] rfl) hP hD hS
          · exact absurd rfl h2
        · refine lv_tableIn (off := 201) (tgt := 240) hx hb d_Law_law_39 (by decide) (by decide) (by decide) rfl ?_
          obtain rfl | ⟨u0, rfl⟩ : uu = 0 ∨ ∃ v, uu = v + 1 := by cases uu with | zero => exact Or.inl rfl | succ v => exact Or.inr ⟨v, rfl⟩
          · have hP : va_P (dC, dI) classes [(h0, .inr (0, [.ref hr, .int (nI ff), .int 0, .int nx, .long (lN M), .int en, .int lf])), (hr, .inl (cB, 64, .inl rg)), (g0, .inr (1, [.ref gu, .ref gb, .ref gh, .int nx, .int 0, .int ex, .int th, .int en])), (gu, .inl (cU, 64, .inl un)), (gb, .inl (cV, 64, .inl ba)), (gh, .inl (cZ, 64, .inl (hm M))), (ho, .inl (cL, 1, .inr (.inl of)))] H := hP
            have hD : va_D A [(h0, .inr (0, [.ref hr, .int (nI ff), .int 0, .int nx, .long (lN M), .int en, .int lf])), (hr, .inl (cB, 64, .inl rg)), (g0, .inr (1, [.ref gu, .ref gb, .ref gh, .int nx, .int 0, .int ex, .int th, .int en])), (gu, .inl (cU, 64, .inl un)), (gb, .inl (cV, 64, .inl ba)), (gh, .inl (cZ, 64, .inl (hm M))), (ho, .inl (cL, 1, .inr (.inl of)))] := hD
            refine lv_aload_n hx hb d_Law_law_240 rfl (lv_at hl 3 rfl) ?_
            have hPc := hP.sub (ws' := [(h0, .inr (0, [.ref hr, .int (nI ff), .int 0, .int nx, .long (lN M), .int en, .int lf])), (hr, .inl (cB, 64, .inl rg))]) [0, 1] rfl
            have hKc := hK.sub (tys' := [(cB, .byte)]) [0] rfl
            refine vp_callSi (W.runV (As := []) (rest := []) ⟨hx, hb, hml, hown, hT⟩ (c_Box_read_0 l dC dI h0 hr cB (nI ff) nx M en lf rg) (cwV 0 hT (tb_wsV tw_51 tw_52 tw_53 tw_1 tw_54) rfl rfl rfl (by decide +kernel) ⟨Nat.le_of_ble_eq_true rfl, Nat.le_of_ble_eq_true rfl⟩) ⟨wd_blind, va_recv hK hP (q0 := 0) rfl rfl, wd_at hKc hPc⟩ rfl rfl hl.1 rfl (lv_room (Nat.le_of_ble_eq_true rfl)) d_Law_law_241 ⟨by show _ ≤ 1034; omega, by show _ ≤ 8482; omega⟩) (fun r5 hw5 => ?_)
            refine lv_aload_n hx hb d_Law_law_244 rfl (lv_at hl 2 rfl) ?_
            have hPc := hP.sub (ws' := [(g0, .inr (1, [.ref gu, .ref gb, .ref gh, .int nx, .int 0, .int ex, .int th, .int en])), (gu, .inl (cU, 64, .inl un)), (gb, .inl (cV, 64, .inl ba)), (gh, .inl (cZ, 64, .inl (hm M)))]) [2, 3, 4, 5] rfl
            have hDc := hD.sub (ws' := [(g0, .inr (1, [.ref gu, .ref gb, .ref gh, .int nx, .int 0, .int ex, .int th, .int en])), (gu, .inl (cU, 64, .inl un)), (gb, .inl (cV, 64, .inl ba)), (gh, .inl (cZ, 64, .inl (hm M)))]) [2, 3, 4, 5] (by decide) rfl
            have hKc := hK.sub (tys' := [(cU, .int), (cV, .int), (cZ, .boolean)]) [1, 2, 3] rfl
            have hFc := va_free (wc := [(g0, .inr (1, [.ref gu, .ref gb, .ref gh, .int nx, .int 0, .int ex, .int th, .int en])), (gu, .inl (cU, 64, .inl un)), (gb, .inl (cV, 64, .inl ba)), (gh, .inl (cZ, 64, .inl (hm M)))]) hD hS hA [2, 3, 4, 5] rfl
            refine va_calli (va_runV (As := []) (rest := [.int r5]) ⟨hx, hb, hml, hown, hT⟩ (c_Mod_read_0 l dC dI g0 gu gb gh cU cV cZ nx ex th en un ba M H.size ) (cwV 0 hT (tb_wsV tw_229 tw_230 tw_231 tw_2 tw_232) rfl rfl rfl (by decide +kernel) ⟨Nat.le_of_ble_eq_true rfl, Nat.le_of_ble_eq_true rfl⟩) ⟨we_blind, va_recv hK hP (q0 := 2) rfl rfl, we_at hKc hPc hDc⟩ rfl rfl hl.1 rfl (lv_room (Nat.le_of_ble_eq_true rfl)) d_Law_law_245 ⟨by show _ ≤ 1034; omega, by show _ ≤ 8482; omega⟩) hS (fun q _ h => hFc q h) hFc (fun r6 u9 t9 H1 locs ht hvm hw6 hB hz1 hk1 hS => ?_)
            obtain ⟨hP1, hK1, hD1⟩ := hB
            rw [ht] at hP1
            have hK1 := va_K.moved hvm.symm hK1
            obtain ⟨hP, hD⟩ := va_join (wr := [(h0, .inr (0, [.ref hr, .int (nI ff), .int 0, .int nx, .long (lN M), .int en, .int lf])), (hr, .inl (cB, 64, .inl rg)), (ho, .inl (cL, 1, .inr (.inl of)))]) (w1 := [(g0, .inr (1, [.ref gu, .ref gb, .ref gh, .int nx, .int 0, .int ex, .int 0, .int en])), (gu, .inl (cU, 64, .inl un)), (gb, .inl (cV, 64, .inl ba)), (gh, .inl (cZ, 64, .inl (hm M)))]) hP hD [2, 3, 4, 5] [0, 1, 6] rfl rfl (by decide) (by decide) hk1 hFc hP1 hD1
            have hK := (hK.sub (tys' := [(cB, .byte), (cL, .long)]) [0, 4] rfl).app hK1
            generalize H1 = H at hP hS ⊢
            have hP : va_P (dC, dI) classes [(h0, .inr (0, [.ref hr, .int (nI ff), .int 0, .int nx, .long (lN M), .int en, .int lf])), (hr, .inl (cB, 64, .inl rg)), (ho, .inl (cL, 1, .inr (.inl of))), (g0, .inr (1, [.ref gu, .ref gb, .ref gh, .int nx, .int 0, .int ex, .int 0, .int en])), (gu, .inl (cU, 64, .inl un)), (gb, .inl (cV, 64, .inl ba)), (gh, .inl (cZ, 64, .inl (hm M)))] H := hP
            have hD : va_D A [(h0, .inr (0, [.ref hr, .int (nI ff), .int 0, .int nx, .long (lN M), .int en, .int lf])), (hr, .inl (cB, 64, .inl rg)), (ho, .inl (cL, 1, .inr (.inl of))), (g0, .inr (1, [.ref gu, .ref gb, .ref gh, .int nx, .int 0, .int ex, .int 0, .int en])), (gu, .inl (cU, 64, .inl un)), (gb, .inl (cV, 64, .inl ba)), (gh, .inl (cZ, 64, .inl (hm M)))] := hD
            have hK : va_K (dC, dI) classes [(cB, .byte), (cL, .long), (cU, .int), (cV, .int), (cZ, .boolean)] s := hK
            have key : r5 = r6 := by
              rcases hw5 with ⟨a1, a2⟩ | ⟨a1, a2⟩
              · rcases hw6 with ⟨b1, b2⟩ | ⟨b1, b2⟩
                · rw [a1, b1]
                · exact absurd ((lw_read0 hI).mp a2) b2
              · rcases hw6 with ⟨b1, b2⟩ | ⟨b1, b2⟩
                · exact absurd ((lw_read0 hI).mpr b2) a2
                · rw [a1, b1]
            refine lv_icmp_eq (tgt := 418) hx hb d_Law_law_248 rfl (fun h2 => ?_) (fun h2 => ?_)
            · have hP := hP.sub (ws' := [(h0, .inr (0, [.ref hr, .int (nI ff), .int 0, .int nx, .long (lN M), .int en, .int lf])), (hr, .inl (cB, 64, .inl rg)), (g0, .inr (1, [.ref gu, .ref gb, .ref gh, .int nx, .int 0, .int ex, .int 0, .int en])), (gu, .inl (cU, 64, .inl un)), (gb, .inl (cV, 64, .inl ba)), (gh, .inl (cZ, 64, .inl (hm M))), (ho, .inl (cL, 1, .inr (.inl of)))]) [0, 1, 3, 4, 5, 6, 2] rfl
              have hD := hD.sub (ws' := [(h0, .inr (0, [.ref hr, .int (nI ff), .int 0, .int nx, .long (lN M), .int en, .int lf])), (hr, .inl (cB, 64, .inl rg)), (g0, .inr (1, [.ref gu, .ref gb, .ref gh, .int nx, .int 0, .int ex, .int 0, .int en])), (gu, .inl (cU, 64, .inl un)), (gb, .inl (cV, 64, .inl ba)), (gh, .inl (cZ, 64, .inl (hm M))), (ho, .inl (cL, 1, .inr (.inl of)))]) [0, 1, 3, 4, 5, 6, 2] (by decide) rfl
              have hK := hK.sub (tys' := [(cB, .byte), (cU, .int), (cV, .int), (cZ, .boolean), (cL, .long)]) [0, 2, 3, 4, 1] rfl
              refine W.widen (k := 7 + (t + 1)) (n := 272 + 6 * (t + 1)) (by omega) (by omega) ?_
              refine lv_iinc (v := nI (5 * (t + 1))) hx hb d_Law_law_418 hl (k := 0) rfl (by rw [show 5 * (t + 1) = 5 * t + 5 from by omega, ← nI_add]; rfl) (by decide) rfl (fun ls hl => ?_)
              have hl : lv_has ls 7 [(4, .int (nI (5 * (t + 1)))), (3, .ref ho), (2, .ref g0), (1, .ref h0), (0, .ref b)] := hl
              refine lv_goto (tgt := 23) hx hb d_Law_law_421 rfl ?_
              exact ih (t + 1) ff 0 nx M en lf rg ex 0 un ba of ls H locs (by omega) (hI) (lv_sub hl [0, 1, 2, 3, 4] rfl) hP hD hS
            · exact absurd key h2
          · refine lv_aload_n hx hb d_Law_law_240 rfl (lv_at hl 3 rfl) ?_
            have hPc := hP.sub (ws' := [(h0, .inr (0, [.ref hr, .int (nI ff), .int (nI (u0 + 1)), .int nx, .long (lN M), .int en, .int lf])), (hr, .inl (cB, 64, .inl rg))]) [0, 1] rfl
            have hDc := hD.sub (ws' := [(h0, .inr (0, [.ref hr, .int (nI ff), .int (nI (u0 + 1)), .int nx, .long (lN M), .int en, .int lf])), (hr, .inl (cB, 64, .inl rg))]) [0, 1] (by decide) rfl
            have hKc := hK.sub (tys' := [(cB, .byte)]) [0] rfl
            have hFc := va_free (wc := [(h0, .inr (0, [.ref hr, .int (nI ff), .int (nI (u0 + 1)), .int nx, .long (lN M), .int en, .int lf])), (hr, .inl (cB, 64, .inl rg))]) hD hS hA [0, 1] rfl
            refine va_calli (va_runV (As := []) (rest := []) ⟨hx, hb, hml, hown, hT⟩ (c_Box_read_1 l dC dI h0 hr cB ff u0 nx M en lf rg H.size hI.1 (by have := hI.2.1; omega)) (cwV 0 hT (tb_wsV tw_51 tw_52 tw_53 tw_1 tw_54) rfl rfl rfl (by decide +kernel) ⟨Nat.le_of_ble_eq_true rfl, Nat.le_of_ble_eq_true rfl⟩) ⟨we_blind, va_recv hK hP (q0 := 0) rfl rfl, we_at hKc hPc hDc⟩ rfl rfl hl.1 rfl (lv_room (Nat.le_of_ble_eq_true rfl)) d_Law_law_241 ⟨by show _ ≤ 1034; omega, by show _ ≤ 8482; omega⟩) hS (fun q _ h => hFc q h) hFc (fun r5 u9 t9 H1 locs ht hvm hw5 hB hz1 hk1 hS => ?_)
            obtain ⟨hP1, hK1, hD1⟩ := hB
            rw [ht] at hP1
            have hK1 := va_K.moved hvm.symm hK1
            obtain ⟨hP, hD⟩ := va_join (wr := [(g0, .inr (1, [.ref gu, .ref gb, .ref gh, .int nx, .int (nI (u0 + 1)), .int ex, .int th, .int en])), (gu, .inl (cU, 64, .inl un)), (gb, .inl (cV, 64, .inl ba)), (gh, .inl (cZ, 64, .inl (hm M))), (ho, .inl (cL, 1, .inr (.inl of)))]) (w1 := [(h0, .inr (0, [.ref hr, .int (nI ((ff + 1) % 64)), .int (nI u0), .int nx, .long (lN M), .int en, .int lf])), (hr, .inl (cB, 64, .inl rg))]) hP hD [0, 1] [2, 3, 4, 5, 6] rfl rfl (by decide) (by decide) hk1 hFc hP1 hD1
            have hK := (hK.sub (tys' := [(cU, .int), (cV, .int), (cZ, .boolean), (cL, .long)]) [1, 2, 3, 4] rfl).app hK1
            generalize H1 = H at hP hS ⊢
            have hP : va_P (dC, dI) classes [(g0, .inr (1, [.ref gu, .ref gb, .ref gh, .int nx, .int (nI (u0 + 1)), .int ex, .int th, .int en])), (gu, .inl (cU, 64, .inl un)), (gb, .inl (cV, 64, .inl ba)), (gh, .inl (cZ, 64, .inl (hm M))), (ho, .inl (cL, 1, .inr (.inl of))), (h0, .inr (0, [.ref hr, .int (nI ((ff + 1) % 64)), .int (nI u0), .int nx, .long (lN M), .int en, .int lf])), (hr, .inl (cB, 64, .inl rg))] H := hP
            have hD : va_D A [(g0, .inr (1, [.ref gu, .ref gb, .ref gh, .int nx, .int (nI (u0 + 1)), .int ex, .int th, .int en])), (gu, .inl (cU, 64, .inl un)), (gb, .inl (cV, 64, .inl ba)), (gh, .inl (cZ, 64, .inl (hm M))), (ho, .inl (cL, 1, .inr (.inl of))), (h0, .inr (0, [.ref hr, .int (nI ((ff + 1) % 64)), .int (nI u0), .int nx, .long (lN M), .int en, .int lf])), (hr, .inl (cB, 64, .inl rg))] := hD
            have hK : va_K (dC, dI) classes [(cU, .int), (cV, .int), (cZ, .boolean), (cL, .long), (cB, .byte)] s := hK
            refine lv_aload_n hx hb d_Law_law_244 rfl (lv_at hl 2 rfl) ?_
            have hPc := hP.sub (ws' := [(g0, .inr (1, [.ref gu, .ref gb, .ref gh, .int nx, .int (nI (u0 + 1)), .int ex, .int th, .int en])), (gu, .inl (cU, 64, .inl un)), (gb, .inl (cV, 64, .inl ba)), (gh, .inl (cZ, 64, .inl (hm M)))]) [0, 1, 2, 3] rfl
            have hDc := hD.sub (ws' := [(g0, .inr (1, [.ref gu, .ref gb, .ref gh, .int nx, .int (nI (u0 + 1)), .int ex, .int th, .int en])), (gu, .inl (cU, 64, .inl un)), (gb, .inl (cV, 64, .inl ba)), (gh, .inl (cZ, 64, .inl (hm M)))]) [0, 1, 2, 3] (by decide) rfl
            have hKc := hK.sub (tys' := [(cU, .int), (cV, .int), (cZ, .boolean)]) [0, 1, 2] rfl
            have hFc := va_free (wc := [(g0, .inr (1, [.ref gu, .ref gb, .ref gh, .int nx, .int (nI (u0 + 1)), .int ex, .int th, .int en])), (gu, .inl (cU, 64, .inl un)), (gb, .inl (cV, 64, .inl ba)), (gh, .inl (cZ, 64, .inl (hm M)))]) hD hS hA [0, 1, 2, 3] rfl
            refine va_calli (va_runV (As := []) (rest := [.int r5]) ⟨hx, hb, hml, hown, hT⟩ (c_Mod_read_1 l dC dI g0 gu gb gh cU cV cZ nx u0 ex th en un ba M H.size (by have := hI.2.1; omega)) (cwV 0 hT (tb_wsV tw_229 tw_230 tw_231 tw_2 tw_232) rfl rfl rfl (by decide +kernel) ⟨Nat.le_of_ble_eq_true rfl, Nat.le_of_ble_eq_true rfl⟩) ⟨we_blind, va_recv hK hP (q0 := 0) rfl rfl, we_at hKc hPc hDc⟩ rfl rfl hl.1 rfl (lv_room (Nat.le_of_ble_eq_true rfl)) d_Law_law_245 ⟨by show _ ≤ 1034; omega, by show _ ≤ 8482; omega⟩) hS (fun q _ h => hFc q h) hFc (fun r6 u9 t9 H1 locs ht hvm hw6 hB hz1 hk1 hS => ?_)
            obtain ⟨hP1, hK1, hD1⟩ := hB
            rw [ht] at hP1
            have hK1 := va_K.moved hvm.symm hK1
            obtain ⟨hP, hD⟩ := va_join (wr := [(ho, .inl (cL, 1, .inr (.inl of))), (h0, .inr (0, [.ref hr, .int (nI ((ff + 1) % 64)), .int (nI u0), .int nx, .long (lN M), .int en, .int lf])), (hr, .inl (cB, 64, .inl rg))]) (w1 := [(g0, .inr (1, [.ref gu, .ref gb, .ref gh, .int nx, .int (nI u0), .int ex, .int 0, .int en])), (gu, .inl (cU, 64, .inl (md_sh un u0))), (gb, .inl (cV, 64, .inl ba)), (gh, .inl (cZ, 64, .inl (hm M)))]) hP hD [0, 1, 2, 3] [4, 5, 6] rfl rfl (by decide) (by decide) hk1 hFc hP1 hD1
            have hK := (hK.sub (tys' := [(cL, .long), (cB, .byte)]) [3, 4] rfl).app hK1
            generalize H1 = H at hP hS ⊢
            have hP : va_P (dC, dI) classes [(ho, .inl (cL, 1, .inr (.inl of))), (h0, .inr (0, [.ref hr, .int (nI ((ff + 1) % 64)), .int (nI u0), .int nx, .long (lN M), .int en, .int lf])), (hr, .inl (cB, 64, .inl rg)), (g0, .inr (1, [.ref gu, .ref gb, .ref gh, .int nx, .int (nI u0), .int ex, .int 0, .int en])), (gu, .inl (cU, 64, .inl (md_sh un u0))), (gb, .inl (cV, 64, .inl ba)), (gh, .inl (cZ, 64, .inl (hm M)))] H := hP
            have hD : va_D A [(ho, .inl (cL, 1, .inr (.inl of))), (h0, .inr (0, [.ref hr, .int (nI ((ff + 1) % 64)), .int (nI u0), .int nx, .long (lN M), .int en, .int lf])), (hr, .inl (cB, 64, .inl rg)), (g0, .inr (1, [.ref gu, .ref gb, .ref gh, .int nx, .int (nI u0), .int ex, .int 0, .int en])), (gu, .inl (cU, 64, .inl (md_sh un u0))), (gb, .inl (cV, 64, .inl ba)), (gh, .inl (cZ, 64, .inl (hm M)))] := hD
            have hK : va_K (dC, dI) classes [(cL, .long), (cB, .byte), (cU, .int), (cV, .int), (cZ, .boolean)] s := hK
            have key : r5 = r6 := by rw [hw5, hw6, lw_byte hI]
            refine lv_icmp_eq (tgt := 418) hx hb d_Law_law_248 rfl (fun h2 => ?_) (fun h2 => ?_)
            · have hP := hP.sub (ws' := [(h0, .inr (0, [.ref hr, .int (nI ((ff + 1) % 64)), .int (nI u0), .int nx, .long (lN M), .int en, .int lf])), (hr, .inl (cB, 64, .inl rg)), (g0, .inr (1, [.ref gu, .ref gb, .ref gh, .int nx, .int (nI u0), .int ex, .int 0, .int en])), (gu, .inl (cU, 64, .inl (md_sh un u0))), (gb, .inl (cV, 64, .inl ba)), (gh, .inl (cZ, 64, .inl (hm M))), (ho, .inl (cL, 1, .inr (.inl of)))]) [1, 2, 3, 4, 5, 6, 0] rfl
              have hD := hD.sub (ws' := [(h0, .inr (0, [.ref hr, .int (nI ((ff + 1) % 64)), .int (nI u0), .int nx, .long (lN M), .int en, .int lf])), (hr, .inl (cB, 64, .inl rg)), (g0, .inr (1, [.ref gu, .ref gb, .ref gh, .int nx, .int (nI u0), .int ex, .int 0, .int en])), (gu, .inl (cU, 64, .inl (md_sh un u0))), (gb, .inl (cV, 64, .inl ba)), (gh, .inl (cZ, 64, .inl (hm M))), (ho, .inl (cL, 1, .inr (.inl of)))]) [1, 2, 3, 4, 5, 6, 0] (by decide) rfl
              have hK := hK.sub (tys' := [(cB, .byte), (cU, .int), (cV, .int), (cZ, .boolean), (cL, .long)]) [1, 2, 3, 4, 0] rfl
              refine W.widen (k := 7 + (t + 1)) (n := 272 + 6 * (t + 1)) (by omega) (by omega) ?_
              refine lv_iinc (v := nI (5 * (t + 1))) hx hb d_Law_law_418 hl (k := 0) rfl (by rw [show 5 * (t + 1) = 5 * t + 5 from by omega, ← nI_add]; rfl) (by decide) rfl (fun ls hl => ?_)
              have hl : lv_has ls 7 [(4, .int (nI (5 * (t + 1)))), (3, .ref ho), (2, .ref g0), (1, .ref h0), (0, .ref b)] := hl
              refine lv_goto (tgt := 23) hx hb d_Law_law_421 rfl ?_
              exact ih (t + 1) ((ff + 1) % 64) u0 nx M en lf rg ex 0 (md_sh un u0) ba of ls H locs (by omega) (lw_read hI) (lv_sub hl [0, 1, 2, 3, 4] rfl) hP hD hS
            · exact absurd key h2
        · refine lv_tableIn (off := 214) (tgt := 253) hx hb d_Law_law_39 (by decide) (by decide) (by decide) rfl ?_
          refine lv_aload_n hx hb d_Law_law_253 rfl (lv_at hl 3 rfl) ?_
          refine lv_aload_n hx hb d_Law_law_254 rfl (lv_at hl 4 rfl) ?_
          refine lv_iload hx hb d_Law_law_255 (lv_at hl 0 rfl) ?_
          refine lv_iconst (v := 1) hx hb d_Law_law_257 (by decide) ?_
          refine lv_iadd hx hb d_Law_law_258 ?_
          refine lv_topi (fun y9 e9 => ?_)
          obtain rfl : y9 = (nI (5 * t + 1) : Int32) := by rw [e9]; exact nI_add _ 1
          refine va_sld hx hb hX hbl hbA hS (vp_in_nI (by omega) (by omega)) d_Law_law_259 ?_
          rw [nI_clamp (by omega)]
          refine lv_aload_n hx hb d_Law_law_260 rfl (lv_at hl 1 rfl) ?_
          by_cases hk : xs (5 * t + 1) < 0 ∨ 5 < xs (5 * t + 1)
          · have hPc := hP.sub (ws' := [(h0, .inr (0, [.ref hr, .int (nI ff), .int (nI uu), .int nx, .long (lN M), .int en, .int lf])), (hr, .inl (cB, 64, .inl rg)), (ho, .inl (cL, 1, .inr (.inl of)))]) [0, 1, 6] rfl
            have hDc := hD.sub (ws' := [(h0, .inr (0, [.ref hr, .int (nI ff), .int (nI uu), .int nx, .long (lN M), .int en, .int lf])), (hr, .inl (cB, 64, .inl rg)), (ho, .inl (cL, 1, .inr (.inl of)))]) [0, 1, 6] (by decide) rfl
            have hKc := hK.sub (tys' := [(cB, .byte), (cL, .long)]) [0, 4] rfl
            have hFc := va_free (wc := [(h0, .inr (0, [.ref hr, .int (nI ff), .int (nI uu), .int nx, .long (lN M), .int en, .int lf])), (hr, .inl (cB, 64, .inl rg)), (ho, .inl (cL, 1, .inr (.inl of)))]) hD hS hA [0, 1, 6] rfl
            refine va_calli (kx_runSW (n := 3) (As := [.ref h0, .int (xs (5 * t + 1)), .ref ho]) (rest := []) ⟨hx, hb, hml, hown, hT⟩ (c_Law_told_0 l hfl dC dI h0 hr ho cB cL (nI ff) (nI uu) nx M en lf rg of H.size (xs (5 * t + 1)) (lw_t5 hk)) rfl (tb_good (tb_cons tw_135)) rfl rfl ⟨Nat.le_of_ble_eq_true rfl, Nat.le_of_ble_eq_true rfl⟩ (hT _ tw_0) (hT _ tw_133) (hT _ tw_134) (by decide +kernel) ⟨wv_blind, wv_at hth_IA (fun q h9 => hS.2.1 q h9 (by rw [hAe]; exact Nat.not_le.mpr h9)) hKc hPc hDc⟩ rfl rfl hl.1 rfl (lv_room (Nat.le_of_ble_eq_true rfl)) d_Law_law_261 ⟨by show _ ≤ 1034; omega, by show _ ≤ 8482; omega⟩) hS (fun q _ h => hFc q h) hFc (fun r5 u9 t9 H1 locs ht hvm hw5 hB hz1 hk1 hS => ?_)
            obtain ⟨hP1, hK1, hD1⟩ := hB
            rw [ht] at hP1
            have hK1 := va_K.moved hvm.symm hK1
            obtain ⟨hP, hD⟩ := va_join (wr := [(g0, .inr (1, [.ref gu, .ref gb, .ref gh, .int nx, .int (nI uu), .int ex, .int th, .int en])), (gu, .inl (cU, 64, .inl un)), (gb, .inl (cV, 64, .inl ba)), (gh, .inl (cZ, 64, .inl (hm M)))]) (w1 := [(h0, .inr (0, [.ref hr, .int (nI ff), .int (nI uu), .int nx, .long (lN M), .int en, .int lf])), (hr, .inl (cB, 64, .inl rg)), (ho, .inl (cL, 1, .inr (.inl of)))]) hP hD [0, 1, 6] [2, 3, 4, 5] rfl rfl (by decide) (by decide) hk1 hFc hP1 hD1
            have hK := (hK.sub (tys' := [(cU, .int), (cV, .int), (cZ, .boolean)]) [1, 2, 3] rfl).app hK1
            generalize H1 = H at hP hS ⊢
            have hP : va_P (dC, dI) classes [(g0, .inr (1, [.ref gu, .ref gb, .ref gh, .int nx, .int (nI uu), .int ex, .int th, .int en])), (gu, .inl (cU, 64, .inl un)), (gb, .inl (cV, 64, .inl ba)), (gh, .inl (cZ, 64, .inl (hm M))), (h0, .inr (0, [.ref hr, .int (nI ff), .int (nI uu), .int nx, .long (lN M), .int en, .int lf])), (hr, .inl (cB, 64, .inl rg)), (ho, .inl (cL, 1, .inr (.inl of)))] H := hP
            have hD : va_D A [(g0, .inr (1, [.ref gu, .ref gb, .ref gh, .int nx, .int (nI uu), .int ex, .int th, .int en])), (gu, .inl (cU, 64, .inl un)), (gb, .inl (cV, 64, .inl ba)), (gh, .inl (cZ, 64, .inl (hm M))), (h0, .inr (0, [.ref hr, .int (nI ff), .int (nI uu), .int nx, .long (lN M), .int en, .int lf])), (hr, .inl (cB, 64, .inl rg)), (ho, .inl (cL, 1, .inr (.inl of)))] := hD
            have hK : va_K (dC, dI) classes [(cU, .int), (cV, .int), (cZ, .boolean), (cB, .byte), (cL, .long)] s := hK
            subst hw5
            refine lv_istore hx hb d_Law_law_264 hl (by decide) rfl (fun ls hl => ?_)
            have hl : lv_has ls 7 [(5, .int 1), (4, .int (nI (5 * t))), (3, .ref ho), (2, .ref g0), (1, .ref h0), (0, .ref b)] := hl
            refine lv_aload_n hx hb d_Law_law_266 rfl (lv_at hl 3 rfl) ?_
            refine lv_aload_n hx hb d_Law_law_267 rfl (lv_at hl 5 rfl) ?_
            refine lv_iload hx hb d_Law_law_268 (lv_at hl 1 rfl) ?_
            refine lv_iconst (v := 1) hx hb d_Law_law_270 (by decide) ?_
            refine lv_iadd hx hb d_Law_law_271 ?_
            refine lv_topi (fun y9 e9 => ?_)
            obtain rfl : y9 = (nI (5 * t + 1) : Int32) := by rw [e9]; exact nI_add _ 1
            refine va_sld hx hb hX hbl hbA hS (vp_in_nI (by omega) (by omega)) d_Law_law_272 ?_
            rw [nI_clamp (by omega)]
            have hPc := hP.sub (ws' := [(g0, .inr (1, [.ref gu, .ref gb, .ref gh, .int nx, .int (nI uu), .int ex, .int th, .int en])), (gu, .inl (cU, 64, .inl un)), (gb, .inl (cV, 64, .inl ba)), (gh, .inl (cZ, 64, .inl (hm M)))]) [0, 1, 2, 3] rfl
            have hDc := hD.sub (ws' := [(g0, .inr (1, [.ref gu, .ref gb, .ref gh, .int nx, .int (nI uu), .int ex, .int th, .int en])), (gu, .inl (cU, 64, .inl un)), (gb, .inl (cV, 64, .inl ba)), (gh, .inl (cZ, 64, .inl (hm M)))]) [0, 1, 2, 3] (by decide) rfl
            have hKc := hK.sub (tys' := [(cU, .int), (cV, .int), (cZ, .boolean)]) [0, 1, 2] rfl
            have hFc := va_free (wc := [(g0, .inr (1, [.ref gu, .ref gb, .ref gh, .int nx, .int (nI uu), .int ex, .int th, .int en])), (gu, .inl (cU, 64, .inl un)), (gb, .inl (cV, 64, .inl ba)), (gh, .inl (cZ, 64, .inl (hm M)))]) hD hS hA [0, 1, 2, 3] rfl
            refine va_calli (va_runV (As := [.int (xs (5 * t + 1))]) (rest := []) ⟨hx, hb, hml, hown, hT⟩ (c_Mod_told_0 l dC dI g0 gu gb gh cU cV cZ nx (nI uu) ex th en un ba M H.size (xs (5 * t + 1)) hk) (cwV 1 hT (tb_wsV tw_233 tw_234 tw_235 tw_2 tw_236) rfl rfl rfl (by decide +kernel) ⟨Nat.le_of_ble_eq_true rfl, Nat.le_of_ble_eq_true rfl⟩) ⟨we_blind, va_recv hK hP (q0 := 0) rfl rfl, we_at hKc hPc hDc⟩ rfl rfl hl.1 rfl (lv_room (Nat.le_of_ble_eq_true rfl)) d_Law_law_273 ⟨by show _ ≤ 1034; omega, by show _ ≤ 8482; omega⟩) hS (fun q _ h => hFc q h) hFc (fun r6 u9 t9 H1 locs ht hvm hw6 hB hz1 hk1 hS => ?_)
            obtain ⟨hP1, hK1, hD1⟩ := hB
            rw [ht] at hP1
            have hK1 := va_K.moved hvm.symm hK1
            obtain ⟨hP, hD⟩ := va_join (wr := [(h0, .inr (0, [.ref hr, .int (nI ff), .int (nI uu), .int nx, .long (lN M), .int en, .int lf])), (hr, .inl (cB, 64, .inl rg)), (ho, .inl (cL, 1, .inr (.inl of)))]) (w1 := [(g0, .inr (1, [.ref gu, .ref gb, .ref gh, .int nx, .int (nI uu), .int ex, .int 1, .int en])), (gu, .inl (cU, 64, .inl un)), (gb, .inl (cV, 64, .inl ba)), (gh, .inl (cZ, 64, .inl (hm M)))]) hP hD [0, 1, 2, 3] [4, 5, 6] rfl rfl (by decide) (by decide) hk1 hFc hP1 hD1
            have hK := (hK.sub (tys' := [(cB, .byte), (cL, .long)]) [3, 4] rfl).app hK1
            generalize H1 = H at hP hS ⊢
            have hP : va_P (dC, dI) classes [(h0, .inr (0, [.ref hr, .int (nI ff), .int (nI uu), .int nx, .long (lN M), .int en, .int lf])), (hr, .inl (cB, 64, .inl rg)), (ho, .inl (cL, 1, .inr (.inl of))), (g0, .inr (1, [.ref gu, .ref gb, .ref gh, .int nx, .int (nI uu), .int ex, .int 1, .int en])), (gu, .inl (cU, 64, .inl un)), (gb, .inl (cV, 64, .inl ba)), (gh, .inl (cZ, 64, .inl (hm M)))] H := hP
            have hD : va_D A [(h0, .inr (0, [.ref hr, .int (nI ff), .int (nI uu), .int nx, .long (lN M), .int en, .int lf])), (hr, .inl (cB, 64, .inl rg)), (ho, .inl (cL, 1, .inr (.inl of))), (g0, .inr (1, [.ref gu, .ref gb, .ref gh, .int nx, .int (nI uu), .int ex, .int 1, .int en])), (gu, .inl (cU, 64, .inl un)), (gb, .inl (cV, 64, .inl ba)), (gh, .inl (cZ, 64, .inl (hm M)))] := hD
            have hK : va_K (dC, dI) classes [(cB, .byte), (cL, .long), (cU, .int), (cV, .int), (cZ, .boolean)] s := hK
            subst hw6
            refine lv_istore hx hb d_Law_law_276 hl (by decide) rfl (fun ls hl => ?_)
            have hl : lv_has ls 7 [(6, .int 0), (5, .int 1), (4, .int (nI (5 * t))), (3, .ref ho), (2, .ref g0), (1, .ref h0), (0, .ref b)] := hl
            refine lv_aload_n hx hb d_Law_law_278 rfl (lv_at hl 4 rfl) ?_
            have hPc := hP.sub (ws' := [(g0, .inr (1, [.ref gu, .ref gb, .ref gh, .int nx, .int (nI uu), .int ex, .int 1, .int en])), (gu, .inl (cU, 64, .inl un)), (gb, .inl (cV, 64, .inl ba)), (gh, .inl (cZ, 64, .inl (hm M)))]) [3, 4, 5, 6] rfl
            have hKc := hK.sub (tys' := [(cU, .int), (cV, .int), (cZ, .boolean)]) [2, 3, 4] rfl
            refine vp_callSi (W.runV (As := []) (rest := []) ⟨hx, hb, hml, hown, hT⟩ (c_Mod_thrown l dC dI g0 gu gb gh cU cV cZ nx (nI uu) ex 1 en un ba M) (cwV 0 hT (tb_wsV tw_209 tw_210 tw_211 tw_2 tw_212) rfl rfl rfl (by decide +kernel) ⟨Nat.le_of_ble_eq_true rfl, Nat.le_of_ble_eq_true rfl⟩) ⟨wd_blind, va_recv hK hP (q0 := 3) rfl rfl, wd_at hKc hPc⟩ rfl rfl hl.1 rfl (lv_room (Nat.le_of_ble_eq_true rfl)) d_Law_law_279 ⟨by show _ ≤ 1034; omega, by show _ ≤ 8482; omega⟩) (fun r7 hr7 => ?_)
            subst hr7
            refine lv_iload hx hb d_Law_law_282 (lv_at hl 1 rfl) ?_
            refine lv_icmp_eq (tgt := 289) hx hb d_Law_law_284 rfl (fun h2 => ?_) (fun h2 => ?_)
            · refine lv_iload hx hb d_Law_law_289 (lv_at hl 1 rfl) ?_
              refine lv_if_ne (tgt := 306) hx hb d_Law_law_291 rfl (fun h3 => ?_) (fun h3 => ?_)
              · refine lv_goto (tgt := 418) hx hb d_Law_law_306 rfl ?_
                have hP := hP.sub (ws' := [(h0, .inr (0, [.ref hr, .int (nI ff), .int (nI uu), .int nx, .long (lN M), .int en, .int lf])), (hr, .inl (cB, 64, .inl rg)), (g0, .inr (1, [.ref gu, .ref gb, .ref gh, .int nx, .int (nI uu), .int ex, .int 1, .int en])), (gu, .inl (cU, 64, .inl un)), (gb, .inl (cV, 64, .inl ba)), (gh, .inl (cZ, 64, .inl (hm M))), (ho, .inl (cL, 1, .inr (.inl of)))]) [0, 1, 3, 4, 5, 6, 2] rfl
                have hD := hD.sub (ws' := [(h0, .inr (0, [.ref hr, .int (nI ff), .int (nI uu), .int nx, .long (lN M), .int en, .int lf])), (hr, .inl (cB, 64, .inl rg)), (g0, .inr (1, [.ref gu, .ref gb, .ref gh, .int nx, .int (nI uu), .int ex, .int 1, .int en])), (gu, .inl (cU, 64, .inl un)), (gb, .inl (cV, 64, .inl ba)), (gh, .inl (cZ, 64, .inl (hm M))), (ho, .inl (cL, 1, .inr (.inl of)))]) [0, 1, 3, 4, 5, 6, 2] (by decide) rfl
                have hK := hK.sub (tys' := [(cB, .byte), (cU, .int), (cV, .int), (cZ, .boolean), (cL, .long)]) [0, 2, 3, 4, 1] rfl
                refine W.widen (k := 7 + (t + 1)) (n := 272 + 6 * (t + 1)) (by omega) (by omega) ?_
                refine lv_iinc (v := nI (5 * (t + 1))) hx hb d_Law_law_418 hl (k := 2) rfl (by rw [show 5 * (t + 1) = 5 * t + 5 from by omega, ← nI_add]; rfl) (by decide) rfl (fun ls hl => ?_)
                have hl : lv_has ls 7 [(4, .int (nI (5 * (t + 1)))), (6, .int 0), (5, .int 1), (3, .ref ho), (2, .ref g0), (1, .ref h0), (0, .ref b)] := hl
                refine lv_goto (tgt := 23) hx hb d_Law_law_421 rfl ?_
                exact ih (t + 1) ff uu nx M en lf rg ex 1 un ba of ls H locs (by omega) (hI) (lv_sub hl [0, 3, 4, 5, 6] rfl) hP hD hS
              · exact absurd h3 (by decide)
            · exact absurd rfl h2
          · obtain ⟨k, hk5, ek⟩ := nI_of2 (M := 5) (n := 5) (by decide) (fun h => hk (Or.inl h)) (Int32.not_lt.mp (fun h => hk (Or.inr h)))
            rw [ek]
            have hPc := hP.sub (ws' := [(h0, .inr (0, [.ref hr, .int (nI ff), .int (nI uu), .int nx, .long (lN M), .int en, .int lf])), (hr, .inl (cB, 64, .inl rg)), (ho, .inl (cL, 1, .inr (.inl of)))]) [0, 1, 6] rfl
            have hDc := hD.sub (ws' := [(h0, .inr (0, [.ref hr, .int (nI ff), .int (nI uu), .int nx, .long (lN M), .int en, .int lf])), (hr, .inl (cB, 64, .inl rg)), (ho, .inl (cL, 1, .inr (.inl of)))]) [0, 1, 6] (by decide) rfl
            have hKc := hK.sub (tys' := [(cB, .byte), (cL, .long)]) [0, 4] rfl
            have hFc := va_free (wc := [(h0, .inr (0, [.ref hr, .int (nI ff), .int (nI uu), .int nx, .long (lN M), .int en, .int lf])), (hr, .inl (cB, 64, .inl rg)), (ho, .inl (cL, 1, .inr (.inl of)))]) hD hS hA [0, 1, 6] rfl
            refine va_calli (kx_runSW (n := 3) (As := [.ref h0, .int (nI k), .ref ho]) (rest := []) ⟨hx, hb, hml, hown, hT⟩ (c_Law_told_1 l dC dI h0 hr ho cB cL (nI ff) (nI uu) nx M en lf rg of H.size k (by omega) hI.lt) rfl (tb_good (tb_cons tw_135)) rfl rfl ⟨Nat.le_of_ble_eq_true rfl, Nat.le_of_ble_eq_true rfl⟩ (hT _ tw_0) (hT _ tw_133) (hT _ tw_134) (by decide +kernel) ⟨we_blind, we_at hKc hPc hDc⟩ rfl rfl hl.1 rfl (lv_room (Nat.le_of_ble_eq_true rfl)) d_Law_law_261 ⟨by show _ ≤ 1034; omega, by show _ ≤ 8482; omega⟩) hS (fun q _ h => hFc q h) hFc (fun r5 u9 t9 H1 locs ht hvm hw5 hB hz1 hk1 hS => ?_)
            obtain ⟨hP1, hK1, hD1⟩ := hB
            rw [ht] at hP1
            have hK1 := va_K.moved hvm.symm hK1
            obtain ⟨hP, hD⟩ := va_join (wr := [(g0, .inr (1, [.ref gu, .ref gb, .ref gh, .int nx, .int (nI uu), .int ex, .int th, .int en])), (gu, .inl (cU, 64, .inl un)), (gb, .inl (cV, 64, .inl ba)), (gh, .inl (cZ, 64, .inl (hm M)))]) (w1 := [(h0, .inr (0, [.ref hr, .int (nI ff), .int (nI uu), .int nx, .long (lN M), .int en, .int lf])), (hr, .inl (cB, 64, .inl rg)), (ho, .inl (cL, 1, .inr (.inl (vp_updL of 0 (bx_told (nI uu) nx M en k).toInt64))))]) hP hD [0, 1, 6] [2, 3, 4, 5] rfl rfl (by decide) (by decide) hk1 hFc hP1 hD1
            have hK := (hK.sub (tys' := [(cU, .int), (cV, .int), (cZ, .boolean)]) [1, 2, 3] rfl).app hK1
            generalize H1 = H at hP hS ⊢
            have hP : va_P (dC, dI) classes [(g0, .inr (1, [.ref gu, .ref gb, .ref gh, .int nx, .int (nI uu), .int ex, .int th, .int en])), (gu, .inl (cU, 64, .inl un)), (gb, .inl (cV, 64, .inl ba)), (gh, .inl (cZ, 64, .inl (hm M))), (h0, .inr (0, [.ref hr, .int (nI ff), .int (nI uu), .int nx, .long (lN M), .int en, .int lf])), (hr, .inl (cB, 64, .inl rg)), (ho, .inl (cL, 1, .inr (.inl (vp_updL of 0 (bx_told (nI uu) nx M en k).toInt64))))] H := hP
            have hD : va_D A [(g0, .inr (1, [.ref gu, .ref gb, .ref gh, .int nx, .int (nI uu), .int ex, .int th, .int en])), (gu, .inl (cU, 64, .inl un)), (gb, .inl (cV, 64, .inl ba)), (gh, .inl (cZ, 64, .inl (hm M))), (h0, .inr (0, [.ref hr, .int (nI ff), .int (nI uu), .int nx, .long (lN M), .int en, .int lf])), (hr, .inl (cB, 64, .inl rg)), (ho, .inl (cL, 1, .inr (.inl (vp_updL of 0 (bx_told (nI uu) nx M en k).toInt64))))] := hD
            have hK : va_K (dC, dI) classes [(cU, .int), (cV, .int), (cZ, .boolean), (cB, .byte), (cL, .long)] s := hK
            subst hw5
            refine lv_istore hx hb d_Law_law_264 hl (by decide) rfl (fun ls hl => ?_)
            have hl : lv_has ls 7 [(5, .int 0), (4, .int (nI (5 * t))), (3, .ref ho), (2, .ref g0), (1, .ref h0), (0, .ref b)] := hl
            refine lv_aload_n hx hb d_Law_law_266 rfl (lv_at hl 3 rfl) ?_
            refine lv_aload_n hx hb d_Law_law_267 rfl (lv_at hl 5 rfl) ?_
            refine lv_iload hx hb d_Law_law_268 (lv_at hl 1 rfl) ?_
            refine lv_iconst (v := 1) hx hb d_Law_law_270 (by decide) ?_
            refine lv_iadd hx hb d_Law_law_271 ?_
            refine lv_topi (fun y9 e9 => ?_)
            obtain rfl : y9 = (nI (5 * t + 1) : Int32) := by rw [e9]; exact nI_add _ 1
            refine va_sld hx hb hX hbl hbA hS (vp_in_nI (by omega) (by omega)) d_Law_law_272 ?_
            rw [nI_clamp (by omega)]
            rw [ek]
            have hPc := hP.sub (ws' := [(g0, .inr (1, [.ref gu, .ref gb, .ref gh, .int nx, .int (nI uu), .int ex, .int th, .int en])), (gu, .inl (cU, 64, .inl un)), (gb, .inl (cV, 64, .inl ba)), (gh, .inl (cZ, 64, .inl (hm M)))]) [0, 1, 2, 3] rfl
            have hDc := hD.sub (ws' := [(g0, .inr (1, [.ref gu, .ref gb, .ref gh, .int nx, .int (nI uu), .int ex, .int th, .int en])), (gu, .inl (cU, 64, .inl un)), (gb, .inl (cV, 64, .inl ba)), (gh, .inl (cZ, 64, .inl (hm M)))]) [0, 1, 2, 3] (by decide) rfl
            have hKc := hK.sub (tys' := [(cU, .int), (cV, .int), (cZ, .boolean)]) [0, 1, 2] rfl
            have hFc := va_free (wc := [(g0, .inr (1, [.ref gu, .ref gb, .ref gh, .int nx, .int (nI uu), .int ex, .int th, .int en])), (gu, .inl (cU, 64, .inl un)), (gb, .inl (cV, 64, .inl ba)), (gh, .inl (cZ, 64, .inl (hm M)))]) hD hS hA [0, 1, 2, 3] rfl
            refine va_calli (va_runV (As := [.int (nI k)]) (rest := []) ⟨hx, hb, hml, hown, hT⟩ (c_Mod_told_1 l dC dI g0 gu gb gh cU cV cZ nx (nI uu) ex th en un ba M H.size k (by omega)) (cwV 1 hT (tb_wsV tw_233 tw_234 tw_235 tw_2 tw_236) rfl rfl rfl (by decide +kernel) ⟨Nat.le_of_ble_eq_true rfl, Nat.le_of_ble_eq_true rfl⟩) ⟨we_blind, va_recv hK hP (q0 := 0) rfl rfl, we_at hKc hPc hDc⟩ rfl rfl hl.1 rfl (lv_room (Nat.le_of_ble_eq_true rfl)) d_Law_law_273 ⟨by show _ ≤ 1034; omega, by show _ ≤ 8482; omega⟩) hS (fun q _ h => hFc q h) hFc (fun r6 u9 t9 H1 locs ht hvm hw6 hB hz1 hk1 hS => ?_)
            obtain ⟨hP1, hK1, hD1⟩ := hB
            rw [ht] at hP1
            have hK1 := va_K.moved hvm.symm hK1
            obtain ⟨hP, hD⟩ := va_join (wr := [(h0, .inr (0, [.ref hr, .int (nI ff), .int (nI uu), .int nx, .long (lN M), .int en, .int lf])), (hr, .inl (cB, 64, .inl rg)), (ho, .inl (cL, 1, .inr (.inl (vp_updL of 0 (bx_told (nI uu) nx M en k).toInt64))))]) (w1 := [(g0, .inr (1, [.ref gu, .ref gb, .ref gh, .int nx, .int (nI uu), .int ex, .int 0, .int en])), (gu, .inl (cU, 64, .inl un)), (gb, .inl (cV, 64, .inl ba)), (gh, .inl (cZ, 64, .inl (hm M)))]) hP hD [0, 1, 2, 3] [4, 5, 6] rfl rfl (by decide) (by decide) hk1 hFc hP1 hD1
            have hK := (hK.sub (tys' := [(cB, .byte), (cL, .long)]) [3, 4] rfl).app hK1
            generalize H1 = H at hP hS ⊢
            have hP : va_P (dC, dI) classes [(h0, .inr (0, [.ref hr, .int (nI ff), .int (nI uu), .int nx, .long (lN M), .int en, .int lf])), (hr, .inl (cB, 64, .inl rg)), (ho, .inl (cL, 1, .inr (.inl (vp_updL of 0 (bx_told (nI uu) nx M en k).toInt64)))), (g0, .inr (1, [.ref gu, .ref gb, .ref gh, .int nx, .int (nI uu), .int ex, .int 0, .int en])), (gu, .inl (cU, 64, .inl un)), (gb, .inl (cV, 64, .inl ba)), (gh, .inl (cZ, 64, .inl (hm M)))] H := hP
            have hD : va_D A [(h0, .inr (0, [.ref hr, .int (nI ff), .int (nI uu), .int nx, .long (lN M), .int en, .int lf])), (hr, .inl (cB, 64, .inl rg)), (ho, .inl (cL, 1, .inr (.inl (vp_updL of 0 (bx_told (nI uu) nx M en k).toInt64)))), (g0, .inr (1, [.ref gu, .ref gb, .ref gh, .int nx, .int (nI uu), .int ex, .int 0, .int en])), (gu, .inl (cU, 64, .inl un)), (gb, .inl (cV, 64, .inl ba)), (gh, .inl (cZ, 64, .inl (hm M)))] := hD
            have hK : va_K (dC, dI) classes [(cB, .byte), (cL, .long), (cU, .int), (cV, .int), (cZ, .boolean)] s := hK
            subst hw6
            refine lv_istore hx hb d_Law_law_276 hl (by decide) rfl (fun ls hl => ?_)
            have hl : lv_has ls 7 [(6, .int (bx_told (nI uu) nx M en k)), (5, .int 0), (4, .int (nI (5 * t))), (3, .ref ho), (2, .ref g0), (1, .ref h0), (0, .ref b)] := hl
            refine lv_aload_n hx hb d_Law_law_278 rfl (lv_at hl 4 rfl) ?_
            have hPc := hP.sub (ws' := [(g0, .inr (1, [.ref gu, .ref gb, .ref gh, .int nx, .int (nI uu), .int ex, .int 0, .int en])), (gu, .inl (cU, 64, .inl un)), (gb, .inl (cV, 64, .inl ba)), (gh, .inl (cZ, 64, .inl (hm M)))]) [3, 4, 5, 6] rfl
            have hKc := hK.sub (tys' := [(cU, .int), (cV, .int), (cZ, .boolean)]) [2, 3, 4] rfl
            refine vp_callSi (W.runV (As := []) (rest := []) ⟨hx, hb, hml, hown, hT⟩ (c_Mod_thrown l dC dI g0 gu gb gh cU cV cZ nx (nI uu) ex 0 en un ba M) (cwV 0 hT (tb_wsV tw_209 tw_210 tw_211 tw_2 tw_212) rfl rfl rfl (by decide +kernel) ⟨Nat.le_of_ble_eq_true rfl, Nat.le_of_ble_eq_true rfl⟩) ⟨wd_blind, va_recv hK hP (q0 := 3) rfl rfl, wd_at hKc hPc⟩ rfl rfl hl.1 rfl (lv_room (Nat.le_of_ble_eq_true rfl)) d_Law_law_279 ⟨by show _ ≤ 1034; omega, by show _ ≤ 8482; omega⟩) (fun r7 hr7 => ?_)
            subst hr7
            refine lv_iload hx hb d_Law_law_282 (lv_at hl 1 rfl) ?_
            refine lv_icmp_eq (tgt := 289) hx hb d_Law_law_284 rfl (fun h2 => ?_) (fun h2 => ?_)
            · refine lv_iload hx hb d_Law_law_289 (lv_at hl 1 rfl) ?_
              refine lv_if_ne (tgt := 306) hx hb d_Law_law_291 rfl (fun h3 => ?_) (fun h3 => ?_)
              · exact absurd rfl h3
              · refine lv_aload_n hx hb d_Law_law_294 rfl (lv_at hl 3 rfl) ?_
                refine lv_iconst (v := 0) hx hb d_Law_law_295 (by decide) ?_
                refine va_lald hx hb hK hP 2 1 rfl rfl (vp_in_nI (n := 0) (N := 1) (by omega) (by decide)) d_Law_law_296 ?_
                rw [sb_cl0, pk_uLs]
                refine lv_iload hx hb d_Law_law_297 (lv_at hl 0 rfl) ?_
                refine lv_i2l hx hb d_Law_law_299 rfl ?_
                refine W.lcmp hx hb d_Law_law_300 ?_
                refine lv_if_eq (tgt := 306) hx hb d_Law_law_301 rfl (fun h4 => ?_) (fun h4 => ?_)
                · refine lv_goto (tgt := 418) hx hb d_Law_law_306 rfl ?_
                  have hP := hP.sub (ws' := [(h0, .inr (0, [.ref hr, .int (nI ff), .int (nI uu), .int nx, .long (lN M), .int en, .int lf])), (hr, .inl (cB, 64, .inl rg)), (g0, .inr (1, [.ref gu, .ref gb, .ref gh, .int nx, .int (nI uu), .int ex, .int 0, .int en])), (gu, .inl (cU, 64, .inl un)), (gb, .inl (cV, 64, .inl ba)), (gh, .inl (cZ, 64, .inl (hm M))), (ho, .inl (cL, 1, .inr (.inl (vp_updL of 0 (bx_told (nI uu) nx M en k).toInt64))))]) [0, 1, 3, 4, 5, 6, 2] rfl
                  have hD := hD.sub (ws' := [(h0, .inr (0, [.ref hr, .int (nI ff), .int (nI uu), .int nx, .long (lN M), .int en, .int lf])), (hr, .inl (cB, 64, .inl rg)), (g0, .inr (1, [.ref gu, .ref gb, .ref gh, .int nx, .int (nI uu), .int ex, .int 0, .int en])), (gu, .inl (cU, 64, .inl un)), (gb, .inl (cV, 64, .inl ba)), (gh, .inl (cZ, 64, .inl (hm M))), (ho, .inl (cL, 1, .inr (.inl (vp_updL of 0 (bx_told (nI uu) nx M en k).toInt64))))]) [0, 1, 3, 4, 5, 6, 2] (by decide) rfl
                  have hK := hK.sub (tys' := [(cB, .byte), (cU, .int), (cV, .int), (cZ, .boolean), (cL, .long)]) [0, 2, 3, 4, 1] rfl
                  refine W.widen (k := 7 + (t + 1)) (n := 272 + 6 * (t + 1)) (by omega) (by omega) ?_
                  refine lv_iinc (v := nI (5 * (t + 1))) hx hb d_Law_law_418 hl (k := 2) rfl (by rw [show 5 * (t + 1) = 5 * t + 5 from by omega, ← nI_add]; rfl) (by decide) rfl (fun ls hl => ?_)
                  have hl : lv_has ls 7 [(4, .int (nI (5 * (t + 1)))), (6, .int (bx_told (nI uu) nx M en k)), (5, .int 0), (3, .ref ho), (2, .ref g0), (1, .ref h0), (0, .ref b)] := hl
                  refine lv_goto (tgt := 23) hx hb d_Law_law_421 rfl ?_
                  exact ih (t + 1) ff uu nx M en lf rg ex 0 un ba (vp_updL of 0 (bx_told (nI uu) nx M en k).toInt64) ls H locs (by omega) (hI) (lv_sub hl [0, 3, 4, 5, 6] rfl) hP hD hS
                · exact absurd ((lg_cmp_eq _ _).mpr rfl) h4
            · exact absurd rfl h2
        · refine lv_tableIn (off := 270) (tgt := 309) hx hb d_Law_law_39 (by decide) (by decide) (by decide) rfl ?_
          refine lv_aload_n hx hb d_Law_law_309 rfl (lv_at hl 3 rfl) ?_
          refine lv_aload_n hx hb d_Law_law_310 rfl (lv_at hl 4 rfl) ?_
          refine lv_iload hx hb d_Law_law_311 (lv_at hl 0 rfl) ?_
          refine lv_iconst (v := 1) hx hb d_Law_law_313 (by decide) ?_
          refine lv_iadd hx hb d_Law_law_314 ?_
          refine lv_topi (fun y9 e9 => ?_)
          obtain rfl : y9 = (nI (5 * t + 1) : Int32) := by rw [e9]; exact nI_add _ 1
          refine va_sld hx hb hX hbl hbA hS (vp_in_nI (by omega) (by omega)) d_Law_law_315 ?_
          rw [nI_clamp (by omega)]
          refine lv_aload_n hx hb d_Law_law_316 rfl (lv_at hl 4 rfl) ?_
          refine lv_iload hx hb d_Law_law_317 (lv_at hl 0 rfl) ?_
          refine lv_iconst (v := 2) hx hb d_Law_law_319 (by decide) ?_
          refine lv_iadd hx hb d_Law_law_320 ?_
          refine lv_topi (fun y9 e9 => ?_)
          obtain rfl : y9 = (nI (5 * t + 2) : Int32) := by rw [e9]; exact nI_add _ 2
          refine va_sld hx hb hX hbl hbA hS (vp_in_nI (by omega) (by omega)) d_Law_law_321 ?_
          rw [nI_clamp (by omega)]
          refine lv_if_eq (tgt := 329) hx hb d_Law_law_322 rfl (fun hm0 => ?_) (fun hm0 => ?_)
          · refine lv_iconst (v := 0) hx hb d_Law_law_329 (by decide) ?_
            refine lv_aload_n hx hb d_Law_law_330 rfl (lv_at hl 1 rfl) ?_
            by_cases hk : xs (5 * t + 1) < 0 ∨ nI (cn (bg M).testBit 64) ≤ xs (5 * t + 1)
            · have hPc := hP.sub (ws' := [(h0, .inr (0, [.ref hr, .int (nI ff), .int (nI uu), .int nx, .long (lN M), .int en, .int lf])), (hr, .inl (cB, 64, .inl rg)), (ho, .inl (cL, 1, .inr (.inl of)))]) [0, 1, 6] rfl
              have hDc := hD.sub (ws' := [(h0, .inr (0, [.ref hr, .int (nI ff), .int (nI uu), .int nx, .long (lN M), .int en, .int lf])), (hr, .inl (cB, 64, .inl rg)), (ho, .inl (cL, 1, .inr (.inl of)))]) [0, 1, 6] (by decide) rfl
              have hKc := hK.sub (tys' := [(cB, .byte), (cL, .long)]) [0, 4] rfl
              have hFc := va_free (wc := [(h0, .inr (0, [.ref hr, .int (nI ff), .int (nI uu), .int nx, .long (lN M), .int en, .int lf])), (hr, .inl (cB, 64, .inl rg)), (ho, .inl (cL, 1, .inr (.inl of)))]) hD hS hA [0, 1, 6] rfl
              refine va_calli (kx_runSW (n := 4) (As := [.ref h0, .int (xs (5 * t + 1)), .int 0, .ref ho]) (rest := []) ⟨hx, hb, hml, hown, hT⟩ (c_Law_block_0 l hfl dC dI h0 hr ho cB cL (nI ff) (nI uu) nx M en lf rg of H.size (xs (5 * t + 1)) 0 hI.lt hk) rfl (tb_good (tb_cons tw_155)) rfl rfl ⟨Nat.le_of_ble_eq_true rfl, Nat.le_of_ble_eq_true rfl⟩ (hT _ tw_0) (hT _ tw_153) (hT _ tw_154) (by decide +kernel) ⟨wv_blind, wv_at hth_IO (fun q h9 => hS.2.1 q h9 (by rw [hAe]; exact Nat.not_le.mpr h9)) hKc hPc hDc⟩ rfl rfl hl.1 rfl (lv_room (Nat.le_of_ble_eq_true rfl)) d_Law_law_331 ⟨by show _ ≤ 1034; omega, by show _ ≤ 8482; omega⟩) hS (fun q _ h => hFc q h) hFc (fun r5 u9 t9 H1 locs ht hvm hw5 hB hz1 hk1 hS => ?_)
              obtain ⟨hP1, hK1, hD1⟩ := hB
              rw [ht] at hP1
              have hK1 := va_K.moved hvm.symm hK1
              obtain ⟨hP, hD⟩ := va_join (wr := [(g0, .inr (1, [.ref gu, .ref gb, .ref gh, .int nx, .int (nI uu), .int ex, .int th, .int en])), (gu, .inl (cU, 64, .inl un)), (gb, .inl (cV, 64, .inl ba)), (gh, .inl (cZ, 64, .inl (hm M)))]) (w1 := [(h0, .inr (0, [.ref hr, .int (nI ff), .int (nI uu), .int nx, .long (lN M), .int en, .int lf])), (hr, .inl (cB, 64, .inl rg)), (ho, .inl (cL, 1, .inr (.inl of)))]) hP hD [0, 1, 6] [2, 3, 4, 5] rfl rfl (by decide) (by decide) hk1 hFc hP1 hD1
              have hK := (hK.sub (tys' := [(cU, .int), (cV, .int), (cZ, .boolean)]) [1, 2, 3] rfl).app hK1
              generalize H1 = H at hP hS ⊢
              have hP : va_P (dC, dI) classes [(g0, .inr (1, [.ref gu, .ref gb, .ref gh, .int nx, .int (nI uu), .int ex, .int th, .int en])), (gu, .inl (cU, 64, .inl un)), (gb, .inl (cV, 64, .inl ba)), (gh, .inl (cZ, 64, .inl (hm M))), (h0, .inr (0, [.ref hr, .int (nI ff), .int (nI uu), .int nx, .long (lN M), .int en, .int lf])), (hr, .inl (cB, 64, .inl rg)), (ho, .inl (cL, 1, .inr (.inl of)))] H := hP
              have hD : va_D A [(g0, .inr (1, [.ref gu, .ref gb, .ref gh, .int nx, .int (nI uu), .int ex, .int th, .int en])), (gu, .inl (cU, 64, .inl un)), (gb, .inl (cV, 64, .inl ba)), (gh, .inl (cZ, 64, .inl (hm M))), (h0, .inr (0, [.ref hr, .int (nI ff), .int (nI uu), .int nx, .long (lN M), .int en, .int lf])), (hr, .inl (cB, 64, .inl rg)), (ho, .inl (cL, 1, .inr (.inl of)))] := hD
              have hK : va_K (dC, dI) classes [(cU, .int), (cV, .int), (cZ, .boolean), (cB, .byte), (cL, .long)] s := hK
              subst hw5
              refine lv_istore hx hb d_Law_law_334 hl (by decide) rfl (fun ls hl => ?_)
              have hl : lv_has ls 7 [(5, .int 1), (4, .int (nI (5 * t))), (3, .ref ho), (2, .ref g0), (1, .ref h0), (0, .ref b)] := hl
              refine lv_aload_n hx hb d_Law_law_336 rfl (lv_at hl 3 rfl) ?_
              refine lv_aload_n hx hb d_Law_law_337 rfl (lv_at hl 5 rfl) ?_
              refine lv_iload hx hb d_Law_law_338 (lv_at hl 1 rfl) ?_
              refine lv_iconst (v := 1) hx hb d_Law_law_340 (by decide) ?_
              refine lv_iadd hx hb d_Law_law_341 ?_
              refine lv_topi (fun y9 e9 => ?_)
              obtain rfl : y9 = (nI (5 * t + 1) : Int32) := by rw [e9]; exact nI_add _ 1
              refine va_sld hx hb hX hbl hbA hS (vp_in_nI (by omega) (by omega)) d_Law_law_342 ?_
              rw [nI_clamp (by omega)]
              refine lv_aload_n hx hb d_Law_law_343 rfl (lv_at hl 5 rfl) ?_
              refine lv_iload hx hb d_Law_law_344 (lv_at hl 1 rfl) ?_
              refine lv_iconst (v := 2) hx hb d_Law_law_346 (by decide) ?_
              refine lv_iadd hx hb d_Law_law_347 ?_
              refine lv_topi (fun y9 e9 => ?_)
              obtain rfl : y9 = (nI (5 * t + 2) : Int32) := by rw [e9]; exact nI_add _ 2
              refine va_sld hx hb hX hbl hbA hS (vp_in_nI (by omega) (by omega)) d_Law_law_348 ?_
              rw [nI_clamp (by omega)]
              refine lv_if_eq (tgt := 356) hx hb d_Law_law_349 rfl (fun h8 => ?_) (fun h8 => ?_)
              rotate_left
              · exact absurd hm0 h8
              refine lv_iconst (v := 0) hx hb d_Law_law_356 (by decide) ?_
              have hPc := hP.sub (ws' := [(g0, .inr (1, [.ref gu, .ref gb, .ref gh, .int nx, .int (nI uu), .int ex, .int th, .int en])), (gu, .inl (cU, 64, .inl un)), (gb, .inl (cV, 64, .inl ba)), (gh, .inl (cZ, 64, .inl (hm M)))]) [0, 1, 2, 3] rfl
              have hDc := hD.sub (ws' := [(g0, .inr (1, [.ref gu, .ref gb, .ref gh, .int nx, .int (nI uu), .int ex, .int th, .int en])), (gu, .inl (cU, 64, .inl un)), (gb, .inl (cV, 64, .inl ba)), (gh, .inl (cZ, 64, .inl (hm M)))]) [0, 1, 2, 3] (by decide) rfl
              have hKc := hK.sub (tys' := [(cU, .int), (cV, .int), (cZ, .boolean)]) [0, 1, 2] rfl
              have hFc := va_free (wc := [(g0, .inr (1, [.ref gu, .ref gb, .ref gh, .int nx, .int (nI uu), .int ex, .int th, .int en])), (gu, .inl (cU, 64, .inl un)), (gb, .inl (cV, 64, .inl ba)), (gh, .inl (cZ, 64, .inl (hm M)))]) hD hS hA [0, 1, 2, 3] rfl
              refine va_calli (va_runV (As := [.int (xs (5 * t + 1)), .int 0]) (rest := []) ⟨hx, hb, hml, hown, hT⟩ (c_Mod_block_0 l dC dI g0 gu gb gh cU cV cZ nx (nI uu) ex th en un ba M H.size (xs (5 * t + 1)) 0 hk) (cwV 2 hT (tb_wsV tw_241 tw_242 tw_243 tw_2 tw_244) rfl rfl rfl (by decide +kernel) ⟨Nat.le_of_ble_eq_true rfl, Nat.le_of_ble_eq_true rfl⟩) ⟨we_blind, va_recv hK hP (q0 := 0) rfl rfl, we_at hKc hPc hDc⟩ rfl rfl hl.1 rfl (lv_room (Nat.le_of_ble_eq_true rfl)) d_Law_law_357 ⟨by show _ ≤ 1034; omega, by show _ ≤ 8482; omega⟩) hS (fun q _ h => hFc q h) hFc (fun r6 u9 t9 H1 locs ht hvm hw6 hB hz1 hk1 hS => ?_)
              obtain ⟨hP1, hK1, hD1⟩ := hB
              rw [ht] at hP1
              have hK1 := va_K.moved hvm.symm hK1
              obtain ⟨hP, hD⟩ := va_join (wr := [(h0, .inr (0, [.ref hr, .int (nI ff), .int (nI uu), .int nx, .long (lN M), .int en, .int lf])), (hr, .inl (cB, 64, .inl rg)), (ho, .inl (cL, 1, .inr (.inl of)))]) (w1 := [(g0, .inr (1, [.ref gu, .ref gb, .ref gh, .int nx, .int (nI uu), .int ex, .int 1, .int en])), (gu, .inl (cU, 64, .inl un)), (gb, .inl (cV, 64, .inl ba)), (gh, .inl (cZ, 64, .inl (hm M)))]) hP hD [0, 1, 2, 3] [4, 5, 6] rfl rfl (by decide) (by decide) hk1 hFc hP1 hD1
              have hK := (hK.sub (tys' := [(cB, .byte), (cL, .long)]) [3, 4] rfl).app hK1
              generalize H1 = H at hP hS ⊢
              have hP : va_P (dC, dI) classes [(h0, .inr (0, [.ref hr, .int (nI ff), .int (nI uu), .int nx, .long (lN M), .int en, .int lf])), (hr, .inl (cB, 64, .inl rg)), (ho, .inl (cL, 1, .inr (.inl of))), (g0, .inr (1, [.ref gu, .ref gb, .ref gh, .int nx, .int (nI uu), .int ex, .int 1, .int en])), (gu, .inl (cU, 64, .inl un)), (gb, .inl (cV, 64, .inl ba)), (gh, .inl (cZ, 64, .inl (hm M)))] H := hP
              have hD : va_D A [(h0, .inr (0, [.ref hr, .int (nI ff), .int (nI uu), .int nx, .long (lN M), .int en, .int lf])), (hr, .inl (cB, 64, .inl rg)), (ho, .inl (cL, 1, .inr (.inl of))), (g0, .inr (1, [.ref gu, .ref gb, .ref gh, .int nx, .int (nI uu), .int ex, .int 1, .int en])), (gu, .inl (cU, 64, .inl un)), (gb, .inl (cV, 64, .inl ba)), (gh, .inl (cZ, 64, .inl (hm M)))] := hD
              have hK : va_K (dC, dI) classes [(cB, .byte), (cL, .long), (cU, .int), (cV, .int), (cZ, .boolean)] s := hK
              subst hw6
              refine lv_istore hx hb d_Law_law_360 hl (by decide) rfl (fun ls hl => ?_)
              have hl : lv_has ls 7 [(6, .int 0), (5, .int 1), (4, .int (nI (5 * t))), (3, .ref ho), (2, .ref g0), (1, .ref h0), (0, .ref b)] := hl
              refine lv_aload_n hx hb d_Law_law_362 rfl (lv_at hl 4 rfl) ?_
              have hPc := hP.sub (ws' := [(g0, .inr (1, [.ref gu, .ref gb, .ref gh, .int nx, .int (nI uu), .int ex, .int 1, .int en])), (gu, .inl (cU, 64, .inl un)), (gb, .inl (cV, 64, .inl ba)), (gh, .inl (cZ, 64, .inl (hm M)))]) [3, 4, 5, 6] rfl
              have hKc := hK.sub (tys' := [(cU, .int), (cV, .int), (cZ, .boolean)]) [2, 3, 4] rfl
              refine vp_callSi (W.runV (As := []) (rest := []) ⟨hx, hb, hml, hown, hT⟩ (c_Mod_thrown l dC dI g0 gu gb gh cU cV cZ nx (nI uu) ex 1 en un ba M) (cwV 0 hT (tb_wsV tw_209 tw_210 tw_211 tw_2 tw_212) rfl rfl rfl (by decide +kernel) ⟨Nat.le_of_ble_eq_true rfl, Nat.le_of_ble_eq_true rfl⟩) ⟨wd_blind, va_recv hK hP (q0 := 3) rfl rfl, wd_at hKc hPc⟩ rfl rfl hl.1 rfl (lv_room (Nat.le_of_ble_eq_true rfl)) d_Law_law_363 ⟨by show _ ≤ 1034; omega, by show _ ≤ 8482; omega⟩) (fun r7 hr7 => ?_)
              subst hr7
              refine lv_iload hx hb d_Law_law_366 (lv_at hl 1 rfl) ?_
              refine lv_icmp_eq (tgt := 373) hx hb d_Law_law_368 rfl (fun h2 => ?_) (fun h2 => ?_)
              · refine lv_iload hx hb d_Law_law_373 (lv_at hl 1 rfl) ?_
                refine lv_if_ne (tgt := 390) hx hb d_Law_law_375 rfl (fun h3 => ?_) (fun h3 => ?_)
                · refine lv_goto (tgt := 418) hx hb d_Law_law_390 rfl ?_
                  have hP := hP.sub (ws' := [(h0, .inr (0, [.ref hr, .int (nI ff), .int (nI uu), .int nx, .long (lN M), .int en, .int lf])), (hr, .inl (cB, 64, .inl rg)), (g0, .inr (1, [.ref gu, .ref gb, .ref gh, .int nx, .int (nI uu), .int ex, .int 1, .int en])), (gu, .inl (cU, 64, .inl un)), (gb, .inl (cV, 64, .inl ba)), (gh, .inl (cZ, 64, .inl (hm M))), (ho, .inl (cL, 1, .inr (.inl of)))]) [0, 1, 3, 4, 5, 6, 2] rfl
                  have hD := hD.sub (ws' := [(h0, .inr (0, [.ref hr, .int (nI ff), .int (nI uu), .int nx, .long (lN M), .int en, .int lf])), (hr, .inl (cB, 64, .inl rg)), (g0, .inr (1, [.ref gu, .ref gb, .ref gh, .int nx, .int (nI uu), .int ex, .int 1, .int en])), (gu, .inl (cU, 64, .inl un)), (gb, .inl (cV, 64, .inl ba)), (gh, .inl (cZ, 64, .inl (hm M))), (ho, .inl (cL, 1, .inr (.inl of)))]) [0, 1, 3, 4, 5, 6, 2] (by decide) rfl
                  have hK := hK.sub (tys' := [(cB, .byte), (cU, .int), (cV, .int), (cZ, .boolean), (cL, .long)]) [0, 2, 3, 4, 1] rfl
                  refine W.widen (k := 7 + (t + 1)) (n := 272 + 6 * (t + 1)) (by omega) (by omega) ?_
                  refine lv_iinc (v := nI (5 * (t + 1))) hx hb d_Law_law_418 hl (k := 2) rfl (by rw [show 5 * (t + 1) = 5 * t + 5 from by omega, ← nI_add]; rfl) (by decide) rfl (fun ls hl => ?_)
                  have hl : lv_has ls 7 [(4, .int (nI (5 * (t + 1)))), (6, .int 0), (5, .int 1), (3, .ref ho), (2, .ref g0), (1, .ref h0), (0, .ref b)] := hl
                  refine lv_goto (tgt := 23) hx hb d_Law_law_421 rfl ?_
                  exact ih (t + 1) ff uu nx M en lf rg ex 1 un ba of ls H locs (by omega) (hI) (lv_sub hl [0, 3, 4, 5, 6] rfl) hP hD hS
                · exact absurd h3 (by decide)
              · exact absurd rfl h2
            · obtain ⟨k, hk31, ek⟩ := nI_of (fun h => hk (Or.inl h))
              have hkc : k < cn (bg M).testBit 64 := by rcases Nat.lt_or_ge k (cn (bg M).testBit 64) with h | h; exact h; exact absurd (Or.inr (by rw [ek]; exact nI_le h hk31)) hk
              rw [ek]
              have hPc := hP.sub (ws' := [(h0, .inr (0, [.ref hr, .int (nI ff), .int (nI uu), .int nx, .long (lN M), .int en, .int lf])), (hr, .inl (cB, 64, .inl rg)), (ho, .inl (cL, 1, .inr (.inl of)))]) [0, 1, 6] rfl
              have hDc := hD.sub (ws' := [(h0, .inr (0, [.ref hr, .int (nI ff), .int (nI uu), .int nx, .long (lN M), .int en, .int lf])), (hr, .inl (cB, 64, .inl rg)), (ho, .inl (cL, 1, .inr (.inl of)))]) [0, 1, 6] (by decide) rfl
              have hKc := hK.sub (tys' := [(cB, .byte), (cL, .long)]) [0, 4] rfl
              have hFc := va_free (wc := [(h0, .inr (0, [.ref hr, .int (nI ff), .int (nI uu), .int nx, .long (lN M), .int en, .int lf])), (hr, .inl (cB, 64, .inl rg)), (ho, .inl (cL, 1, .inr (.inl of)))]) hD hS hA [0, 1, 6] rfl
              refine va_calli (kx_runSW (n := 4) (As := [.ref h0, .int (nI k), .int 0, .ref ho]) (rest := []) ⟨hx, hb, hml, hown, hT⟩ (c_Law_block_1 l dC dI h0 hr ho cB cL (nI ff) (nI uu) nx M en lf rg of H.size k 0 hI.lt hkc) rfl (tb_good (tb_cons tw_155)) rfl rfl ⟨Nat.le_of_ble_eq_true rfl, Nat.le_of_ble_eq_true rfl⟩ (hT _ tw_0) (hT _ tw_153) (hT _ tw_154) (by decide +kernel) ⟨we_blind, we_at hKc hPc hDc⟩ rfl rfl hl.1 rfl (lv_room (Nat.le_of_ble_eq_true rfl)) d_Law_law_331 ⟨by show _ ≤ 1034; omega, by show _ ≤ 8482; omega⟩) hS (fun q _ h => hFc q h) hFc (fun r5 u9 t9 H1 locs ht hvm hw5 hB hz1 hk1 hS => ?_)
              obtain ⟨a5, ea5⟩ : ∃ z : Int32, z = u9 := ⟨_, rfl⟩
              subst ea5
              obtain ⟨rfl, hb5⟩ := hw5
              obtain ⟨hP1, hK1, hD1⟩ := hB
              rw [ht] at hP1
              have hK1 := va_K.moved hvm.symm hK1
              obtain ⟨hP, hD⟩ := va_join (wr := [(g0, .inr (1, [.ref gu, .ref gb, .ref gh, .int nx, .int (nI uu), .int ex, .int th, .int en])), (gu, .inl (cU, 64, .inl un)), (gb, .inl (cV, 64, .inl ba)), (gh, .inl (cZ, 64, .inl (hm M)))]) (w1 := [(h0, .inr (0, [.ref hr, .int (nI ff), .int (nI uu), .int nx, .long (lN M), .int en, .int lf])), (hr, .inl (cB, 64, .inl rg)), (ho, .inl (cL, 1, .inr (.inl (vp_updL of 0 a5.toInt64))))]) hP hD [0, 1, 6] [2, 3, 4, 5] rfl rfl (by decide) (by decide) hk1 hFc hP1 hD1
              have hK := (hK.sub (tys' := [(cU, .int), (cV, .int), (cZ, .boolean)]) [1, 2, 3] rfl).app hK1
              generalize H1 = H at hP hS ⊢
              have hP : va_P (dC, dI) classes [(g0, .inr (1, [.ref gu, .ref gb, .ref gh, .int nx, .int (nI uu), .int ex, .int th, .int en])), (gu, .inl (cU, 64, .inl un)), (gb, .inl (cV, 64, .inl ba)), (gh, .inl (cZ, 64, .inl (hm M))), (h0, .inr (0, [.ref hr, .int (nI ff), .int (nI uu), .int nx, .long (lN M), .int en, .int lf])), (hr, .inl (cB, 64, .inl rg)), (ho, .inl (cL, 1, .inr (.inl (vp_updL of 0 a5.toInt64))))] H := hP
              have hD : va_D A [(g0, .inr (1, [.ref gu, .ref gb, .ref gh, .int nx, .int (nI uu), .int ex, .int th, .int en])), (gu, .inl (cU, 64, .inl un)), (gb, .inl (cV, 64, .inl ba)), (gh, .inl (cZ, 64, .inl (hm M))), (h0, .inr (0, [.ref hr, .int (nI ff), .int (nI uu), .int nx, .long (lN M), .int en, .int lf])), (hr, .inl (cB, 64, .inl rg)), (ho, .inl (cL, 1, .inr (.inl (vp_updL of 0 a5.toInt64))))] := hD
              have hK : va_K (dC, dI) classes [(cU, .int), (cV, .int), (cZ, .boolean), (cB, .byte), (cL, .long)] s := hK
              refine lv_istore hx hb d_Law_law_334 hl (by decide) rfl (fun ls hl => ?_)
              have hl : lv_has ls 7 [(5, .int 0), (4, .int (nI (5 * t))), (3, .ref ho), (2, .ref g0), (1, .ref h0), (0, .ref b)] := hl
              refine lv_aload_n hx hb d_Law_law_336 rfl (lv_at hl 3 rfl) ?_
              refine lv_aload_n hx hb d_Law_law_337 rfl (lv_at hl 5 rfl) ?_
              refine lv_iload hx hb d_Law_law_338 (lv_at hl 1 rfl) ?_
              refine lv_iconst (v := 1) hx hb d_Law_law_340 (by decide) ?_
              refine lv_iadd hx hb d_Law_law_341 ?_
              refine lv_topi (fun y9 e9 => ?_)
              obtain rfl : y9 = (nI (5 * t + 1) : Int32) := by rw [e9]; exact nI_add _ 1
              refine va_sld hx hb hX hbl hbA hS (vp_in_nI (by omega) (by omega)) d_Law_law_342 ?_
              rw [nI_clamp (by omega)]
              refine lv_aload_n hx hb d_Law_law_343 rfl (lv_at hl 5 rfl) ?_
              refine lv_iload hx hb d_Law_law_344 (lv_at hl 1 rfl) ?_
              refine lv_iconst (v := 2) hx hb d_Law_law_346 (by decide) ?_
              refine lv_iadd hx hb d_Law_law_347 ?_
              refine lv_topi (fun y9 e9 => ?_)
              obtain rfl : y9 = (nI (5 * t + 2) : Int32) := by rw [e9]; exact nI_add _ 2
              refine va_sld hx hb hX hbl hbA hS (vp_in_nI (by omega) (by omega)) d_Law_law_348 ?_
              rw [nI_clamp (by omega)]
              refine lv_if_eq (tgt := 356) hx hb d_Law_law_349 rfl (fun h8 => ?_) (fun h8 => ?_)
              rotate_left
              · exact absurd hm0 h8
              refine lv_iconst (v := 0) hx hb d_Law_law_356 (by decide) ?_
              rw [ek]
              have hPc := hP.sub (ws' := [(g0, .inr (1, [.ref gu, .ref gb, .ref gh, .int nx, .int (nI uu), .int ex, .int th, .int en])), (gu, .inl (cU, 64, .inl un)), (gb, .inl (cV, 64, .inl ba)), (gh, .inl (cZ, 64, .inl (hm M)))]) [0, 1, 2, 3] rfl
              have hDc := hD.sub (ws' := [(g0, .inr (1, [.ref gu, .ref gb, .ref gh, .int nx, .int (nI uu), .int ex, .int th, .int en])), (gu, .inl (cU, 64, .inl un)), (gb, .inl (cV, 64, .inl ba)), (gh, .inl (cZ, 64, .inl (hm M)))]) [0, 1, 2, 3] (by decide) rfl
              have hKc := hK.sub (tys' := [(cU, .int), (cV, .int), (cZ, .boolean)]) [0, 1, 2] rfl
              have hFc := va_free (wc := [(g0, .inr (1, [.ref gu, .ref gb, .ref gh, .int nx, .int (nI uu), .int ex, .int th, .int en])), (gu, .inl (cU, 64, .inl un)), (gb, .inl (cV, 64, .inl ba)), (gh, .inl (cZ, 64, .inl (hm M)))]) hD hS hA [0, 1, 2, 3] rfl
              refine va_calli (va_runV (As := [.int (nI k), .int 0]) (rest := []) ⟨hx, hb, hml, hown, hT⟩ (c_Mod_block_1 l dC dI g0 gu gb gh cU cV cZ nx (nI uu) ex th en un ba M H.size k 0 hkc) (cwV 2 hT (tb_wsV tw_241 tw_242 tw_243 tw_2 tw_244) rfl rfl rfl (by decide +kernel) ⟨Nat.le_of_ble_eq_true rfl, Nat.le_of_ble_eq_true rfl⟩) ⟨we_blind, va_recv hK hP (q0 := 0) rfl rfl, we_at hKc hPc hDc⟩ rfl rfl hl.1 rfl (lv_room (Nat.le_of_ble_eq_true rfl)) d_Law_law_357 ⟨by show _ ≤ 1034; omega, by show _ ≤ 8482; omega⟩) hS (fun q _ h => hFc q h) hFc (fun r6 u9 t9 H1 locs ht hvm hw6 hB hz1 hk1 hS => ?_)
              obtain ⟨hP1, hK1, hD1⟩ := hB
              rw [ht] at hP1
              have hK1 := va_K.moved hvm.symm hK1
              obtain ⟨hP, hD⟩ := va_join (wr := [(h0, .inr (0, [.ref hr, .int (nI ff), .int (nI uu), .int nx, .long (lN M), .int en, .int lf])), (hr, .inl (cB, 64, .inl rg)), (ho, .inl (cL, 1, .inr (.inl (vp_updL of 0 a5.toInt64))))]) (w1 := [(g0, .inr (1, [.ref gu, .ref gb, .ref gh, .int nx, .int (nI uu), .int ex, .int 0, .int en])), (gu, .inl (cU, 64, .inl un)), (gb, .inl (cV, 64, .inl ba)), (gh, .inl (cZ, 64, .inl (hm M)))]) hP hD [0, 1, 2, 3] [4, 5, 6] rfl rfl (by decide) (by decide) hk1 hFc hP1 hD1
              have hK := (hK.sub (tys' := [(cB, .byte), (cL, .long)]) [3, 4] rfl).app hK1
              generalize H1 = H at hP hS ⊢
              have hP : va_P (dC, dI) classes [(h0, .inr (0, [.ref hr, .int (nI ff), .int (nI uu), .int nx, .long (lN M), .int en, .int lf])), (hr, .inl (cB, 64, .inl rg)), (ho, .inl (cL, 1, .inr (.inl (vp_updL of 0 a5.toInt64)))), (g0, .inr (1, [.ref gu, .ref gb, .ref gh, .int nx, .int (nI uu), .int ex, .int 0, .int en])), (gu, .inl (cU, 64, .inl un)), (gb, .inl (cV, 64, .inl ba)), (gh, .inl (cZ, 64, .inl (hm M)))] H := hP
              have hD : va_D A [(h0, .inr (0, [.ref hr, .int (nI ff), .int (nI uu), .int nx, .long (lN M), .int en, .int lf])), (hr, .inl (cB, 64, .inl rg)), (ho, .inl (cL, 1, .inr (.inl (vp_updL of 0 a5.toInt64)))), (g0, .inr (1, [.ref gu, .ref gb, .ref gh, .int nx, .int (nI uu), .int ex, .int 0, .int en])), (gu, .inl (cU, 64, .inl un)), (gb, .inl (cV, 64, .inl ba)), (gh, .inl (cZ, 64, .inl (hm M)))] := hD
              have hK : va_K (dC, dI) classes [(cB, .byte), (cL, .long), (cU, .int), (cV, .int), (cZ, .boolean)] s := hK
              obtain rfl : a5 = r6 := lw_blk hb5 hw6
              refine lv_istore hx hb d_Law_law_360 hl (by decide) rfl (fun ls hl => ?_)
              have hl : lv_has ls 7 [(6, .int a5), (5, .int 0), (4, .int (nI (5 * t))), (3, .ref ho), (2, .ref g0), (1, .ref h0), (0, .ref b)] := hl
              refine lv_aload_n hx hb d_Law_law_362 rfl (lv_at hl 4 rfl) ?_
              have hPc := hP.sub (ws' := [(g0, .inr (1, [.ref gu, .ref gb, .ref gh, .int nx, .int (nI uu), .int ex, .int 0, .int en])), (gu, .inl (cU, 64, .inl un)), (gb, .inl (cV, 64, .inl ba)), (gh, .inl (cZ, 64, .inl (hm M)))]) [3, 4, 5, 6] rfl
              have hKc := hK.sub (tys' := [(cU, .int), (cV, .int), (cZ, .boolean)]) [2, 3, 4] rfl
              refine vp_callSi (W.runV (As := []) (rest := []) ⟨hx, hb, hml, hown, hT⟩ (c_Mod_thrown l dC dI g0 gu gb gh cU cV cZ nx (nI uu) ex 0 en un ba M) (cwV 0 hT (tb_wsV tw_209 tw_210 tw_211 tw_2 tw_212) rfl rfl rfl (by decide +kernel) ⟨Nat.le_of_ble_eq_true rfl, Nat.le_of_ble_eq_true rfl⟩) ⟨wd_blind, va_recv hK hP (q0 := 3) rfl rfl, wd_at hKc hPc⟩ rfl rfl hl.1 rfl (lv_room (Nat.le_of_ble_eq_true rfl)) d_Law_law_363 ⟨by show _ ≤ 1034; omega, by show _ ≤ 8482; omega⟩) (fun r7 hr7 => ?_)
              subst hr7
              refine lv_iload hx hb d_Law_law_366 (lv_at hl 1 rfl) ?_
              refine lv_icmp_eq (tgt := 373) hx hb d_Law_law_368 rfl (fun h2 => ?_) (fun h2 => ?_)
              · refine lv_iload hx hb d_Law_law_373 (lv_at hl 1 rfl) ?_
                refine lv_if_ne (tgt := 390) hx hb d_Law_law_375 rfl (fun h3 => ?_) (fun h3 => ?_)
                · exact absurd rfl h3
                · refine lv_aload_n hx hb d_Law_law_378 rfl (lv_at hl 3 rfl) ?_
                  refine lv_iconst (v := 0) hx hb d_Law_law_379 (by decide) ?_
                  refine va_lald hx hb hK hP 2 1 rfl rfl (vp_in_nI (n := 0) (N := 1) (by omega) (by decide)) d_Law_law_380 ?_
                  rw [sb_cl0, pk_uLs]
                  refine lv_iload hx hb d_Law_law_381 (lv_at hl 0 rfl) ?_
                  refine lv_i2l hx hb d_Law_law_383 rfl ?_
                  refine W.lcmp hx hb d_Law_law_384 ?_
                  refine lv_if_eq (tgt := 390) hx hb d_Law_law_385 rfl (fun h4 => ?_) (fun h4 => ?_)
                  · refine lv_goto (tgt := 418) hx hb d_Law_law_390 rfl ?_
                    have hP := hP.sub (ws' := [(h0, .inr (0, [.ref hr, .int (nI ff), .int (nI uu), .int nx, .long (lN M), .int en, .int lf])), (hr, .inl (cB, 64, .inl rg)), (g0, .inr (1, [.ref gu, .ref gb, .ref gh, .int nx, .int (nI uu), .int ex, .int 0, .int en])), (gu, .inl (cU, 64, .inl un)), (gb, .inl (cV, 64, .inl ba)), (gh, .inl (cZ, 64, .inl (hm M))), (ho, .inl (cL, 1, .inr (.inl (vp_updL of 0 a5.toInt64))))]) [0, 1, 3, 4, 5, 6, 2] rfl
                    have hD := hD.sub (ws' := [(h0, .inr (0, [.ref hr, .int (nI ff), .int (nI uu), .int nx, .long (lN M), .int en, .int lf])), (hr, .inl (cB, 64, .inl rg)), (g0, .inr (1, [.ref gu, .ref gb, .ref gh, .int nx, .int (nI uu), .int ex, .int 0, .int en])), (gu, .inl (cU, 64, .inl un)), (gb, .inl (cV, 64, .inl ba)), (gh, .inl (cZ, 64, .inl (hm M))), (ho, .inl (cL, 1, .inr (.inl (vp_updL of 0 a5.toInt64))))]) [0, 1, 3, 4, 5, 6, 2] (by decide) rfl
                    have hK := hK.sub (tys' := [(cB, .byte), (cU, .int), (cV, .int), (cZ, .boolean), (cL, .long)]) [0, 2, 3, 4, 1] rfl
                    refine W.widen (k := 7 + (t + 1)) (n := 272 + 6 * (t + 1)) (by omega) (by omega) ?_
                    refine lv_iinc (v := nI (5 * (t + 1))) hx hb d_Law_law_418 hl (k := 2) rfl (by rw [show 5 * (t + 1) = 5 * t + 5 from by omega, ← nI_add]; rfl) (by decide) rfl (fun ls hl => ?_)
                    have hl : lv_has ls 7 [(4, .int (nI (5 * (t + 1)))), (6, .int a5), (5, .int 0), (3, .ref ho), (2, .ref g0), (1, .ref h0), (0, .ref b)] := hl
                    refine lv_goto (tgt := 23) hx hb d_Law_law_421 rfl ?_
                    exact ih (t + 1) ff uu nx M en lf rg ex 0 un ba (vp_updL of 0 a5.toInt64) ls H locs (by omega) (hI) (lv_sub hl [0, 3, 4, 5, 6] rfl) hP hD hS
                  · exact absurd ((lg_cmp_eq _ _).mpr rfl) h4
              · exact absurd rfl h2
          · refine lv_iconst (v := 1) hx hb d_Law_law_325 (by decide) ?_
            refine lv_goto (tgt := 330) hx hb d_Law_law_326 rfl ?_
            refine lv_aload_n hx hb d_Law_law_330 rfl (lv_at hl 1 rfl) ?_
            by_cases hk : xs (5 * t + 1) < 0 ∨ nI (cn (bg M).testBit 64) ≤ xs (5 * t + 1)
            · have hPc := hP.sub (ws' := [(h0, .inr (0, [.ref hr, .int (nI ff), .int (nI uu), .int nx, .long (lN M), .int en, .int lf])), (hr, .inl (cB, 64, .inl rg)), (ho, .inl (cL, 1, .inr (.inl of)))]) [0, 1, 6] rfl
              have hDc := hD.sub (ws' := [(h0, .inr (0, [.ref hr, .int (nI ff), .int (nI uu), .int nx, .long (lN M), .int en, .int lf])), (hr, .inl (cB, 64, .inl rg)), (ho, .inl (cL, 1, .inr (.inl of)))]) [0, 1, 6] (by decide) rfl
              have hKc := hK.sub (tys' := [(cB, .byte), (cL, .long)]) [0, 4] rfl
              have hFc := va_free (wc := [(h0, .inr (0, [.ref hr, .int (nI ff), .int (nI uu), .int nx, .long (lN M), .int en, .int lf])), (hr, .inl (cB, 64, .inl rg)), (ho, .inl (cL, 1, .inr (.inl of)))]) hD hS hA [0, 1, 6] rfl
              refine va_calli (kx_runSW (n := 4) (As := [.ref h0, .int (xs (5 * t + 1)), .int 1, .ref ho]) (rest := []) ⟨hx, hb, hml, hown, hT⟩ (c_Law_block_0 l hfl dC dI h0 hr ho cB cL (nI ff) (nI uu) nx M en lf rg of H.size (xs (5 * t + 1)) 1 hI.lt hk) rfl (tb_good (tb_cons tw_155)) rfl rfl ⟨Nat.le_of_ble_eq_true rfl, Nat.le_of_ble_eq_true rfl⟩ (hT _ tw_0) (hT _ tw_153) (hT _ tw_154) (by decide +kernel) ⟨wv_blind, wv_at hth_IO (fun q h9 => hS.2.1 q h9 (by rw [hAe]; exact Nat.not_le.mpr h9)) hKc hPc hDc⟩ rfl rfl hl.1 rfl (lv_room (Nat.le_of_ble_eq_true rfl)) d_Law_law_331 ⟨by show _ ≤ 1034; omega, by show _ ≤ 8482; omega⟩) hS (fun q _ h => hFc q h) hFc (fun r5 u9 t9 H1 locs ht hvm hw5 hB hz1 hk1 hS => ?_)
              obtain ⟨hP1, hK1, hD1⟩ := hB
              rw [ht] at hP1
              have hK1 := va_K.moved hvm.symm hK1
              obtain ⟨hP, hD⟩ := va_join (wr := [(g0, .inr (1, [.ref gu, .ref gb, .ref gh, .int nx, .int (nI uu), .int ex, .int th, .int en])), (gu, .inl (cU, 64, .inl un)), (gb, .inl (cV, 64, .inl ba)), (gh, .inl (cZ, 64, .inl (hm M)))]) (w1 := [(h0, .inr (0, [.ref hr, .int (nI ff), .int (nI uu), .int nx, .long (lN M), .int en, .int lf])), (hr, .inl (cB, 64, .inl rg)), (ho, .inl (cL, 1, .inr (.inl of)))]) hP hD [0, 1, 6] [2, 3, 4, 5] rfl rfl (by decide) (by decide) hk1 hFc hP1 hD1
              have hK := (hK.sub (tys' := [(cU, .int), (cV, .int), (cZ, .boolean)]) [1, 2, 3] rfl).app hK1
              generalize H1 = H at hP hS ⊢
              have hP : va_P (dC, dI) classes [(g0, .inr (1, [.ref gu, .ref gb, .ref gh, .int nx, .int (nI uu), .int ex, .int th, .int en])), (gu, .inl (cU, 64, .inl un)), (gb, .inl (cV, 64, .inl ba)), (gh, .inl (cZ, 64, .inl (hm M))), (h0, .inr (0, [.ref hr, .int (nI ff), .int (nI uu), .int nx, .long (lN M), .int en, .int lf])), (hr, .inl (cB, 64, .inl rg)), (ho, .inl (cL, 1, .inr (.inl of)))] H := hP
              have hD : va_D A [(g0, .inr (1, [.ref gu, .ref gb, .ref gh, .int nx, .int (nI uu), .int ex, .int th, .int en])), (gu, .inl (cU, 64, .inl un)), (gb, .inl (cV, 64, .inl ba)), (gh, .inl (cZ, 64, .inl (hm M))), (h0, .inr (0, [.ref hr, .int (nI ff), .int (nI uu), .int nx, .long (lN M), .int en, .int lf])), (hr, .inl (cB, 64, .inl rg)), (ho, .inl (cL, 1, .inr (.inl of)))] := hD
              have hK : va_K (dC, dI) classes [(cU, .int), (cV, .int), (cZ, .boolean), (cB, .byte), (cL, .long)] s := hK
              subst hw5
              refine lv_istore hx hb d_Law_law_334 hl (by decide) rfl (fun ls hl => ?_)
              have hl : lv_has ls 7 [(5, .int 1), (4, .int (nI (5 * t))), (3, .ref ho), (2, .ref g0), (1, .ref h0), (0, .ref b)] := hl
              refine lv_aload_n hx hb d_Law_law_336 rfl (lv_at hl 3 rfl) ?_
              refine lv_aload_n hx hb d_Law_law_337 rfl (lv_at hl 5 rfl) ?_
              refine lv_iload hx hb d_Law_law_338 (lv_at hl 1 rfl) ?_
              refine lv_iconst (v := 1) hx hb d_Law_law_340 (by decide) ?_
              refine lv_iadd hx hb d_Law_law_341 ?_
              refine lv_topi (fun y9 e9 => ?_)
              obtain rfl : y9 = (nI (5 * t + 1) : Int32) := by rw [e9]; exact nI_add _ 1
              refine va_sld hx hb hX hbl hbA hS (vp_in_nI (by omega) (by omega)) d_Law_law_342 ?_
              rw [nI_clamp (by omega)]
              refine lv_aload_n hx hb d_Law_law_343 rfl (lv_at hl 5 rfl) ?_
              refine lv_iload hx hb d_Law_law_344 (lv_at hl 1 rfl) ?_
              refine lv_iconst (v := 2) hx hb d_Law_law_346 (by decide) ?_
              refine lv_iadd hx hb d_Law_law_347 ?_
              refine lv_topi (fun y9 e9 => ?_)
              obtain rfl : y9 = (nI (5 * t + 2) : Int32) := by rw [e9]; exact nI_add _ 2
              refine va_sld hx hb hX hbl hbA hS (vp_in_nI (by omega) (by omega)) d_Law_law_348 ?_
              rw [nI_clamp (by omega)]
              refine lv_if_eq (tgt := 356) hx hb d_Law_law_349 rfl (fun h8 => ?_) (fun h8 => ?_)
              · exact absurd h8 hm0
              refine lv_iconst (v := 1) hx hb d_Law_law_352 (by decide) ?_
              refine lv_goto (tgt := 357) hx hb d_Law_law_353 rfl ?_
              have hPc := hP.sub (ws' := [(g0, .inr (1, [.ref gu, .ref gb, .ref gh, .int nx, .int (nI uu), .int ex, .int th, .int en])), (gu, .inl (cU, 64, .inl un)), (gb, .inl (cV, 64, .inl ba)), (gh, .inl (cZ, 64, .inl (hm M)))]) [0, 1, 2, 3] rfl
              have hDc := hD.sub (ws' := [(g0, .inr (1, [.ref gu, .ref gb, .ref gh, .int nx, .int (nI uu), .int ex, .int th, .int en])), (gu, .inl (cU, 64, .inl un)), (gb, .inl (cV, 64, .inl ba)), (gh, .inl (cZ, 64, .inl (hm M)))]) [0, 1, 2, 3] (by decide) rfl
              have hKc := hK.sub (tys' := [(cU, .int), (cV, .int), (cZ, .boolean)]) [0, 1, 2] rfl
              have hFc := va_free (wc := [(g0, .inr (1, [.ref gu, .ref gb, .ref gh, .int nx, .int (nI uu), .int ex, .int th, .int en])), (gu, .inl (cU, 64, .inl un)), (gb, .inl (cV, 64, .inl ba)), (gh, .inl (cZ, 64, .inl (hm M)))]) hD hS hA [0, 1, 2, 3] rfl
              refine va_calli (va_runV (As := [.int (xs (5 * t + 1)), .int 1]) (rest := []) ⟨hx, hb, hml, hown, hT⟩ (c_Mod_block_0 l dC dI g0 gu gb gh cU cV cZ nx (nI uu) ex th en un ba M H.size (xs (5 * t + 1)) 1 hk) (cwV 2 hT (tb_wsV tw_241 tw_242 tw_243 tw_2 tw_244) rfl rfl rfl (by decide +kernel) ⟨Nat.le_of_ble_eq_true rfl, Nat.le_of_ble_eq_true rfl⟩) ⟨we_blind, va_recv hK hP (q0 := 0) rfl rfl, we_at hKc hPc hDc⟩ rfl rfl hl.1 rfl (lv_room (Nat.le_of_ble_eq_true rfl)) d_Law_law_357 ⟨by show _ ≤ 1034; omega, by show _ ≤ 8482; omega⟩) hS (fun q _ h => hFc q h) hFc (fun r6 u9 t9 H1 locs ht hvm hw6 hB hz1 hk1 hS => ?_)
              obtain ⟨hP1, hK1, hD1⟩ := hB
              rw [ht] at hP1
              have hK1 := va_K.moved hvm.symm hK1
              obtain ⟨hP, hD⟩ := va_join (wr := [(h0, .inr (0, [.ref hr, .int (nI ff), .int (nI uu), .int nx, .long (lN M), .int en, .int lf])), (hr, .inl (cB, 64, .inl rg)), (ho, .inl (cL, 1, .inr (.inl of)))]) (w1 := [(g0, .inr (1, [.ref gu, .ref gb, .ref gh, .int nx, .int (nI uu), .int ex, .int 1, .int en])), (gu, .inl (cU, 64, .inl un)), (gb, .inl (cV, 64, .inl ba)), (gh, .inl (cZ, 64, .inl (hm M)))]) hP hD [0, 1, 2, 3] [4, 5, 6] rfl rfl (by decide) (by decide) hk1 hFc hP1 hD1
              have hK := (hK.sub (tys' := [(cB, .byte), (cL, .long)]) [3, 4] rfl).app hK1
              generalize H1 = H at hP hS ⊢
              have hP : va_P (dC, dI) classes [(h0, .inr (0, [.ref hr, .int (nI ff), .int (nI uu), .int nx, .long (lN M), .int en, .int lf])), (hr, .inl (cB, 64, .inl rg)), (ho, .inl (cL, 1, .inr (.inl of))), (g0, .inr (1, [.ref gu, .ref gb, .ref gh, .int nx, .int (nI uu), .int ex, .int 1, .int en])), (gu, .inl (cU, 64, .inl un)), (gb, .inl (cV, 64, .inl ba)), (gh, .inl (cZ, 64, .inl (hm M)))] H := hP
              have hD : va_D A [(h0, .inr (0, [.ref hr, .int (nI ff), .int (nI uu), .int nx, .long (lN M), .int en, .int lf])), (hr, .inl (cB, 64, .inl rg)), (ho, .inl (cL, 1, .inr (.inl of))), (g0, .inr (1, [.ref gu, .ref gb, .ref gh, .int nx, .int (nI uu), .int ex, .int 1, .int en])), (gu, .inl (cU, 64, .inl un)), (gb, .inl (cV, 64, .inl ba)), (gh, .inl (cZ, 64, .inl (hm M)))] := hD
              have hK : va_K (dC, dI) classes [(cB, .byte), (cL, .long), (cU, .int), (cV, .int), (cZ, .boolean)] s := hK
              subst hw6
              refine lv_istore hx hb d_Law_law_360 hl (by decide) rfl (fun ls hl => ?_)
              have hl : lv_has ls 7 [(6, .int 0), (5, .int 1), (4, .int (nI (5 * t))), (3, .ref ho), (2, .ref g0), (1, .ref h0), (0, .ref b)] := hl
              refine lv_aload_n hx hb d_Law_law_362 rfl (lv_at hl 4 rfl) ?_
              have hPc := hP.sub (ws' := [(g0, .inr (1, [.ref gu, .ref gb, .ref gh, .int nx, .int (nI uu), .int ex, .int 1, .int en])), (gu, .inl (cU, 64, .inl un)), (gb, .inl (cV, 64, .inl ba)), (gh, .inl (cZ, 64, .inl (hm M)))]) [3, 4, 5, 6] rfl
              have hKc := hK.sub (tys' := [(cU, .int), (cV, .int), (cZ, .boolean)]) [2, 3, 4] rfl
              refine vp_callSi (W.runV (As := []) (rest := []) ⟨hx, hb, hml, hown, hT⟩ (c_Mod_thrown l dC dI g0 gu gb gh cU cV cZ nx (nI uu) ex 1 en un ba M) (cwV 0 hT (tb_wsV tw_209 tw_210 tw_211 tw_2 tw_212) rfl rfl rfl (by decide +kernel) ⟨Nat.le_of_ble_eq_true rfl, Nat.le_of_ble_eq_true rfl⟩) ⟨wd_blind, va_recv hK hP (q0 := 3) rfl rfl, wd_at hKc hPc⟩ rfl rfl hl.1 rfl (lv_room (Nat.le_of_ble_eq_true rfl)) d_Law_law_363 ⟨by show _ ≤ 1034; omega, by show _ ≤ 8482; omega⟩) (fun r7 hr7 => ?_)
              subst hr7
              refine lv_iload hx hb d_Law_law_366 (lv_at hl 1 rfl) ?_
              refine lv_icmp_eq (tgt := 373) hx hb d_Law_law_368 rfl (fun h2 => ?_) (fun h2 => ?_)
              · refine lv_iload hx hb d_Law_law_373 (lv_at hl 1 rfl) ?_
                refine lv_if_ne (tgt := 390) hx hb d_Law_law_375 rfl (fun h3 => ?_) (fun h3 => ?_)
                · refine lv_goto (tgt := 418) hx hb d_Law_law_390 rfl ?_
                  have hP := hP.sub (ws' := [(h0, .inr (0, [.ref hr, .int (nI ff), .int (nI uu), .int nx, .long (lN M), .int en, .int lf])), (hr, .inl (cB, 64, .inl rg)), (g0, .inr (1, [.ref gu, .ref gb, .ref gh, .int nx, .int (nI uu), .int ex, .int 1, .int en])), (gu, .inl (cU, 64, .inl un)), (gb, .inl (cV, 64, .inl ba)), (gh, .inl (cZ, 64, .inl (hm M))), (ho, .inl (cL, 1, .inr (.inl of)))]) [0, 1, 3, 4, 5, 6, 2] rfl
                  have hD := hD.sub (ws' := [(h0, .inr (0, [.ref hr, .int (nI ff), .int (nI uu), .int nx, .long (lN M), .int en, .int lf])), (hr, .inl (cB, 64, .inl rg)), (g0, .inr (1, [.ref gu, .ref gb, .ref gh, .int nx, .int (nI uu), .int ex, .int 1, .int en])), (gu, .inl (cU, 64, .inl un)), (gb, .inl (cV, 64, .inl ba)), (gh, .inl (cZ, 64, .inl (hm M))), (ho, .inl (cL, 1, .inr (.inl of)))]) [0, 1, 3, 4, 5, 6, 2] (by decide) rfl
                  have hK := hK.sub (tys' := [(cB, .byte), (cU, .int), (cV, .int), (cZ, .boolean), (cL, .long)]) [0, 2, 3, 4, 1] rfl
                  refine W.widen (k := 7 + (t + 1)) (n := 272 + 6 * (t + 1)) (by omega) (by omega) ?_
                  refine lv_iinc (v := nI (5 * (t + 1))) hx hb d_Law_law_418 hl (k := 2) rfl (by rw [show 5 * (t + 1) = 5 * t + 5 from by omega, ← nI_add]; rfl) (by decide) rfl (fun ls hl => ?_)
                  have hl : lv_has ls 7 [(4, .int (nI (5 * (t + 1)))), (6, .int 0), (5, .int 1), (3, .ref ho), (2, .ref g0), (1, .ref h0), (0, .ref b)] := hl
                  refine lv_goto (tgt := 23) hx hb d_Law_law_421 rfl ?_
                  exact ih (t + 1) ff uu nx M en lf rg ex 1 un ba of ls H locs (by omega) (hI) (lv_sub hl [0, 3, 4, 5, 6] rfl) hP hD hS
                · exact absurd h3 (by decide)
              · exact absurd rfl h2
            · obtain ⟨k, hk31, ek⟩ := nI_of (fun h => hk (Or.inl h))
              have hkc : k < cn (bg M).testBit 64 := by rcases Nat.lt_or_ge k (cn (bg M).testBit 64) with h | h; exact h; exact absurd (Or.inr (by rw [ek]; exact nI_le h hk31)) hk
              rw [ek]
              have hPc := hP.sub (ws' := [(h0, .inr (0, [.ref hr, .int (nI ff), .int (nI uu), .int nx, .long (lN M), .int en, .int lf])), (hr, .inl (cB, 64, .inl rg)), (ho, .inl (cL, 1, .inr (.inl of)))]) [0, 1, 6] rfl
              have hDc := hD.sub (ws' := [(h0, .inr (0, [.ref hr, .int (nI ff), .int (nI uu), .int nx, .long (lN M), .int en, .int lf])), (hr, .inl (cB, 64, .inl rg)), (ho, .inl (cL, 1, .inr (.inl of)))]) [0, 1, 6] (by decide) rfl
              have hKc := hK.sub (tys' := [(cB, .byte), (cL, .long)]) [0, 4] rfl
              have hFc := va_free (wc := [(h0, .inr (0, [.ref hr, .int (nI ff), .int (nI uu), .int nx, .long (lN M), .int en, .int lf])), (hr, .inl (cB, 64, .inl rg)), (ho, .inl (cL, 1, .inr (.inl of)))]) hD hS hA [0, 1, 6] rfl
              refine va_calli (kx_runSW (n := 4) (As := [.ref h0, .int (nI k), .int 1, .ref ho]) (rest := []) ⟨hx, hb, hml, hown, hT⟩ (c_Law_block_1 l dC dI h0 hr ho cB cL (nI ff) (nI uu) nx M en lf rg of H.size k 1 hI.lt hkc) rfl (tb_good (tb_cons tw_155)) rfl rfl ⟨Nat.le_of_ble_eq_true rfl, Nat.le_of_ble_eq_true rfl⟩ (hT _ tw_0) (hT _ tw_153) (hT _ tw_154) (by decide +kernel) ⟨we_blind, we_at hKc hPc hDc⟩ rfl rfl hl.1 rfl (lv_room (Nat.le_of_ble_eq_true rfl)) d_Law_law_331 ⟨by show _ ≤ 1034; omega, by show _ ≤ 8482; omega⟩) hS (fun q _ h => hFc q h) hFc (fun r5 u9 t9 H1 locs ht hvm hw5 hB hz1 hk1 hS => ?_)
              obtain ⟨a5, ea5⟩ : ∃ z : Int32, z = u9 := ⟨_, rfl⟩
              subst ea5
              obtain ⟨rfl, hb5⟩ := hw5
              obtain ⟨hP1, hK1, hD1⟩ := hB
              rw [ht] at hP1
              have hK1 := va_K.moved hvm.symm hK1
              obtain ⟨hP, hD⟩ := va_join (wr := [(g0, .inr (1, [.ref gu, .ref gb, .ref gh, .int nx, .int (nI uu), .int ex, .int th, .int en])), (gu, .inl (cU, 64, .inl un)), (gb, .inl (cV, 64, .inl ba)), (gh, .inl (cZ, 64, .inl (hm M)))]) (w1 := [(h0, .inr (0, [.ref hr, .int (nI ff), .int (nI uu), .int nx, .long (lN M), .int en, .int lf])), (hr, .inl (cB, 64, .inl rg)), (ho, .inl (cL, 1, .inr (.inl (vp_updL of 0 a5.toInt64))))]) hP hD [0, 1, 6] [2, 3, 4, 5] rfl rfl (by decide) (by decide) hk1 hFc hP1 hD1
              have hK := (hK.sub (tys' := [(cU, .int), (cV, .int), (cZ, .boolean)]) [1, 2, 3] rfl).app hK1
              generalize H1 = H at hP hS ⊢
              have hP : va_P (dC, dI) classes [(g0, .inr (1, [.ref gu, .ref gb, .ref gh, .int nx, .int (nI uu), .int ex, .int th, .int en])), (gu, .inl (cU, 64, .inl un)), (gb, .inl (cV, 64, .inl ba)), (gh, .inl (cZ, 64, .inl (hm M))), (h0, .inr (0, [.ref hr, .int (nI ff), .int (nI uu), .int nx, .long (lN M), .int en, .int lf])), (hr, .inl (cB, 64, .inl rg)), (ho, .inl (cL, 1, .inr (.inl (vp_updL of 0 a5.toInt64))))] H := hP
              have hD : va_D A [(g0, .inr (1, [.ref gu, .ref gb, .ref gh, .int nx, .int (nI uu), .int ex, .int th, .int en])), (gu, .inl (cU, 64, .inl un)), (gb, .inl (cV, 64, .inl ba)), (gh, .inl (cZ, 64, .inl (hm M))), (h0, .inr (0, [.ref hr, .int (nI ff), .int (nI uu), .int nx, .long (lN M), .int en, .int lf])), (hr, .inl (cB, 64, .inl rg)), (ho, .inl (cL, 1, .inr (.inl (vp_updL of 0 a5.toInt64))))] := hD
              have hK : va_K (dC, dI) classes [(cU, .int), (cV, .int), (cZ, .boolean), (cB, .byte), (cL, .long)] s := hK
              refine lv_istore hx hb d_Law_law_334 hl (by decide) rfl (fun ls hl => ?_)
              have hl : lv_has ls 7 [(5, .int 0), (4, .int (nI (5 * t))), (3, .ref ho), (2, .ref g0), (1, .ref h0), (0, .ref b)] := hl
              refine lv_aload_n hx hb d_Law_law_336 rfl (lv_at hl 3 rfl) ?_
              refine lv_aload_n hx hb d_Law_law_337 rfl (lv_at hl 5 rfl) ?_
              refine lv_iload hx hb d_Law_law_338 (lv_at hl 1 rfl) ?_
              refine lv_iconst (v := 1) hx hb d_Law_law_340 (by decide) ?_
              refine lv_iadd hx hb d_Law_law_341 ?_
              refine lv_topi (fun y9 e9 => ?_)
              obtain rfl : y9 = (nI (5 * t + 1) : Int32) := by rw [e9]; exact nI_add _ 1
              refine va_sld hx hb hX hbl hbA hS (vp_in_nI (by omega) (by omega)) d_Law_law_342 ?_
              rw [nI_clamp (by omega)]
              refine lv_aload_n hx hb d_Law_law_343 rfl (lv_at hl 5 rfl) ?_
              refine lv_iload hx hb d_Law_law_344 (lv_at hl 1 rfl) ?_
              refine lv_iconst (v := 2) hx hb d_Law_law_346 (by decide) ?_
              refine lv_iadd hx hb d_Law_law_347 ?_
              refine lv_topi (fun y9 e9 => ?_)
              obtain rfl : y9 = (nI (5 * t + 2) : Int32) := by rw [e9]; exact nI_add _ 2
              refine va_sld hx hb hX hbl hbA hS (vp_in_nI (by omega) (by omega)) d_Law_law_348 ?_
              rw [nI_clamp (by omega)]
              refine lv_if_eq (tgt := 356) hx hb d_Law_law_349 rfl (fun h8 => ?_) (fun h8 => ?_)
              · exact absurd h8 hm0
              refine lv_iconst (v := 1) hx hb d_Law_law_352 (by decide) ?_
              refine lv_goto (tgt := 357) hx hb d_Law_law_353 rfl ?_
              rw [ek]
              have hPc := hP.sub (ws' := [(g0, .inr (1, [.ref gu, .ref gb, .ref gh, .int nx, .int (nI uu), .int ex, .int th, .int en])), (gu, .inl (cU, 64, .inl un)), (gb, .inl (cV, 64, .inl ba)), (gh, .inl (cZ, 64, .inl (hm M)))]) [0, 1, 2, 3] rfl
              have hDc := hD.sub (ws' := [(g0, .inr (1, [.ref gu, .ref gb, .ref gh, .int nx, .int (nI uu), .int ex, .int th, .int en])), (gu, .inl (cU, 64, .inl un)), (gb, .inl (cV, 64, .inl ba)), (gh, .inl (cZ, 64, .inl (hm M)))]) [0, 1, 2, 3] (by decide) rfl
              have hKc := hK.sub (tys' := [(cU, .int), (cV, .int), (cZ, .boolean)]) [0, 1, 2] rfl
              have hFc := va_free (wc := [(g0, .inr (1, [.ref gu, .ref gb, .ref gh, .int nx, .int (nI uu), .int ex, .int th, .int en])), (gu, .inl (cU, 64, .inl un)), (gb, .inl (cV, 64, .inl ba)), (gh, .inl (cZ, 64, .inl (hm M)))]) hD hS hA [0, 1, 2, 3] rfl
              refine va_calli (va_runV (As := [.int (nI k), .int 1]) (rest := []) ⟨hx, hb, hml, hown, hT⟩ (c_Mod_block_1 l dC dI g0 gu gb gh cU cV cZ nx (nI uu) ex th en un ba M H.size k 1 hkc) (cwV 2 hT (tb_wsV tw_241 tw_242 tw_243 tw_2 tw_244) rfl rfl rfl (by decide +kernel) ⟨Nat.le_of_ble_eq_true rfl, Nat.le_of_ble_eq_true rfl⟩) ⟨we_blind, va_recv hK hP (q0 := 0) rfl rfl, we_at hKc hPc hDc⟩ rfl rfl hl.1 rfl (lv_room (Nat.le_of_ble_eq_true rfl)) d_Law_law_357 ⟨by show _ ≤ 1034; omega, by show _ ≤ 8482; omega⟩) hS (fun q _ h => hFc q h) hFc (fun r6 u9 t9 H1 locs ht hvm hw6 hB hz1 hk1 hS => ?_)
              obtain ⟨hP1, hK1, hD1⟩ := hB
              rw [ht] at hP1
              have hK1 := va_K.moved hvm.symm hK1
              obtain ⟨hP, hD⟩ := va_join (wr := [(h0, .inr (0, [.ref hr, .int (nI ff), .int (nI uu), .int nx, .long (lN M), .int en, .int lf])), (hr, .inl (cB, 64, .inl rg)), (ho, .inl (cL, 1, .inr (.inl (vp_updL of 0 a5.toInt64))))]) (w1 := [(g0, .inr (1, [.ref gu, .ref gb, .ref gh, .int nx, .int (nI uu), .int ex, .int 0, .int en])), (gu, .inl (cU, 64, .inl un)), (gb, .inl (cV, 64, .inl ba)), (gh, .inl (cZ, 64, .inl (hm M)))]) hP hD [0, 1, 2, 3] [4, 5, 6] rfl rfl (by decide) (by decide) hk1 hFc hP1 hD1
              have hK := (hK.sub (tys' := [(cB, .byte), (cL, .long)]) [3, 4] rfl).app hK1
              generalize H1 = H at hP hS ⊢
              have hP : va_P (dC, dI) classes [(h0, .inr (0, [.ref hr, .int (nI ff), .int (nI uu), .int nx, .long (lN M), .int en, .int lf])), (hr, .inl (cB, 64, .inl rg)), (ho, .inl (cL, 1, .inr (.inl (vp_updL of 0 a5.toInt64)))), (g0, .inr (1, [.ref gu, .ref gb, .ref gh, .int nx, .int (nI uu), .int ex, .int 0, .int en])), (gu, .inl (cU, 64, .inl un)), (gb, .inl (cV, 64, .inl ba)), (gh, .inl (cZ, 64, .inl (hm M)))] H := hP
              have hD : va_D A [(h0, .inr (0, [.ref hr, .int (nI ff), .int (nI uu), .int nx, .long (lN M), .int en, .int lf])), (hr, .inl (cB, 64, .inl rg)), (ho, .inl (cL, 1, .inr (.inl (vp_updL of 0 a5.toInt64)))), (g0, .inr (1, [.ref gu, .ref gb, .ref gh, .int nx, .int (nI uu), .int ex, .int 0, .int en])), (gu, .inl (cU, 64, .inl un)), (gb, .inl (cV, 64, .inl ba)), (gh, .inl (cZ, 64, .inl (hm M)))] := hD
              have hK : va_K (dC, dI) classes [(cB, .byte), (cL, .long), (cU, .int), (cV, .int), (cZ, .boolean)] s := hK
              obtain rfl : a5 = r6 := lw_blk hb5 hw6
              refine lv_istore hx hb d_Law_law_360 hl (by decide) rfl (fun ls hl => ?_)
              have hl : lv_has ls 7 [(6, .int a5), (5, .int 0), (4, .int (nI (5 * t))), (3, .ref ho), (2, .ref g0), (1, .ref h0), (0, .ref b)] := hl
              refine lv_aload_n hx hb d_Law_law_362 rfl (lv_at hl 4 rfl) ?_
              have hPc := hP.sub (ws' := [(g0, .inr (1, [.ref gu, .ref gb, .ref gh, .int nx, .int (nI uu), .int ex, .int 0, .int en])), (gu, .inl (cU, 64, .inl un)), (gb, .inl (cV, 64, .inl ba)), (gh, .inl (cZ, 64, .inl (hm M)))]) [3, 4, 5, 6] rfl
              have hKc := hK.sub (tys' := [(cU, .int), (cV, .int), (cZ, .boolean)]) [2, 3, 4] rfl
              refine vp_callSi (W.runV (As := []) (rest := []) ⟨hx, hb, hml, hown, hT⟩ (c_Mod_thrown l dC dI g0 gu gb gh cU cV cZ nx (nI uu) ex 0 en un ba M) (cwV 0 hT (tb_wsV tw_209 tw_210 tw_211 tw_2 tw_212) rfl rfl rfl (by decide +kernel) ⟨Nat.le_of_ble_eq_true rfl, Nat.le_of_ble_eq_true rfl⟩) ⟨wd_blind, va_recv hK hP (q0 := 3) rfl rfl, wd_at hKc hPc⟩ rfl rfl hl.1 rfl (lv_room (Nat.le_of_ble_eq_true rfl)) d_Law_law_363 ⟨by show _ ≤ 1034; omega, by show _ ≤ 8482; omega⟩) (fun r7 hr7 => ?_)
              subst hr7
              refine lv_iload hx hb d_Law_law_366 (lv_at hl 1 rfl) ?_
              refine lv_icmp_eq (tgt := 373) hx hb d_Law_law_368 rfl (fun h2 => ?_) (fun h2 => ?_)
              · refine lv_iload hx hb d_Law_law_373 (lv_at hl 1 rfl) ?_
                refine lv_if_ne (tgt := 390) hx hb d_Law_law_375 rfl (fun h3 => ?_) (fun h3 => ?_)
                · exact absurd rfl h3
                · refine lv_aload_n hx hb d_Law_law_378 rfl (lv_at hl 3 rfl) ?_
                  refine lv_iconst (v := 0) hx hb d_Law_law_379 (by decide) ?_
                  refine va_lald hx hb hK hP 2 1 rfl rfl (vp_in_nI (n := 0) (N := 1) (by omega) (by decide)) d_Law_law_380 ?_
                  rw [sb_cl0, pk_uLs]
                  refine lv_iload hx hb d_Law_law_381 (lv_at hl 0 rfl) ?_
                  refine lv_i2l hx hb d_Law_law_383 rfl ?_
                  refine W.lcmp hx hb d_Law_law_384 ?_
                  refine lv_if_eq (tgt := 390) hx hb d_Law_law_385 rfl (fun h4 => ?_) (fun h4 => ?_)
                  · refine lv_goto (tgt := 418) hx hb d_Law_law_390 rfl ?_
                    have hP := hP.sub (ws' := [(h0, .inr (0, [.ref hr, .int (nI ff), .int (nI uu), .int nx, .long (lN M), .int en, .int lf])), (hr, .inl (cB, 64, .inl rg)), (g0, .inr (1, [.ref gu, .ref gb, .ref gh, .int nx, .int (nI uu), .int ex, .int 0, .int en])), (gu, .inl (cU, 64, .inl un)), (gb, .inl (cV, 64, .inl ba)), (gh, .inl (cZ, 64, .inl (hm M))), (ho, .inl (cL, 1, .inr (.inl (vp_updL of 0 a5.toInt64))))]) [0, 1, 3, 4, 5, 6, 2] rfl
                    have hD := hD.sub (ws' := [(h0, .inr (0, [.ref hr, .int (nI ff), .int (nI uu), .int nx, .long (lN M), .int en, .int lf])), (hr, .inl (cB, 64, .inl rg)), (g0, .inr (1, [.ref gu, .ref gb, .ref gh, .int nx, .int (nI uu), .int ex, .int 0, .int en])), (gu, .inl (cU, 64, .inl un)), (gb, .inl (cV, 64, .inl ba)), (gh, .inl (cZ, 64, .inl (hm M))), (ho, .inl (cL, 1, .inr (.inl (vp_updL of 0 a5.toInt64))))]) [0, 1, 3, 4, 5, 6, 2] (by decide) rfl
                    have hK := hK.sub (tys' := [(cB, .byte), (cU, .int), (cV, .int), (cZ, .boolean), (cL, .long)]) [0, 2, 3, 4, 1] rfl
                    refine W.widen (k := 7 + (t + 1)) (n := 272 + 6 * (t + 1)) (by omega) (by omega) ?_
                    refine lv_iinc (v := nI (5 * (t + 1))) hx hb d_Law_law_418 hl (k := 2) rfl (by rw [show 5 * (t + 1) = 5 * t + 5 from by omega, ← nI_add]; rfl) (by decide) rfl (fun ls hl => ?_)
                    have hl : lv_has ls 7 [(4, .int (nI (5 * (t + 1)))), (6, .int a5), (5, .int 0), (3, .ref ho), (2, .ref g0), (1, .ref h0), (0, .ref b)] := hl
                    refine lv_goto (tgt := 23) hx hb d_Law_law_421 rfl ?_
                    exact ih (t + 1) ff uu nx M en lf rg ex 0 un ba (vp_updL of 0 a5.toInt64) ls H locs (by omega) (hI) (lv_sub hl [0, 3, 4, 5, 6] rfl) hP hD hS
                  · exact absurd ((lg_cmp_eq _ _).mpr rfl) h4
              · exact absurd rfl h2
        · refine lv_tableIn (off := 354) (tgt := 393) hx hb d_Law_law_39 (by decide) (by decide) (by decide) rfl ?_
          refine lv_aload_n hx hb d_Law_law_393 rfl (lv_at hl 3 rfl) ?_
          refine lv_aload_n hx hb d_Law_law_394 rfl (lv_at hl 4 rfl) ?_
          refine lv_iload hx hb d_Law_law_395 (lv_at hl 0 rfl) ?_
          refine lv_iconst (v := 1) hx hb d_Law_law_397 (by decide) ?_
          refine lv_iadd hx hb d_Law_law_398 ?_
          refine lv_topi (fun y9 e9 => ?_)
          obtain rfl : y9 = (nI (5 * t + 1) : Int32) := by rw [e9]; exact nI_add _ 1
          refine va_sld hx hb hX hbl hbA hS (vp_in_nI (by omega) (by omega)) d_Law_law_399 ?_
          rw [nI_clamp (by omega)]
          have hPc := hP.sub (ws' := [(h0, .inr (0, [.ref hr, .int (nI ff), .int (nI uu), .int nx, .long (lN M), .int en, .int lf])), (hr, .inl (cB, 64, .inl rg))]) [0, 1] rfl
          have hKc := hK.sub (tys' := [(cB, .byte)]) [0] rfl
          refine vp_callSi (W.runV (As := [.int (xs (5 * t + 1))]) (rest := []) ⟨hx, hb, hml, hown, hT⟩ (c_Box_held l dC dI h0 hr cB (nI ff) (nI uu) nx M en lf rg (xs (5 * t + 1)) hI.lt) (cwV 1 hT (tb_wsV tw_55 tw_56 tw_57 tw_1 tw_58) rfl rfl rfl (by decide +kernel) ⟨Nat.le_of_ble_eq_true rfl, Nat.le_of_ble_eq_true rfl⟩) ⟨wd_blind, va_recv hK hP (q0 := 0) rfl rfl, wd_at hKc hPc⟩ rfl rfl hl.1 rfl (lv_room (Nat.le_of_ble_eq_true rfl)) d_Law_law_400 ⟨by show _ ≤ 1034; omega, by show _ ≤ 8482; omega⟩) (fun r5 hw5 => ?_)
          refine lv_aload_n hx hb d_Law_law_403 rfl (lv_at hl 2 rfl) ?_
          refine lv_aload_n hx hb d_Law_law_404 rfl (lv_at hl 4 rfl) ?_
          refine lv_iload hx hb d_Law_law_405 (lv_at hl 0 rfl) ?_
          refine lv_iconst (v := 1) hx hb d_Law_law_407 (by decide) ?_
          refine lv_iadd hx hb d_Law_law_408 ?_
          refine lv_topi (fun y9 e9 => ?_)
          obtain rfl : y9 = (nI (5 * t + 1) : Int32) := by rw [e9]; exact nI_add _ 1
          refine va_sld hx hb hX hbl hbA hS (vp_in_nI (by omega) (by omega)) d_Law_law_409 ?_
          rw [nI_clamp (by omega)]
          have hPc := hP.sub (ws' := [(g0, .inr (1, [.ref gu, .ref gb, .ref gh, .int nx, .int (nI uu), .int ex, .int th, .int en])), (gu, .inl (cU, 64, .inl un)), (gb, .inl (cV, 64, .inl ba)), (gh, .inl (cZ, 64, .inl (hm M)))]) [2, 3, 4, 5] rfl
          have hDc := hD.sub (ws' := [(g0, .inr (1, [.ref gu, .ref gb, .ref gh, .int nx, .int (nI uu), .int ex, .int th, .int en])), (gu, .inl (cU, 64, .inl un)), (gb, .inl (cV, 64, .inl ba)), (gh, .inl (cZ, 64, .inl (hm M)))]) [2, 3, 4, 5] (by decide) rfl
          have hKc := hK.sub (tys' := [(cU, .int), (cV, .int), (cZ, .boolean)]) [1, 2, 3] rfl
          have hFc := va_free (wc := [(g0, .inr (1, [.ref gu, .ref gb, .ref gh, .int nx, .int (nI uu), .int ex, .int th, .int en])), (gu, .inl (cU, 64, .inl un)), (gb, .inl (cV, 64, .inl ba)), (gh, .inl (cZ, 64, .inl (hm M)))]) hD hS hA [2, 3, 4, 5] rfl
          refine va_calli (va_runV (As := [.int (xs (5 * t + 1))]) (rest := [.int r5]) ⟨hx, hb, hml, hown, hT⟩ (c_Mod_held l dC dI g0 gu gb gh cU cV cZ nx (nI uu) ex th en un ba M H.size (xs (5 * t + 1))) (cwV 1 hT (tb_wsV tw_245 tw_246 tw_247 tw_2 tw_248) rfl rfl rfl (by decide +kernel) ⟨Nat.le_of_ble_eq_true rfl, Nat.le_of_ble_eq_true rfl⟩) ⟨we_blind, va_recv hK hP (q0 := 2) rfl rfl, we_at hKc hPc hDc⟩ rfl rfl hl.1 rfl (lv_room (Nat.le_of_ble_eq_true rfl)) d_Law_law_410 ⟨by show _ ≤ 1034; omega, by show _ ≤ 8482; omega⟩) hS (fun q _ h => hFc q h) hFc (fun r6 u9 t9 H1 locs ht hvm hw6 hB hz1 hk1 hS => ?_)
          obtain ⟨hP1, hK1, hD1⟩ := hB
          rw [ht] at hP1
          have hK1 := va_K.moved hvm.symm hK1
          obtain ⟨hP, hD⟩ := va_join (wr := [(h0, .inr (0, [.ref hr, .int (nI ff), .int (nI uu), .int nx, .long (lN M), .int en, .int lf])), (hr, .inl (cB, 64, .inl rg)), (ho, .inl (cL, 1, .inr (.inl of)))]) (w1 := [(g0, .inr (1, [.ref gu, .ref gb, .ref gh, .int nx, .int (nI uu), .int ex, .int 0, .int en])), (gu, .inl (cU, 64, .inl un)), (gb, .inl (cV, 64, .inl ba)), (gh, .inl (cZ, 64, .inl (hm M)))]) hP hD [2, 3, 4, 5] [0, 1, 6] rfl rfl (by decide) (by decide) hk1 hFc hP1 hD1
          have hK := (hK.sub (tys' := [(cB, .byte), (cL, .long)]) [0, 4] rfl).app hK1
          generalize H1 = H at hP hS ⊢
          have hP : va_P (dC, dI) classes [(h0, .inr (0, [.ref hr, .int (nI ff), .int (nI uu), .int nx, .long (lN M), .int en, .int lf])), (hr, .inl (cB, 64, .inl rg)), (ho, .inl (cL, 1, .inr (.inl of))), (g0, .inr (1, [.ref gu, .ref gb, .ref gh, .int nx, .int (nI uu), .int ex, .int 0, .int en])), (gu, .inl (cU, 64, .inl un)), (gb, .inl (cV, 64, .inl ba)), (gh, .inl (cZ, 64, .inl (hm M)))] H := hP
          have hD : va_D A [(h0, .inr (0, [.ref hr, .int (nI ff), .int (nI uu), .int nx, .long (lN M), .int en, .int lf])), (hr, .inl (cB, 64, .inl rg)), (ho, .inl (cL, 1, .inr (.inl of))), (g0, .inr (1, [.ref gu, .ref gb, .ref gh, .int nx, .int (nI uu), .int ex, .int 0, .int en])), (gu, .inl (cU, 64, .inl un)), (gb, .inl (cV, 64, .inl ba)), (gh, .inl (cZ, 64, .inl (hm M)))] := hD
          have hK : va_K (dC, dI) classes [(cB, .byte), (cL, .long), (cU, .int), (cV, .int), (cZ, .boolean)] s := hK
          have key : r5 = r6 := by
            rcases hw5 with ⟨a1, a2⟩ | ⟨a1, a2⟩
            · rcases hw6 with ⟨b1, b2⟩ | ⟨b1, b2⟩
              · rw [a1, b1]
              · exact absurd a2 b2
            · rcases hw6 with ⟨b1, b2⟩ | ⟨b1, b2⟩
              · exact absurd b2 a2
              · rw [a1, b1]
          refine lv_icmp_eq (tgt := 418) hx hb d_Law_law_413 rfl (fun h2 => ?_) (fun h2 => ?_)
          · have hP := hP.sub (ws' := [(h0, .inr (0, [.ref hr, .int (nI ff), .int (nI uu), .int nx, .long (lN M), .int en, .int lf])), (hr, .inl (cB, 64, .inl rg)), (g0, .inr (1, [.ref gu, .ref gb, .ref gh, .int nx, .int (nI uu), .int ex, .int 0, .int en])), (gu, .inl (cU, 64, .inl un)), (gb, .inl (cV, 64, .inl ba)), (gh, .inl (cZ, 64, .inl (hm M))), (ho, .inl (cL, 1, .inr (.inl of)))]) [0, 1, 3, 4, 5, 6, 2] rfl
            have hD := hD.sub (ws' := [(h0, .inr (0, [.ref hr, .int (nI ff), .int (nI uu), .int nx, .long (lN M), .int en, .int lf])), (hr, .inl (cB, 64, .inl rg)), (g0, .inr (1, [.ref gu, .ref gb, .ref gh, .int nx, .int (nI uu), .int ex, .int 0, .int en])), (gu, .inl (cU, 64, .inl un)), (gb, .inl (cV, 64, .inl ba)), (gh, .inl (cZ, 64, .inl (hm M))), (ho, .inl (cL, 1, .inr (.inl of)))]) [0, 1, 3, 4, 5, 6, 2] (by decide) rfl
            have hK := hK.sub (tys' := [(cB, .byte), (cU, .int), (cV, .int), (cZ, .boolean), (cL, .long)]) [0, 2, 3, 4, 1] rfl
            refine W.widen (k := 7 + (t + 1)) (n := 272 + 6 * (t + 1)) (by omega) (by omega) ?_
            refine lv_iinc (v := nI (5 * (t + 1))) hx hb d_Law_law_418 hl (k := 0) rfl (by rw [show 5 * (t + 1) = 5 * t + 5 from by omega, ← nI_add]; rfl) (by decide) rfl (fun ls hl => ?_)
            have hl : lv_has ls 7 [(4, .int (nI (5 * (t + 1)))), (3, .ref ho), (2, .ref g0), (1, .ref h0), (0, .ref b)] := hl
            refine lv_goto (tgt := 23) hx hb d_Law_law_421 rfl ?_
            exact ih (t + 1) ff uu nx M en lf rg ex 0 un ba of ls H locs (by omega) (hI) (lv_sub hl [0, 1, 2, 3, 4] rfl) hP hD hS
          · exact absurd key h2
        · refine lv_tableOut (tgt := 418) hx hb d_Law_law_39 (by decide) rfl ?_
          have hP := hP.sub (ws' := [(h0, .inr (0, [.ref hr, .int (nI ff), .int (nI uu), .int nx, .long (lN M), .int en, .int lf])), (hr, .inl (cB, 64, .inl rg)), (g0, .inr (1, [.ref gu, .ref gb, .ref gh, .int nx, .int (nI uu), .int ex, .int th, .int en])), (gu, .inl (cU, 64, .inl un)), (gb, .inl (cV, 64, .inl ba)), (gh, .inl (cZ, 64, .inl (hm M))), (ho, .inl (cL, 1, .inr (.inl of)))]) [0, 1, 2, 3, 4, 5, 6] rfl
          have hD := hD.sub (ws' := [(h0, .inr (0, [.ref hr, .int (nI ff), .int (nI uu), .int nx, .long (lN M), .int en, .int lf])), (hr, .inl (cB, 64, .inl rg)), (g0, .inr (1, [.ref gu, .ref gb, .ref gh, .int nx, .int (nI uu), .int ex, .int th, .int en])), (gu, .inl (cU, 64, .inl un)), (gb, .inl (cV, 64, .inl ba)), (gh, .inl (cZ, 64, .inl (hm M))), (ho, .inl (cL, 1, .inr (.inl of)))]) [0, 1, 2, 3, 4, 5, 6] (by decide) rfl
          have hK := hK.sub (tys' := [(cB, .byte), (cU, .int), (cV, .int), (cZ, .boolean), (cL, .long)]) [0, 1, 2, 3, 4] rfl
          refine W.widen (k := 7 + (t + 1)) (n := 272 + 6 * (t + 1)) (by omega) (by omega) ?_
          refine lv_iinc (v := nI (5 * (t + 1))) hx hb d_Law_law_418 hl (k := 0) rfl (by rw [show 5 * (t + 1) = 5 * t + 5 from by omega, ← nI_add]; rfl) (by decide) rfl (fun ls hl => ?_)
          have hl : lv_has ls 7 [(4, .int (nI (5 * (t + 1)))), (3, .ref ho), (2, .ref g0), (1, .ref h0), (0, .ref b)] := hl
          refine lv_goto (tgt := 23) hx hb d_Law_law_421 rfl ?_
          exact ih (t + 1) ff uu nx M en lf rg ex th un ba of ls H locs (by omega) (hI) (lv_sub hl [0, 1, 2, 3, 4] rfl) hP hD hS
  refine W.widen (k := 7 + 0) (n := 272 + 6 * 0) (by decide) (by decide) ?_
  refine loop 513 0 0 0 0 0 0 0 (fun _ => 0) 0 0 (fun _ => 0) (fun _ => 0) (fun _ => 0) ls H _ (by omega) (lw_open _ _ _ _ _ _) (lv_sub hl [0, 1, 2, 3, 4] rfl) ?_ ?_ hS
  · have hm0 : hm 0 = fun _ => 0 := by funext k; unfold hm; rw [Nat.zero_testBit]; rfl
    rw [hm0]; exact hP
  · have hm0 : hm 0 = fun _ => 0 := by funext k; unfold hm; rw [Nat.zero_testBit]; rfl
    rw [hm0]; exact hD
end
section
/-! the claim out of the walk (the skeleton's rows, with the launch's word handed on) -/
theorem lw_off {l : Launch} (h : l.flags = flags0) : l.stackTraces = false := by
  show (!l.flags.contains noTraceFlag) = false
  rw [h]
  decide +kernel
set_option maxHeartbeats 4000000 in
theorem lw_walk (l : Launch) (hfl : l.stackTraces = false) (b : Addr) (xs : List Int32) : MetFree l x (headSpec (Jvm.Cond.code x code maxLocals ret :: tables_1) room_1) (lw_P b xs) (fun _ _ _ _ _ => True) lw_Q := by
  refine MetFree.of_bodyS (code := code) (maxLocals := maxLocals) (ret := ret) (by decide) ?_ ?_
  · intro args s m h hn
    obtain ⟨meth, c, h1, h2, h3, h4, h5, h6, -, -⟩ := Cond.code_spec hn (atoms_spec (ws := Jvm.Cond.code x code maxLocals ret :: tables_1) h _ List.mem_cons_self)
    exact ⟨meth, c, h1, h2, h3, h4, h5, h6⟩
  · intro p e s m args below meth c s₁ B hml0 hP _
    obtain ⟨rfl, hx, hbd, hgv⟩ := hP
    obtain ⟨scr, harrAt, hlist, hof, hsmall⟩ := hx
    obtain ⟨hcb, hkn, -, -⟩ := State.arrayAt?_spec harrAt
    have hown : s.vm.findClass R_law = some m.cls := findClass_of_methodNamed B.named
    have hts0 : ∀ c ∈ (Jvm.Cond.code x code maxLocals ret :: tables_1), c.before #[Value.ref b] s = true := atoms_spec (ws := Jvm.Cond.code x code maxLocals ret :: tables_1) B.pre
    have hts : ∀ w ∈ lw_tbl, w.before #[Value.ref b] s = true := k2_hts_sels lw_privs (fun w hw => hts0 w (List.mem_cons_of_mem _ hw)) lw_privs_ok
    have hml : c.maxLocals = 7 := B.maxLocals_eq (hts0 _ List.mem_cons_self)
    have X₀ : Stand p l e room_1 s m #[Value.ref b] below meth c s₁ [] 0 0 := Stand.of_body B
    have hh0 : s₁.heap = s.heap := by rw [B.state]; rfl
    have hsz : scr.slots.size = xs.length := by rw [← Array.length_toList, hlist, List.length_map]
    have hval : ∀ j : Nat, j < xs.length → scr.slots[j]? = some (.int (xs.getD j 0)) := fun j hj => by
      rw [← Array.getElem?_toList, hlist]
      simp [hj]
    have hbl : b < s.heap.size := (Array.getElem?_eq_some_iff.mp hcb).1
    have hX : va_X b xs.length (fun j => xs.getD j 0) s s.heap := ⟨scr, hcb, hof, hkn, hsz, hval⟩
    have K : W p l e room_1 s m #[Value.ref b] below meth c s₁.heap [] 0 0 (lw_Z below #[Value.ref b] s) (entryFrame m ([Value.ref b] : List Value).toArray 7) := by
      rw [hh0]
      exact law_start l hfl hbd ⟨B.exec, B.bytes, B.returns, hml, hown, hts, hX, hbl, B.notSynchronized, hgv⟩
    obtain ⟨t, a1, o, b1, b2, b3⟩ := K s₁ rfl X₀
    exact ⟨t, o, a1, b1, b2, b3⟩
theorem lw_pre_spec {args : Array Value} {s : State} (h : (Jvm.Cond.and given_1 narrow_1).before args s = true) (hr : rest_1_c.before args s = true) : ∃ (b : Addr) (xs : List Int32), lw_P b xs args s := by
  have hs := flat_of_before _ h
  have hq := flat_of_before _ hr
  have hc : (Cond.count 1).before args s = true := hs _ (by decide +kernel)
  have harr : (Cond.arrayOf (.arg 0) .int).before args s = true := hs _ (by decide +kernel)
  have hle : (Cond.le (.length (.arg 0)) (.int 2560)).before args s = true := hs _ (by decide +kernel)
  have hlen : (Cond.isInt (.length (.arg 0))).before args s = true := hq _ (by decide +kernel)
  have hall : (Cond.all (.arg 0) (.isInt (.elem (.arg 0) (.index 0)))).before args s = true := hq _ (by decide +kernel)
  obtain ⟨b, xs, hb, hx⟩ := State.ints_of_pre rfl harr hlen hall
  have hsm : xs.length < 2 ^ 31 := hx.choose_spec.2.2.2
  have hev : (Term.length (.arg 0)).eval args s none [] s = some (.int xs.length.toInt32) := hx.length_eval hb
  have hv := Cond.le_ints hev (show (Term.int 2560).eval args s none [] s = some (.int 2560) from rfl)
  have hd : xs.length.toInt32 ≤ 2560 := by
    simpa [Cond.before, Cond.holds, hv] using hle
  have hN : xs.length ≤ 2560 := (Int32.ofNat_le_ofNat hsm (by decide)).mp (show Int32.ofNat xs.length ≤ Int32.ofNat 2560 from hd)
  exact ⟨b, xs, Cond.one_arg hc (show args[0]? = some (.ref b) from hb), hx, hN, h⟩
theorem lw_comes (l : Launch) (hfl : l.stackTraces = false) : Comes l x (Jvm.Cond.code x code maxLocals ret :: tables_1) room_1 (fun tb e args s => Calls_1 tb e args s ∧ rest_1 tb e args s ∧ Pre_1 tb e args s)
    (fun _ _ args s o t => lw_Q args s o t) := by
  intro p e ha hc hk s m args below hf hfit hheap happ hpre
  obtain ⟨b, xs, hP⟩ := lw_pre_spec hpre.2.2 hpre.2.1
  obtain ⟨k, o, h1, h2, h3, hQ⟩ := lw_walk l hfl b xs p e ha hc hk s m args below hf ((Spec.applies_iff_loose hf).mp happ).1 hP trivial
  exact ⟨k, o, h1, h2, h3, hQ⟩
theorem lw_frame {s t : State} {o : Outcome} {args : Array Value} (h : Framed s o t [] 1034 8482) :
    Framed s o t (fieldLocs frame_1_writes args s ++ arrayLocs frame_1_arrays args s ++ staticLocs frame_1_statics s) 1034 8482 := h
theorem lw_limb (L : Cond) (hL : ∀ (args : Array Value) (s t : State), L.after args s (.returned (some (.int 1))) t = true) :
    ArmFor flags0 classFile x code maxLocals ret World_1 tables_1 room_1 Calls_1 rest_1 Pre_1
      (fun tb e a s o t => postC L tb e a s o t ∧ Framed s o t (fieldLocs frame_1_writes a s ++ arrayLocs frame_1_arrays a s ++ staticLocs frame_1_statics s) 1034 8482) := by
  intro l hflags _ _ p e ha hc hk s m args below hf hfit hheap happ hpre
  obtain ⟨k, o, h1, h2, h3, rfl, hF⟩ := lw_comes l (lw_off hflags) p e ha hc hk s m args below hf hfit hheap happ hpre
  exact ⟨k, _, h1, h2, h3, hL args s _, lw_frame hF⟩
theorem i_vc : Claimed_1_1 ∧ Claimed_1_2 := ⟨lw_limb limb_1_1 (fun args s t => by simp [limb_1_1, Cond.after, Cond.holds, Cond.value]), lw_limb limb_1_2 (fun args s t => Cond.after_iff.mpr (by
  first | (rw [show limb_1_2 = Cond.eq .result (.int 1) from rfl, Cond.eq_ints (x := 1) (y := 1) rfl rfl]; simp; done) | (simp [limb_1_2, Cond.value, Term.eval]; done)))⟩
end
