section
-- ===== PART A: goes FIRST, ahead of the names: the tables' words, and 'selects' of the private methods out of them =====
/-- a private method of a class that the tables say can be made, by its rows of tables_1 -/
def lw_okq (q : MethodName × Nat) : Prop := (q.1.cls ≠ "java/lang/invoke/MethodHandle" ∧ q.1.cls ≠ "java/lang/invoke/VarHandle") ∧ Cond.instantiable q.1.cls q.2 ∈ tables_1 ∧ Cond.privateMethod q.1 ∈ tables_1 ∧ Cond.instanceMethod q.1 ∈ tables_1
theorem lw_p0 : lw_okq (⟨"SuperpageReserve", "bad", "(II)Z"⟩, 9) := ⟨⟨by decide +kernel, by decide +kernel⟩, List.mem_of_getElem? (i := 4) (by decide +kernel), List.mem_of_getElem? (i := 46) (by decide +kernel), List.mem_of_getElem? (i := 47) (by decide +kernel)⟩
theorem lw_p1 : lw_okq (⟨"SuperpageReserve", "bringIn", "(I)I"⟩, 9) := ⟨⟨by decide +kernel, by decide +kernel⟩, List.mem_of_getElem? (i := 4) (by decide +kernel), List.mem_of_getElem? (i := 50) (by decide +kernel), List.mem_of_getElem? (i := 51) (by decide +kernel)⟩
theorem lw_p2 : lw_okq (⟨"SuperpageReserve", "frameOf", "(I)I"⟩, 9) := ⟨⟨by decide +kernel, by decide +kernel⟩, List.mem_of_getElem? (i := 4) (by decide +kernel), List.mem_of_getElem? (i := 54) (by decide +kernel), List.mem_of_getElem? (i := 55) (by decide +kernel)⟩
theorem lw_p3 : lw_okq (⟨"SuperpageReserve", "framesInUse", "()I"⟩, 9) := ⟨⟨by decide +kernel, by decide +kernel⟩, List.mem_of_getElem? (i := 4) (by decide +kernel), List.mem_of_getElem? (i := 58) (by decide +kernel), List.mem_of_getElem? (i := 59) (by decide +kernel)⟩
theorem lw_p4 : lw_okq (⟨"SuperpageReserve", "takeFrame", "(I)I"⟩, 9) := ⟨⟨by decide +kernel, by decide +kernel⟩, List.mem_of_getElem? (i := 4) (by decide +kernel), List.mem_of_getElem? (i := 62) (by decide +kernel), List.mem_of_getElem? (i := 63) (by decide +kernel)⟩
theorem lw_p5 : lw_okq (⟨"SuperpageReserve", "heldBy", "(I)I"⟩, 9) := ⟨⟨by decide +kernel, by decide +kernel⟩, List.mem_of_getElem? (i := 4) (by decide +kernel), List.mem_of_getElem? (i := 66) (by decide +kernel), List.mem_of_getElem? (i := 67) (by decide +kernel)⟩
theorem lw_p6 : lw_okq (⟨"SuperpageReserve", "emptyGroup", "()I"⟩, 9) := ⟨⟨by decide +kernel, by decide +kernel⟩, List.mem_of_getElem? (i := 4) (by decide +kernel), List.mem_of_getElem? (i := 70) (by decide +kernel), List.mem_of_getElem? (i := 71) (by decide +kernel)⟩
theorem lw_p7 : lw_okq (⟨"SuperpageReserve", "usedIn", "(I)I"⟩, 9) := ⟨⟨by decide +kernel, by decide +kernel⟩, List.mem_of_getElem? (i := 4) (by decide +kernel), List.mem_of_getElem? (i := 74) (by decide +kernel), List.mem_of_getElem? (i := 75) (by decide +kernel)⟩
theorem lw_p8 : lw_okq (⟨"SuperpageReserve", "looseFrame", "()I"⟩, 9) := ⟨⟨by decide +kernel, by decide +kernel⟩, List.mem_of_getElem? (i := 4) (by decide +kernel), List.mem_of_getElem? (i := 78) (by decide +kernel), List.mem_of_getElem? (i := 79) (by decide +kernel)⟩
theorem lw_p9 : lw_okq (⟨"SuperpageReserve", "preempt", "()V"⟩, 9) := ⟨⟨by decide +kernel, by decide +kernel⟩, List.mem_of_getElem? (i := 4) (by decide +kernel), List.mem_of_getElem? (i := 82) (by decide +kernel), List.mem_of_getElem? (i := 83) (by decide +kernel)⟩
theorem lw_p10 : lw_okq (⟨"SuperpageReserve", "promote", "(I)V"⟩, 9) := ⟨⟨by decide +kernel, by decide +kernel⟩, List.mem_of_getElem? (i := 4) (by decide +kernel), List.mem_of_getElem? (i := 86) (by decide +kernel), List.mem_of_getElem? (i := 87) (by decide +kernel)⟩
theorem lw_p11 : lw_okq (⟨"SuperpageReserve", "relocate", "(II)V"⟩, 9) := ⟨⟨by decide +kernel, by decide +kernel⟩, List.mem_of_getElem? (i := 4) (by decide +kernel), List.mem_of_getElem? (i := 90) (by decide +kernel), List.mem_of_getElem? (i := 91) (by decide +kernel)⟩
theorem lw_p12 : lw_okq (⟨"SuperpageReserve", "copyFrame", "(II)V"⟩, 9) := ⟨⟨by decide +kernel, by decide +kernel⟩, List.mem_of_getElem? (i := 4) (by decide +kernel), List.mem_of_getElem? (i := 94) (by decide +kernel), List.mem_of_getElem? (i := 95) (by decide +kernel)⟩
theorem lw_p13 : lw_okq (⟨"SuperpageReserve", "dropOthers", "(II)V"⟩, 9) := ⟨⟨by decide +kernel, by decide +kernel⟩, List.mem_of_getElem? (i := 4) (by decide +kernel), List.mem_of_getElem? (i := 98) (by decide +kernel), List.mem_of_getElem? (i := 99) (by decide +kernel)⟩
theorem lw_p14 : lw_okq (⟨"SuperpageReserve", "open", "(I)I"⟩, 9) := ⟨⟨by decide +kernel, by decide +kernel⟩, List.mem_of_getElem? (i := 4) (by decide +kernel), List.mem_of_getElem? (i := 106) (by decide +kernel), List.mem_of_getElem? (i := 107) (by decide +kernel)⟩
theorem lw_p15 : lw_okq (⟨"SuperpageReserve", "release", "(I)V"⟩, 9) := ⟨⟨by decide +kernel, by decide +kernel⟩, List.mem_of_getElem? (i := 4) (by decide +kernel), List.mem_of_getElem? (i := 110) (by decide +kernel), List.mem_of_getElem? (i := 111) (by decide +kernel)⟩
def lw_privs_1 : List (MethodName × Nat) := [(⟨"SuperpageReserve", "bad", "(II)Z"⟩, 9), (⟨"SuperpageReserve", "bringIn", "(I)I"⟩, 9), (⟨"SuperpageReserve", "frameOf", "(I)I"⟩, 9), (⟨"SuperpageReserve", "framesInUse", "()I"⟩, 9), (⟨"SuperpageReserve", "takeFrame", "(I)I"⟩, 9), (⟨"SuperpageReserve", "heldBy", "(I)I"⟩, 9), (⟨"SuperpageReserve", "emptyGroup", "()I"⟩, 9), (⟨"SuperpageReserve", "usedIn", "(I)I"⟩, 9), (⟨"SuperpageReserve", "looseFrame", "()I"⟩, 9), (⟨"SuperpageReserve", "preempt", "()V"⟩, 9), (⟨"SuperpageReserve", "promote", "(I)V"⟩, 9), (⟨"SuperpageReserve", "relocate", "(II)V"⟩, 9), (⟨"SuperpageReserve", "copyFrame", "(II)V"⟩, 9), (⟨"SuperpageReserve", "dropOthers", "(II)V"⟩, 9), (⟨"SuperpageReserve", "open", "(I)I"⟩, 9), (⟨"SuperpageReserve", "release", "(I)V"⟩, 9)]
theorem lw_r1 : ∀ q ∈ lw_privs_1, lw_okq q := List.forall_mem_cons.mpr ⟨lw_p0, List.forall_mem_cons.mpr ⟨lw_p1, List.forall_mem_cons.mpr ⟨lw_p2, List.forall_mem_cons.mpr ⟨lw_p3, List.forall_mem_cons.mpr ⟨lw_p4, List.forall_mem_cons.mpr ⟨lw_p5, List.forall_mem_cons.mpr ⟨lw_p6, List.forall_mem_cons.mpr ⟨lw_p7, List.forall_mem_cons.mpr ⟨lw_p8, List.forall_mem_cons.mpr ⟨lw_p9, List.forall_mem_cons.mpr ⟨lw_p10, List.forall_mem_cons.mpr ⟨lw_p11, List.forall_mem_cons.mpr ⟨lw_p12, List.forall_mem_cons.mpr ⟨lw_p13, List.forall_mem_cons.mpr ⟨lw_p14, List.forall_mem_cons.mpr ⟨lw_p15, fun _ h => absurd h List.not_mem_nil⟩⟩⟩⟩⟩⟩⟩⟩⟩⟩⟩⟩⟩⟩⟩⟩
theorem lw_p16 : lw_okq (⟨"SuperpageReserve", "remove", "(I)V"⟩, 9) := ⟨⟨by decide +kernel, by decide +kernel⟩, List.mem_of_getElem? (i := 4) (by decide +kernel), List.mem_of_getElem? (i := 122) (by decide +kernel), List.mem_of_getElem? (i := 123) (by decide +kernel)⟩
theorem lw_p17 : lw_okq (⟨"SuperpageReserve", "demote", "(I)V"⟩, 9) := ⟨⟨by decide +kernel, by decide +kernel⟩, List.mem_of_getElem? (i := 4) (by decide +kernel), List.mem_of_getElem? (i := 126) (by decide +kernel), List.mem_of_getElem? (i := 127) (by decide +kernel)⟩
theorem lw_p18 : lw_okq (⟨"SuperpageReserveModel", "isPage", "(II)Z"⟩, 3) := ⟨⟨by decide +kernel, by decide +kernel⟩, List.mem_of_getElem? (i := 168) (by decide +kernel), List.mem_of_getElem? (i := 188) (by decide +kernel), List.mem_of_getElem? (i := 189) (by decide +kernel)⟩
theorem lw_p19 : lw_okq (⟨"SuperpageReserveModel", "own", "(II)I"⟩, 3) := ⟨⟨by decide +kernel, by decide +kernel⟩, List.mem_of_getElem? (i := 168) (by decide +kernel), List.mem_of_getElem? (i := 204) (by decide +kernel), List.mem_of_getElem? (i := 205) (by decide +kernel)⟩
def lw_privs_2 : List (MethodName × Nat) := [(⟨"SuperpageReserve", "remove", "(I)V"⟩, 9), (⟨"SuperpageReserve", "demote", "(I)V"⟩, 9), (⟨"SuperpageReserveModel", "isPage", "(II)Z"⟩, 3), (⟨"SuperpageReserveModel", "own", "(II)I"⟩, 3)]
theorem lw_r2 : ∀ q ∈ lw_privs_2, lw_okq q := List.forall_mem_cons.mpr ⟨lw_p16, List.forall_mem_cons.mpr ⟨lw_p17, List.forall_mem_cons.mpr ⟨lw_p18, List.forall_mem_cons.mpr ⟨lw_p19, fun _ h => absurd h List.not_mem_nil⟩⟩⟩⟩
def lw_privs : List (MethodName × Nat) := lw_privs_1 ++ (lw_privs_2)
def lw_tbl : List Cond := k2_sels lw_privs ++ tables_1
theorem lw_privs_ok : ∀ q ∈ lw_privs, lw_okq q := by
  show ∀ q ∈ lw_privs_1 ++ (lw_privs_2), lw_okq q
  exact List.forall_mem_append.mpr ⟨lw_r1, lw_r2⟩
-- ===== names =====
def R_law : String := "SuperpageReserveLaw"
def R_X : String := "SuperpageReserve"
def F_X : u_T := fun k => match k with
  | 0 => ("SuperpageReserve", "words", "[I", true)
  | 1 => ("SuperpageReserve", "users", "[I", true)
  | 2 => ("SuperpageReserve", "base", "[I", true)
  | 3 => ("SuperpageReserve", "locked", "[Z", true)
  | 4 => ("SuperpageReserve", "large", "[I", true)
  | 5 => ("SuperpageReserve", "holder", "[I", true)
  | 6 => ("SuperpageReserve", "stamp", "[I", true)
  | 7 => ("SuperpageReserve", "clock", "I", false)
  | _ => ("SuperpageReserve", "carried", "[I", true)
def t_X : Nat → FieldType := fun k => match k with
  | 0 => .array .int
  | 1 => .array .int
  | 2 => .array .int
  | 3 => .array .boolean
  | 4 => .array .int
  | 5 => .array .int
  | 6 => .array .int
  | 7 => .int
  | _ => .array .int
abbrev w_X : List Cond := u_ws R_X F_X 9
theorem n_X : ∀ a, a < 9 → ∀ b, b < 9 → a ≠ b → (F_X a).2.1 ≠ (F_X b).2.1 := by decide +kernel
theorem t_X_ok : ∀ k, k < 9 → parseFieldDescriptor (F_X k).2.2.1 = some (t_X k) := by decide +kernel
def R_M : String := "SuperpageReserveModel"
def F_M : u_T := fun k => match k with
  | 0 => ("SuperpageReserveModel", "state", "[I", true)
  | 1 => ("SuperpageReserveModel", "words", "[I", true)
  | _ => ("SuperpageReserveModel", "common", "[Z", true)
def t_M : Nat → FieldType := fun k => match k with
  | 0 => .array .int
  | 1 => .array .int
  | _ => .array .boolean
abbrev w_M : List Cond := u_ws R_M F_M 3
theorem n_M : ∀ a, a < 3 → ∀ b, b < 3 → a ≠ b → (F_M a).2.1 ≠ (F_M b).2.1 := by decide +kernel
theorem t_M_ok : ∀ k, k < 3 → parseFieldDescriptor (F_M k).2.2.1 = some (t_M k) := by decide +kernel
abbrev classes : List vw_C := [(R_X, F_X, 9), (R_M, F_M, 3)]
/-- the words of the tables that every callee may ask -/
def wT : List Cond := lw_tbl.filter goodWord
theorem wT_in {w : Cond} (i : Nat) (h : lw_tbl[i]? = some w) (g : goodWord w = true) : w ∈ wT := List.mem_filter.mpr ⟨List.mem_of_getElem? h, g⟩
theorem wT_sub : ∀ w ∈ wT, w ∈ lw_tbl := fun _ h => (List.mem_filter.mp h).1
theorem wT_good : ∀ w ∈ wT, goodWord w = true := fun _ h => (List.mem_filter.mp h).2
set_option maxRecDepth 20000 in
theorem i_X : ∀ w ∈ w_X, w ∈ wT := by decide +kernel
set_option maxRecDepth 20000 in
theorem i_M : ∀ w ∈ w_M, w ∈ wT := by decide +kernel
abbrev b_Xinit : ByteArray := prog_1_method_1_code
def y_Xinit : MethodName := ⟨R_X, "<init>", "()V"⟩
abbrev b_Xbad : ByteArray := prog_1_method_2_code
def y_Xbad : MethodName := ⟨R_X, "bad", "(II)Z"⟩
abbrev b_XframeOf : ByteArray := prog_1_method_3_code
def y_XframeOf : MethodName := ⟨R_X, "frameOf", "(I)I"⟩
abbrev b_XframesInUse : ByteArray := prog_1_method_4_code
def y_XframesInUse : MethodName := ⟨R_X, "framesInUse", "()I"⟩
abbrev b_Xdemote : ByteArray := prog_1_method_5_code
def y_Xdemote : MethodName := ⟨R_X, "demote", "(I)V"⟩
abbrev b_Xpromote : ByteArray := prog_1_method_6_code
def y_Xpromote : MethodName := ⟨R_X, "promote", "(I)V"⟩
abbrev b_Xrelocate : ByteArray := prog_1_method_7_code
def y_Xrelocate : MethodName := ⟨R_X, "relocate", "(II)V"⟩
abbrev b_XcopyFrame : ByteArray := prog_1_method_8_code
def y_XcopyFrame : MethodName := ⟨R_X, "copyFrame", "(II)V"⟩
abbrev b_XdropOthers : ByteArray := prog_1_method_9_code
def y_XdropOthers : MethodName := ⟨R_X, "dropOthers", "(II)V"⟩
abbrev b_XheldBy : ByteArray := prog_1_method_10_code
def y_XheldBy : MethodName := ⟨R_X, "heldBy", "(I)I"⟩
abbrev b_XusedIn : ByteArray := prog_1_method_11_code
def y_XusedIn : MethodName := ⟨R_X, "usedIn", "(I)I"⟩
abbrev b_XemptyGroup : ByteArray := prog_1_method_12_code
def y_XemptyGroup : MethodName := ⟨R_X, "emptyGroup", "()I"⟩
abbrev b_XlooseFrame : ByteArray := prog_1_method_13_code
def y_XlooseFrame : MethodName := ⟨R_X, "looseFrame", "()I"⟩
abbrev b_Xpreempt : ByteArray := prog_1_method_14_code
def y_Xpreempt : MethodName := ⟨R_X, "preempt", "()V"⟩
abbrev b_XtakeFrame : ByteArray := prog_1_method_15_code
def y_XtakeFrame : MethodName := ⟨R_X, "takeFrame", "(I)I"⟩
abbrev b_Xrelease : ByteArray := prog_1_method_16_code
def y_Xrelease : MethodName := ⟨R_X, "release", "(I)V"⟩
abbrev b_Xremove : ByteArray := prog_1_method_17_code
def y_Xremove : MethodName := ⟨R_X, "remove", "(I)V"⟩
abbrev b_Xtouch : ByteArray := prog_1_method_18_code
def y_Xtouch : MethodName := ⟨R_X, "touch", "(II)I"⟩
abbrev b_XbringIn : ByteArray := prog_1_method_19_code
def y_XbringIn : MethodName := ⟨R_X, "bringIn", "(I)I"⟩
abbrev b_Xopen : ByteArray := prog_1_method_20_code
def y_Xopen : MethodName := ⟨R_X, "open", "(I)I"⟩
abbrev b_Xwrite : ByteArray := prog_1_method_21_code
def y_Xwrite : MethodName := ⟨R_X, "write", "(IIII)I"⟩
abbrev b_Xread : ByteArray := prog_1_method_22_code
def y_Xread : MethodName := ⟨R_X, "read", "(III)I"⟩
abbrev b_Xunmap : ByteArray := prog_1_method_23_code
def y_Xunmap : MethodName := ⟨R_X, "unmap", "(II)I"⟩
abbrev b_Xprotect : ByteArray := prog_1_method_24_code
def y_Xprotect : MethodName := ⟨R_X, "protect", "(III)I"⟩
abbrev b_Xstate : ByteArray := prog_1_method_25_code
def y_Xstate : MethodName := ⟨R_X, "state", "(II)I"⟩
abbrev b_Xshared : ByteArray := prog_1_method_26_code
def y_Xshared : MethodName := ⟨R_X, "shared", "(I)Z"⟩
abbrev b_Xsplit : ByteArray := prog_1_method_27_code
def y_Xsplit : MethodName := ⟨R_X, "split", "(I)I"⟩
abbrev b_Xcopy : ByteArray := prog_1_method_28_code
def y_Xcopy : MethodName := ⟨R_X, "copy", "(III)I"⟩
abbrev b_XunmapRange : ByteArray := prog_1_method_29_code
def y_XunmapRange : MethodName := ⟨R_X, "unmapRange", "(III)I"⟩
abbrev b_Xpresent : ByteArray := prog_1_method_30_code
def y_Xpresent : MethodName := ⟨R_X, "present", "(I)I"⟩
abbrev b_XinUse : ByteArray := prog_1_method_31_code
def y_XinUse : MethodName := ⟨R_X, "inUse", "()I"⟩
abbrev b_Xdigest : ByteArray := prog_1_method_32_code
def y_Xdigest : MethodName := ⟨R_X, "digest", "(I)I"⟩
abbrev b_Minit : ByteArray := prog_3_method_1_code
def y_Minit : MethodName := ⟨R_M, "<init>", "()V"⟩
abbrev b_MisPage : ByteArray := prog_3_method_2_code
def y_MisPage : MethodName := ⟨R_M, "isPage", "(II)Z"⟩
abbrev b_Mtouch : ByteArray := prog_3_method_3_code
def y_Mtouch : MethodName := ⟨R_M, "touch", "(II)I"⟩
abbrev b_Mown : ByteArray := prog_3_method_4_code
def y_Mown : MethodName := ⟨R_M, "own", "(II)I"⟩
abbrev b_Mwrite : ByteArray := prog_3_method_5_code
def y_Mwrite : MethodName := ⟨R_M, "write", "(IIII)I"⟩
abbrev b_Mread : ByteArray := prog_3_method_6_code
def y_Mread : MethodName := ⟨R_M, "read", "(III)I"⟩
abbrev b_Munmap : ByteArray := prog_3_method_7_code
def y_Munmap : MethodName := ⟨R_M, "unmap", "(II)I"⟩
abbrev b_Mprotect : ByteArray := prog_3_method_8_code
def y_Mprotect : MethodName := ⟨R_M, "protect", "(III)I"⟩
abbrev b_Mstate : ByteArray := prog_3_method_9_code
def y_Mstate : MethodName := ⟨R_M, "state", "(II)I"⟩
abbrev b_Mshared : ByteArray := prog_3_method_10_code
def y_Mshared : MethodName := ⟨R_M, "shared", "(I)Z"⟩
abbrev b_Msplit : ByteArray := prog_3_method_11_code
def y_Msplit : MethodName := ⟨R_M, "split", "(I)I"⟩
abbrev b_Mcopy : ByteArray := prog_3_method_12_code
def y_Mcopy : MethodName := ⟨R_M, "copy", "(III)I"⟩
abbrev b_MunmapRange : ByteArray := prog_3_method_13_code
def y_MunmapRange : MethodName := ⟨R_M, "unmapRange", "(III)I"⟩
abbrev b_Mpresent : ByteArray := prog_3_method_14_code
def y_Mpresent : MethodName := ⟨R_M, "present", "(I)I"⟩
abbrev b_MinUse : ByteArray := prog_3_method_15_code
def y_MinUse : MethodName := ⟨R_M, "inUse", "()I"⟩
abbrev b_Mdigest : ByteArray := prog_3_method_16_code
def y_Mdigest : MethodName := ⟨R_M, "digest", "(I)I"⟩
/-- a call site: the word list has the link, the method, its code -/
def Lk (own C : String) (idx : Nat) (y : MethodName) (b : ByteArray) (mL : Nat) (ret : Option FieldType) (n : Nat) : Prop :=
  Cond.methodLink own idx y ∈ wT ∧ Cond.instanceMethod y ∈ wT ∧ Cond.selects C y y ∈ wT ∧ Cond.initialized C ∈ wT ∧ Cond.code y b mL ret ∈ wT ∧ (y.cls = C ∧ y.cls ≠ "java/lang/invoke/MethodHandle" ∧ y.cls ≠ "java/lang/invoke/VarHandle" ∧ (parseMethodDescriptor y.desc).map (fun d => d.parameters.length) = some n)
theorem m_ini_X : Cond.initialized R_X ∈ wT := wT_in 21 rfl rfl
theorem m_ini_M : Cond.initialized R_M ∈ wT := wT_in 22 rfl rfl
theorem m_fXwords : Cond.fieldLink R_X 7 "SuperpageReserve" "words" "[I" ∈ wT := wT_in 31 rfl rfl
theorem m_fXusers : Cond.fieldLink R_X 13 "SuperpageReserve" "users" "[I" ∈ wT := wT_in 32 rfl rfl
theorem m_fXbase : Cond.fieldLink R_X 16 "SuperpageReserve" "base" "[I" ∈ wT := wT_in 33 rfl rfl
theorem m_fXlocked : Cond.fieldLink R_X 19 "SuperpageReserve" "locked" "[Z" ∈ wT := wT_in 34 rfl rfl
theorem m_fXlarge : Cond.fieldLink R_X 23 "SuperpageReserve" "large" "[I" ∈ wT := wT_in 35 rfl rfl
theorem m_fXholder : Cond.fieldLink R_X 26 "SuperpageReserve" "holder" "[I" ∈ wT := wT_in 36 rfl rfl
theorem m_fXstamp : Cond.fieldLink R_X 29 "SuperpageReserve" "stamp" "[I" ∈ wT := wT_in 37 rfl rfl
theorem m_fXclock : Cond.fieldLink R_X 56 "SuperpageReserve" "clock" "I" ∈ wT := wT_in 38 rfl rfl
theorem m_fXcarried : Cond.fieldLink R_X 32 "SuperpageReserve" "carried" "[I" ∈ wT := wT_in 39 rfl rfl
theorem m_fMstate : Cond.fieldLink R_M 7 "SuperpageReserveModel" "state" "[I" ∈ wT := wT_in 193 rfl rfl
theorem m_fMwords : Cond.fieldLink R_M 13 "SuperpageReserveModel" "words" "[I" ∈ wT := wT_in 194 rfl rfl
theorem m_fMcommon : Cond.fieldLink R_M 16 "SuperpageReserveModel" "common" "[Z" ∈ wT := wT_in 195 rfl rfl
theorem k_L13 : Lk R_law R_X 13 y_Xtouch b_Xtouch 3 (some .int) 2 := ⟨wT_in 61 rfl rfl, wT_in 62 rfl rfl, wT_in 63 rfl rfl, m_ini_X, wT_in 64 rfl rfl, by decide +kernel⟩
theorem k_X73 : Lk R_X R_X 73 y_Xbad b_Xbad 3 (some .boolean) 2 := ⟨wT_in 65 rfl rfl, wT_in 67 rfl rfl, wT_in 0 rfl rfl, m_ini_X, wT_in 68 rfl rfl, by decide +kernel⟩
theorem k_X77 : Lk R_X R_X 77 y_XbringIn b_XbringIn 5 (some .int) 1 := ⟨wT_in 69 rfl rfl, wT_in 71 rfl rfl, wT_in 1 rfl rfl, m_ini_X, wT_in 72 rfl rfl, by decide +kernel⟩
theorem k_X80 : Lk R_X R_X 80 y_XframeOf b_XframeOf 3 (some .int) 1 := ⟨wT_in 73 rfl rfl, wT_in 75 rfl rfl, wT_in 2 rfl rfl, m_ini_X, wT_in 76 rfl rfl, by decide +kernel⟩
theorem k_X83 : Lk R_X R_X 83 y_XframesInUse b_XframesInUse 3 (some .int) 0 := ⟨wT_in 77 rfl rfl, wT_in 79 rfl rfl, wT_in 3 rfl rfl, m_ini_X, wT_in 80 rfl rfl, by decide +kernel⟩
theorem k_X86 : Lk R_X R_X 86 y_XtakeFrame b_XtakeFrame 5 (some .int) 1 := ⟨wT_in 81 rfl rfl, wT_in 83 rfl rfl, wT_in 4 rfl rfl, m_ini_X, wT_in 84 rfl rfl, by decide +kernel⟩
theorem k_X53 : Lk R_X R_X 53 y_XheldBy b_XheldBy 4 (some .int) 1 := ⟨wT_in 85 rfl rfl, wT_in 87 rfl rfl, wT_in 5 rfl rfl, m_ini_X, wT_in 88 rfl rfl, by decide +kernel⟩
theorem k_X35 : Lk R_X R_X 35 y_XemptyGroup b_XemptyGroup 3 (some .int) 0 := ⟨wT_in 89 rfl rfl, wT_in 91 rfl rfl, wT_in 6 rfl rfl, m_ini_X, wT_in 92 rfl rfl, by decide +kernel⟩
theorem k_X49 : Lk R_X R_X 49 y_XusedIn b_XusedIn 4 (some .int) 1 := ⟨wT_in 93 rfl rfl, wT_in 95 rfl rfl, wT_in 7 rfl rfl, m_ini_X, wT_in 96 rfl rfl, by decide +kernel⟩
theorem k_X60 : Lk R_X R_X 60 y_XlooseFrame b_XlooseFrame 2 (some .int) 0 := ⟨wT_in 97 rfl rfl, wT_in 99 rfl rfl, wT_in 8 rfl rfl, m_ini_X, wT_in 100 rfl rfl, by decide +kernel⟩
theorem k_X63 : Lk R_X R_X 63 y_Xpreempt b_Xpreempt 4 none 0 := ⟨wT_in 101 rfl rfl, wT_in 103 rfl rfl, wT_in 9 rfl rfl, m_ini_X, wT_in 104 rfl rfl, by decide +kernel⟩
theorem k_X89 : Lk R_X R_X 89 y_Xpromote b_Xpromote 7 none 1 := ⟨wT_in 105 rfl rfl, wT_in 107 rfl rfl, wT_in 10 rfl rfl, m_ini_X, wT_in 108 rfl rfl, by decide +kernel⟩
theorem k_X39 : Lk R_X R_X 39 y_Xrelocate b_Xrelocate 6 none 2 := ⟨wT_in 109 rfl rfl, wT_in 111 rfl rfl, wT_in 11 rfl rfl, m_ini_X, wT_in 112 rfl rfl, by decide +kernel⟩
theorem k_X46 : Lk R_X R_X 46 y_XcopyFrame b_XcopyFrame 4 none 2 := ⟨wT_in 113 rfl rfl, wT_in 115 rfl rfl, wT_in 12 rfl rfl, m_ini_X, wT_in 116 rfl rfl, by decide +kernel⟩
theorem k_X43 : Lk R_X R_X 43 y_XdropOthers b_XdropOthers 4 none 2 := ⟨wT_in 117 rfl rfl, wT_in 119 rfl rfl, wT_in 13 rfl rfl, m_ini_X, wT_in 120 rfl rfl, by decide +kernel⟩
theorem k_L18 : Lk R_law R_X 18 y_Xwrite b_Xwrite 7 (some .int) 4 := ⟨wT_in 121 rfl rfl, wT_in 122 rfl rfl, wT_in 123 rfl rfl, m_ini_X, wT_in 124 rfl rfl, by decide +kernel⟩
theorem k_X92 : Lk R_X R_X 92 y_Xopen b_Xopen 5 (some .int) 1 := ⟨wT_in 125 rfl rfl, wT_in 127 rfl rfl, wT_in 14 rfl rfl, m_ini_X, wT_in 128 rfl rfl, by decide +kernel⟩
theorem k_X70 : Lk R_X R_X 70 y_Xrelease b_Xrelease 6 none 1 := ⟨wT_in 129 rfl rfl, wT_in 131 rfl rfl, wT_in 15 rfl rfl, m_ini_X, wT_in 132 rfl rfl, by decide +kernel⟩
theorem k_L23 : Lk R_law R_X 23 y_Xread b_Xread 5 (some .int) 3 := ⟨wT_in 133 rfl rfl, wT_in 134 rfl rfl, wT_in 135 rfl rfl, m_ini_X, wT_in 136 rfl rfl, by decide +kernel⟩
theorem k_L28 : Lk R_law R_X 28 y_Xunmap b_Xunmap 4 (some .int) 2 := ⟨wT_in 137 rfl rfl, wT_in 138 rfl rfl, wT_in 139 rfl rfl, m_ini_X, wT_in 140 rfl rfl, by decide +kernel⟩
theorem k_X95 : Lk R_X R_X 95 y_Xremove b_Xremove 4 none 1 := ⟨wT_in 141 rfl rfl, wT_in 143 rfl rfl, wT_in 16 rfl rfl, m_ini_X, wT_in 144 rfl rfl, by decide +kernel⟩
theorem k_X66 : Lk R_X R_X 66 y_Xdemote b_Xdemote 4 none 1 := ⟨wT_in 145 rfl rfl, wT_in 147 rfl rfl, wT_in 17 rfl rfl, m_ini_X, wT_in 148 rfl rfl, by decide +kernel⟩
theorem k_L32 : Lk R_law R_X 32 y_Xprotect b_Xprotect 7 (some .int) 3 := ⟨wT_in 149 rfl rfl, wT_in 150 rfl rfl, wT_in 151 rfl rfl, m_ini_X, wT_in 152 rfl rfl, by decide +kernel⟩
theorem k_L36 : Lk R_law R_X 36 y_Xstate b_Xstate 4 (some .int) 2 := ⟨wT_in 153 rfl rfl, wT_in 154 rfl rfl, wT_in 155 rfl rfl, m_ini_X, wT_in 156 rfl rfl, by decide +kernel⟩
theorem k_L40 : Lk R_law R_X 40 y_Xshared b_Xshared 4 (some .boolean) 1 := ⟨wT_in 157 rfl rfl, wT_in 158 rfl rfl, wT_in 159 rfl rfl, m_ini_X, wT_in 160 rfl rfl, by decide +kernel⟩
theorem k_L45 : Lk R_law R_X 45 y_Xsplit b_Xsplit 6 (some .int) 1 := ⟨wT_in 161 rfl rfl, wT_in 162 rfl rfl, wT_in 163 rfl rfl, m_ini_X, wT_in 164 rfl rfl, by decide +kernel⟩
theorem k_X98 : Lk R_X R_X 98 y_XunmapRange b_XunmapRange 7 (some .int) 3 := ⟨wT_in 165 rfl rfl, wT_in 166 rfl rfl, wT_in 167 rfl rfl, m_ini_X, wT_in 168 rfl rfl, by decide +kernel⟩
theorem k_L50 : Lk R_law R_X 50 y_Xcopy b_Xcopy 7 (some .int) 3 := ⟨wT_in 169 rfl rfl, wT_in 170 rfl rfl, wT_in 171 rfl rfl, m_ini_X, wT_in 172 rfl rfl, by decide +kernel⟩
theorem k_X102 : Lk R_X R_X 102 y_Xread b_Xread 5 (some .int) 3 := ⟨wT_in 173 rfl rfl, wT_in 134 rfl rfl, wT_in 135 rfl rfl, m_ini_X, wT_in 136 rfl rfl, by decide +kernel⟩
theorem k_L54 : Lk R_law R_X 54 y_XunmapRange b_XunmapRange 7 (some .int) 3 := ⟨wT_in 174 rfl rfl, wT_in 166 rfl rfl, wT_in 167 rfl rfl, m_ini_X, wT_in 168 rfl rfl, by decide +kernel⟩
theorem k_L58 : Lk R_law R_X 58 y_Xpresent b_Xpresent 5 (some .int) 1 := ⟨wT_in 175 rfl rfl, wT_in 176 rfl rfl, wT_in 177 rfl rfl, m_ini_X, wT_in 178 rfl rfl, by decide +kernel⟩
theorem k_L62 : Lk R_law R_X 62 y_XinUse b_XinUse 1 (some .int) 0 := ⟨wT_in 179 rfl rfl, wT_in 180 rfl rfl, wT_in 181 rfl rfl, m_ini_X, wT_in 182 rfl rfl, by decide +kernel⟩
theorem k_L67 : Lk R_law R_X 67 y_Xdigest b_Xdigest 6 (some .int) 1 := ⟨wT_in 183 rfl rfl, wT_in 184 rfl rfl, wT_in 185 rfl rfl, m_ini_X, wT_in 186 rfl rfl, by decide +kernel⟩
theorem k_L17 : Lk R_law R_M 17 y_Mtouch b_Mtouch 5 (some .int) 2 := ⟨wT_in 203 rfl rfl, wT_in 204 rfl rfl, wT_in 205 rfl rfl, m_ini_M, wT_in 206 rfl rfl, by decide +kernel⟩
theorem k_M20 : Lk R_M R_M 20 y_MisPage b_MisPage 3 (some .boolean) 2 := ⟨wT_in 207 rfl rfl, wT_in 209 rfl rfl, wT_in 18 rfl rfl, m_ini_M, wT_in 210 rfl rfl, by decide +kernel⟩
theorem k_M24 : Lk R_M R_M 24 y_MinUse b_MinUse 3 (some .int) 0 := ⟨wT_in 211 rfl rfl, wT_in 212 rfl rfl, wT_in 213 rfl rfl, m_ini_M, wT_in 214 rfl rfl, by decide +kernel⟩
theorem k_M35 : Lk R_M R_M 35 y_Mpresent b_Mpresent 4 (some .int) 1 := ⟨wT_in 215 rfl rfl, wT_in 216 rfl rfl, wT_in 217 rfl rfl, m_ini_M, wT_in 218 rfl rfl, by decide +kernel⟩
theorem k_L22 : Lk R_law R_M 22 y_Mwrite b_Mwrite 6 (some .int) 4 := ⟨wT_in 219 rfl rfl, wT_in 220 rfl rfl, wT_in 221 rfl rfl, m_ini_M, wT_in 222 rfl rfl, by decide +kernel⟩
theorem k_M32 : Lk R_M R_M 32 y_Mown b_Mown 3 (some .int) 2 := ⟨wT_in 223 rfl rfl, wT_in 225 rfl rfl, wT_in 19 rfl rfl, m_ini_M, wT_in 226 rfl rfl, by decide +kernel⟩
theorem k_M28 : Lk R_M R_M 28 y_Mtouch b_Mtouch 5 (some .int) 2 := ⟨wT_in 227 rfl rfl, wT_in 204 rfl rfl, wT_in 205 rfl rfl, m_ini_M, wT_in 206 rfl rfl, by decide +kernel⟩
theorem k_L27 : Lk R_law R_M 27 y_Mread b_Mread 4 (some .int) 3 := ⟨wT_in 228 rfl rfl, wT_in 229 rfl rfl, wT_in 230 rfl rfl, m_ini_M, wT_in 231 rfl rfl, by decide +kernel⟩
theorem k_L31 : Lk R_law R_M 31 y_Munmap b_Munmap 3 (some .int) 2 := ⟨wT_in 232 rfl rfl, wT_in 233 rfl rfl, wT_in 234 rfl rfl, m_ini_M, wT_in 235 rfl rfl, by decide +kernel⟩
theorem k_L35 : Lk R_law R_M 35 y_Mprotect b_Mprotect 5 (some .int) 3 := ⟨wT_in 236 rfl rfl, wT_in 237 rfl rfl, wT_in 238 rfl rfl, m_ini_M, wT_in 239 rfl rfl, by decide +kernel⟩
theorem k_L39 : Lk R_law R_M 39 y_Mstate b_Mstate 3 (some .int) 2 := ⟨wT_in 240 rfl rfl, wT_in 241 rfl rfl, wT_in 242 rfl rfl, m_ini_M, wT_in 243 rfl rfl, by decide +kernel⟩
theorem k_L44 : Lk R_law R_M 44 y_Mshared b_Mshared 2 (some .boolean) 1 := ⟨wT_in 244 rfl rfl, wT_in 245 rfl rfl, wT_in 246 rfl rfl, m_ini_M, wT_in 247 rfl rfl, by decide +kernel⟩
theorem k_L49 : Lk R_law R_M 49 y_Msplit b_Msplit 6 (some .int) 1 := ⟨wT_in 248 rfl rfl, wT_in 249 rfl rfl, wT_in 250 rfl rfl, m_ini_M, wT_in 251 rfl rfl, by decide +kernel⟩
theorem k_L53 : Lk R_law R_M 53 y_Mcopy b_Mcopy 7 (some .int) 3 := ⟨wT_in 252 rfl rfl, wT_in 253 rfl rfl, wT_in 254 rfl rfl, m_ini_M, wT_in 255 rfl rfl, by decide +kernel⟩
theorem k_M39 : Lk R_M R_M 39 y_Mread b_Mread 4 (some .int) 3 := ⟨wT_in 256 rfl rfl, wT_in 229 rfl rfl, wT_in 230 rfl rfl, m_ini_M, wT_in 231 rfl rfl, by decide +kernel⟩
theorem k_M43 : Lk R_M R_M 43 y_Mwrite b_Mwrite 6 (some .int) 4 := ⟨wT_in 257 rfl rfl, wT_in 220 rfl rfl, wT_in 221 rfl rfl, m_ini_M, wT_in 222 rfl rfl, by decide +kernel⟩
theorem k_L57 : Lk R_law R_M 57 y_MunmapRange b_MunmapRange 6 (some .int) 3 := ⟨wT_in 258 rfl rfl, wT_in 259 rfl rfl, wT_in 260 rfl rfl, m_ini_M, wT_in 261 rfl rfl, by decide +kernel⟩
theorem k_M47 : Lk R_M R_M 47 y_Munmap b_Munmap 3 (some .int) 2 := ⟨wT_in 262 rfl rfl, wT_in 233 rfl rfl, wT_in 234 rfl rfl, m_ini_M, wT_in 235 rfl rfl, by decide +kernel⟩
theorem k_L61 : Lk R_law R_M 61 y_Mpresent b_Mpresent 4 (some .int) 1 := ⟨wT_in 263 rfl rfl, wT_in 216 rfl rfl, wT_in 217 rfl rfl, m_ini_M, wT_in 218 rfl rfl, by decide +kernel⟩
theorem k_L66 : Lk R_law R_M 66 y_MinUse b_MinUse 3 (some .int) 0 := ⟨wT_in 264 rfl rfl, wT_in 212 rfl rfl, wT_in 213 rfl rfl, m_ini_M, wT_in 214 rfl rfl, by decide +kernel⟩
theorem k_L70 : Lk R_law R_M 70 y_Mdigest b_Mdigest 6 (some .int) 1 := ⟨wT_in 265 rfl rfl, wT_in 266 rfl rfl, wT_in 267 rfl rfl, m_ini_M, wT_in 268 rfl rfl, by decide +kernel⟩
end
section
theorem d_Xinit_0 : decode b_Xinit 0 = .ok (.aload_n 0, 1) := by decide +kernel
theorem d_Xinit_1 : decode b_Xinit 1 = .ok (.invokespecial 1, 3) := by decide +kernel
theorem d_Xinit_4 : decode b_Xinit 4 = .ok (.aload_n 0, 1) := by decide +kernel
theorem d_Xinit_5 : decode b_Xinit 5 = .ok (.bipush 64, 2) := by decide +kernel
theorem d_Xinit_7 : decode b_Xinit 7 = .ok (.newarray .int, 2) := by decide +kernel
theorem d_Xinit_9 : decode b_Xinit 9 = .ok (.putfield 7, 3) := by decide +kernel
theorem d_Xinit_12 : decode b_Xinit 12 = .ok (.aload_n 0, 1) := by decide +kernel
theorem d_Xinit_13 : decode b_Xinit 13 = .ok (.bipush 16, 2) := by decide +kernel
theorem d_Xinit_15 : decode b_Xinit 15 = .ok (.newarray .int, 2) := by decide +kernel
theorem d_Xinit_17 : decode b_Xinit 17 = .ok (.putfield 13, 3) := by decide +kernel
theorem d_Xinit_20 : decode b_Xinit 20 = .ok (.aload_n 0, 1) := by decide +kernel
theorem d_Xinit_21 : decode b_Xinit 21 = .ok (.bipush 32, 2) := by decide +kernel
theorem d_Xinit_23 : decode b_Xinit 23 = .ok (.newarray .int, 2) := by decide +kernel
theorem d_Xinit_25 : decode b_Xinit 25 = .ok (.putfield 16, 3) := by decide +kernel
theorem d_Xinit_28 : decode b_Xinit 28 = .ok (.aload_n 0, 1) := by decide +kernel
theorem d_Xinit_29 : decode b_Xinit 29 = .ok (.bipush 32, 2) := by decide +kernel
theorem d_Xinit_31 : decode b_Xinit 31 = .ok (.newarray .boolean, 2) := by decide +kernel
theorem d_Xinit_33 : decode b_Xinit 33 = .ok (.putfield 19, 3) := by decide +kernel
theorem d_Xinit_36 : decode b_Xinit 36 = .ok (.aload_n 0, 1) := by decide +kernel
theorem d_Xinit_37 : decode b_Xinit 37 = .ok (.bipush 8, 2) := by decide +kernel
theorem d_Xinit_39 : decode b_Xinit 39 = .ok (.newarray .int, 2) := by decide +kernel
theorem d_Xinit_41 : decode b_Xinit 41 = .ok (.putfield 23, 3) := by decide +kernel
theorem d_Xinit_44 : decode b_Xinit 44 = .ok (.aload_n 0, 1) := by decide +kernel
theorem d_Xinit_45 : decode b_Xinit 45 = .ok (.iconst 4, 1) := by decide +kernel
theorem d_Xinit_46 : decode b_Xinit 46 = .ok (.newarray .int, 2) := by decide +kernel
theorem d_Xinit_48 : decode b_Xinit 48 = .ok (.putfield 26, 3) := by decide +kernel
theorem d_Xinit_51 : decode b_Xinit 51 = .ok (.aload_n 0, 1) := by decide +kernel
theorem d_Xinit_52 : decode b_Xinit 52 = .ok (.iconst 4, 1) := by decide +kernel
theorem d_Xinit_53 : decode b_Xinit 53 = .ok (.newarray .int, 2) := by decide +kernel
theorem d_Xinit_55 : decode b_Xinit 55 = .ok (.putfield 29, 3) := by decide +kernel
theorem d_Xinit_58 : decode b_Xinit 58 = .ok (.aload_n 0, 1) := by decide +kernel
theorem d_Xinit_59 : decode b_Xinit 59 = .ok (.iconst 4, 1) := by decide +kernel
theorem d_Xinit_60 : decode b_Xinit 60 = .ok (.newarray .int, 2) := by decide +kernel
theorem d_Xinit_62 : decode b_Xinit 62 = .ok (.putfield 32, 3) := by decide +kernel
theorem d_Xinit_65 : decode b_Xinit 65 = .ok (.iconst 0, 1) := by decide +kernel
theorem d_Xinit_66 : decode b_Xinit 66 = .ok (.istore_n 1, 1) := by decide +kernel
theorem d_Xinit_67 : decode b_Xinit 67 = .ok (.iload_n 1, 1) := by decide +kernel
theorem d_Xinit_68 : decode b_Xinit 68 = .ok (.bipush 32, 2) := by decide +kernel
theorem d_Xinit_70 : decode b_Xinit 70 = .ok (.if_icmp .ge 16, 3) := by decide +kernel
theorem d_Xinit_73 : decode b_Xinit 73 = .ok (.aload_n 0, 1) := by decide +kernel
theorem d_Xinit_74 : decode b_Xinit 74 = .ok (.getfield 16, 3) := by decide +kernel
theorem d_Xinit_77 : decode b_Xinit 77 = .ok (.iload_n 1, 1) := by decide +kernel
theorem d_Xinit_78 : decode b_Xinit 78 = .ok (.iconst (-1), 1) := by decide +kernel
theorem d_Xinit_79 : decode b_Xinit 79 = .ok (.iastore, 1) := by decide +kernel
theorem d_Xinit_80 : decode b_Xinit 80 = .ok (.iinc 1 1, 3) := by decide +kernel
theorem d_Xinit_83 : decode b_Xinit 83 = .ok (.goto (-16), 3) := by decide +kernel
theorem d_Xinit_86 : decode b_Xinit 86 = .ok (.iconst 0, 1) := by decide +kernel
theorem d_Xinit_87 : decode b_Xinit 87 = .ok (.istore_n 1, 1) := by decide +kernel
theorem d_Xinit_88 : decode b_Xinit 88 = .ok (.iload_n 1, 1) := by decide +kernel
theorem d_Xinit_89 : decode b_Xinit 89 = .ok (.bipush 8, 2) := by decide +kernel
theorem d_Xinit_91 : decode b_Xinit 91 = .ok (.if_icmp .ge 16, 3) := by decide +kernel
theorem d_Xinit_94 : decode b_Xinit 94 = .ok (.aload_n 0, 1) := by decide +kernel
theorem d_Xinit_95 : decode b_Xinit 95 = .ok (.getfield 23, 3) := by decide +kernel
theorem d_Xinit_98 : decode b_Xinit 98 = .ok (.iload_n 1, 1) := by decide +kernel
theorem d_Xinit_99 : decode b_Xinit 99 = .ok (.iconst (-1), 1) := by decide +kernel
theorem d_Xinit_100 : decode b_Xinit 100 = .ok (.iastore, 1) := by decide +kernel
theorem d_Xinit_101 : decode b_Xinit 101 = .ok (.iinc 1 1, 3) := by decide +kernel
theorem d_Xinit_104 : decode b_Xinit 104 = .ok (.goto (-16), 3) := by decide +kernel
theorem d_Xinit_107 : decode b_Xinit 107 = .ok (.iconst 0, 1) := by decide +kernel
theorem d_Xinit_108 : decode b_Xinit 108 = .ok (.istore_n 1, 1) := by decide +kernel
theorem d_Xinit_109 : decode b_Xinit 109 = .ok (.iload_n 1, 1) := by decide +kernel
theorem d_Xinit_110 : decode b_Xinit 110 = .ok (.iconst 4, 1) := by decide +kernel
theorem d_Xinit_111 : decode b_Xinit 111 = .ok (.if_icmp .ge 16, 3) := by decide +kernel
theorem d_Xinit_114 : decode b_Xinit 114 = .ok (.aload_n 0, 1) := by decide +kernel
theorem d_Xinit_115 : decode b_Xinit 115 = .ok (.getfield 26, 3) := by decide +kernel
theorem d_Xinit_118 : decode b_Xinit 118 = .ok (.iload_n 1, 1) := by decide +kernel
theorem d_Xinit_119 : decode b_Xinit 119 = .ok (.iconst (-1), 1) := by decide +kernel
theorem d_Xinit_120 : decode b_Xinit 120 = .ok (.iastore, 1) := by decide +kernel
theorem d_Xinit_121 : decode b_Xinit 121 = .ok (.iinc 1 1, 3) := by decide +kernel
theorem d_Xinit_124 : decode b_Xinit 124 = .ok (.goto (-15), 3) := by decide +kernel
theorem d_Xinit_127 : decode b_Xinit 127 = .ok (.return_, 1) := by decide +kernel
theorem d_Xbad_0 : decode b_Xbad 0 = .ok (.iload_n 1, 1) := by decide +kernel
theorem d_Xbad_1 : decode b_Xbad 1 = .ok (.ifCond .lt 18, 3) := by decide +kernel
theorem d_Xbad_4 : decode b_Xbad 4 = .ok (.iload_n 1, 1) := by decide +kernel
theorem d_Xbad_5 : decode b_Xbad 5 = .ok (.iconst 1, 1) := by decide +kernel
theorem d_Xbad_6 : decode b_Xbad 6 = .ok (.if_icmp .gt 13, 3) := by decide +kernel
theorem d_Xbad_9 : decode b_Xbad 9 = .ok (.iload_n 2, 1) := by decide +kernel
theorem d_Xbad_10 : decode b_Xbad 10 = .ok (.ifCond .lt 9, 3) := by decide +kernel
theorem d_Xbad_13 : decode b_Xbad 13 = .ok (.iload_n 2, 1) := by decide +kernel
theorem d_Xbad_14 : decode b_Xbad 14 = .ok (.bipush 15, 2) := by decide +kernel
theorem d_Xbad_16 : decode b_Xbad 16 = .ok (.if_icmp .le 7, 3) := by decide +kernel
theorem d_Xbad_19 : decode b_Xbad 19 = .ok (.iconst 1, 1) := by decide +kernel
theorem d_Xbad_20 : decode b_Xbad 20 = .ok (.goto 4, 3) := by decide +kernel
theorem d_Xbad_23 : decode b_Xbad 23 = .ok (.iconst 0, 1) := by decide +kernel
theorem d_Xbad_24 : decode b_Xbad 24 = .ok (.ireturn, 1) := by decide +kernel
theorem d_XframeOf_0 : decode b_XframeOf 0 = .ok (.aload_n 0, 1) := by decide +kernel
theorem d_XframeOf_1 : decode b_XframeOf 1 = .ok (.getfield 23, 3) := by decide +kernel
theorem d_XframeOf_4 : decode b_XframeOf 4 = .ok (.iload_n 1, 1) := by decide +kernel
theorem d_XframeOf_5 : decode b_XframeOf 5 = .ok (.iconst 2, 1) := by decide +kernel
theorem d_XframeOf_6 : decode b_XframeOf 6 = .ok (.ishr, 1) := by decide +kernel
theorem d_XframeOf_7 : decode b_XframeOf 7 = .ok (.iaload, 1) := by decide +kernel
theorem d_XframeOf_8 : decode b_XframeOf 8 = .ok (.istore_n 2, 1) := by decide +kernel
theorem d_XframeOf_9 : decode b_XframeOf 9 = .ok (.iload_n 2, 1) := by decide +kernel
theorem d_XframeOf_10 : decode b_XframeOf 10 = .ok (.ifCond .lt 11, 3) := by decide +kernel
theorem d_XframeOf_13 : decode b_XframeOf 13 = .ok (.iload_n 2, 1) := by decide +kernel
theorem d_XframeOf_14 : decode b_XframeOf 14 = .ok (.iconst 4, 1) := by decide +kernel
theorem d_XframeOf_15 : decode b_XframeOf 15 = .ok (.imul, 1) := by decide +kernel
theorem d_XframeOf_16 : decode b_XframeOf 16 = .ok (.iload_n 1, 1) := by decide +kernel
theorem d_XframeOf_17 : decode b_XframeOf 17 = .ok (.iconst 3, 1) := by decide +kernel
theorem d_XframeOf_18 : decode b_XframeOf 18 = .ok (.iand, 1) := by decide +kernel
theorem d_XframeOf_19 : decode b_XframeOf 19 = .ok (.iadd, 1) := by decide +kernel
theorem d_XframeOf_20 : decode b_XframeOf 20 = .ok (.ireturn, 1) := by decide +kernel
theorem d_XframeOf_21 : decode b_XframeOf 21 = .ok (.aload_n 0, 1) := by decide +kernel
theorem d_XframeOf_22 : decode b_XframeOf 22 = .ok (.getfield 16, 3) := by decide +kernel
theorem d_XframeOf_25 : decode b_XframeOf 25 = .ok (.iload_n 1, 1) := by decide +kernel
theorem d_XframeOf_26 : decode b_XframeOf 26 = .ok (.iaload, 1) := by decide +kernel
theorem d_XframeOf_27 : decode b_XframeOf 27 = .ok (.ireturn, 1) := by decide +kernel
theorem d_XframesInUse_0 : decode b_XframesInUse 0 = .ok (.iconst 0, 1) := by decide +kernel
theorem d_XframesInUse_1 : decode b_XframesInUse 1 = .ok (.istore_n 1, 1) := by decide +kernel
theorem d_XframesInUse_2 : decode b_XframesInUse 2 = .ok (.iconst 0, 1) := by decide +kernel
theorem d_XframesInUse_3 : decode b_XframesInUse 3 = .ok (.istore_n 2, 1) := by decide +kernel
theorem d_XframesInUse_4 : decode b_XframesInUse 4 = .ok (.iload_n 2, 1) := by decide +kernel
theorem d_XframesInUse_5 : decode b_XframesInUse 5 = .ok (.bipush 16, 2) := by decide +kernel
theorem d_XframesInUse_7 : decode b_XframesInUse 7 = .ok (.if_icmp .ge 21, 3) := by decide +kernel
theorem d_XframesInUse_10 : decode b_XframesInUse 10 = .ok (.aload_n 0, 1) := by decide +kernel
theorem d_XframesInUse_11 : decode b_XframesInUse 11 = .ok (.getfield 13, 3) := by decide +kernel
theorem d_XframesInUse_14 : decode b_XframesInUse 14 = .ok (.iload_n 2, 1) := by decide +kernel
theorem d_XframesInUse_15 : decode b_XframesInUse 15 = .ok (.iaload, 1) := by decide +kernel
theorem d_XframesInUse_16 : decode b_XframesInUse 16 = .ok (.ifCond .le 6, 3) := by decide +kernel
theorem d_XframesInUse_19 : decode b_XframesInUse 19 = .ok (.iinc 1 1, 3) := by decide +kernel
theorem d_XframesInUse_22 : decode b_XframesInUse 22 = .ok (.iinc 2 1, 3) := by decide +kernel
theorem d_XframesInUse_25 : decode b_XframesInUse 25 = .ok (.goto (-21), 3) := by decide +kernel
theorem d_XframesInUse_28 : decode b_XframesInUse 28 = .ok (.iload_n 1, 1) := by decide +kernel
theorem d_XframesInUse_29 : decode b_XframesInUse 29 = .ok (.ireturn, 1) := by decide +kernel
theorem d_Xdemote_0 : decode b_Xdemote 0 = .ok (.aload_n 0, 1) := by decide +kernel
theorem d_Xdemote_1 : decode b_Xdemote 1 = .ok (.getfield 23, 3) := by decide +kernel
theorem d_Xdemote_4 : decode b_Xdemote 4 = .ok (.iload_n 1, 1) := by decide +kernel
theorem d_Xdemote_5 : decode b_Xdemote 5 = .ok (.iaload, 1) := by decide +kernel
theorem d_Xdemote_6 : decode b_Xdemote 6 = .ok (.istore_n 2, 1) := by decide +kernel
theorem d_Xdemote_7 : decode b_Xdemote 7 = .ok (.iload_n 2, 1) := by decide +kernel
theorem d_Xdemote_8 : decode b_Xdemote 8 = .ok (.ifCond .ge 4, 3) := by decide +kernel
theorem d_Xdemote_11 : decode b_Xdemote 11 = .ok (.return_, 1) := by decide +kernel
theorem d_Xdemote_12 : decode b_Xdemote 12 = .ok (.aload_n 0, 1) := by decide +kernel
theorem d_Xdemote_13 : decode b_Xdemote 13 = .ok (.getfield 23, 3) := by decide +kernel
theorem d_Xdemote_16 : decode b_Xdemote 16 = .ok (.iload_n 1, 1) := by decide +kernel
theorem d_Xdemote_17 : decode b_Xdemote 17 = .ok (.iconst (-1), 1) := by decide +kernel
theorem d_Xdemote_18 : decode b_Xdemote 18 = .ok (.iastore, 1) := by decide +kernel
theorem d_Xdemote_19 : decode b_Xdemote 19 = .ok (.iconst 0, 1) := by decide +kernel
theorem d_Xdemote_20 : decode b_Xdemote 20 = .ok (.istore_n 3, 1) := by decide +kernel
theorem d_Xdemote_21 : decode b_Xdemote 21 = .ok (.iload_n 3, 1) := by decide +kernel
theorem d_Xdemote_22 : decode b_Xdemote 22 = .ok (.iconst 4, 1) := by decide +kernel
theorem d_Xdemote_23 : decode b_Xdemote 23 = .ok (.if_icmp .ge 24, 3) := by decide +kernel
theorem d_Xdemote_26 : decode b_Xdemote 26 = .ok (.aload_n 0, 1) := by decide +kernel
theorem d_Xdemote_27 : decode b_Xdemote 27 = .ok (.getfield 16, 3) := by decide +kernel
theorem d_Xdemote_30 : decode b_Xdemote 30 = .ok (.iload_n 1, 1) := by decide +kernel
theorem d_Xdemote_31 : decode b_Xdemote 31 = .ok (.iconst 4, 1) := by decide +kernel
theorem d_Xdemote_32 : decode b_Xdemote 32 = .ok (.imul, 1) := by decide +kernel
theorem d_Xdemote_33 : decode b_Xdemote 33 = .ok (.iload_n 3, 1) := by decide +kernel
theorem d_Xdemote_34 : decode b_Xdemote 34 = .ok (.iadd, 1) := by decide +kernel
theorem d_Xdemote_35 : decode b_Xdemote 35 = .ok (.iload_n 2, 1) := by decide +kernel
theorem d_Xdemote_36 : decode b_Xdemote 36 = .ok (.iconst 4, 1) := by decide +kernel
theorem d_Xdemote_37 : decode b_Xdemote 37 = .ok (.imul, 1) := by decide +kernel
theorem d_Xdemote_38 : decode b_Xdemote 38 = .ok (.iload_n 3, 1) := by decide +kernel
theorem d_Xdemote_39 : decode b_Xdemote 39 = .ok (.iadd, 1) := by decide +kernel
theorem d_Xdemote_40 : decode b_Xdemote 40 = .ok (.iastore, 1) := by decide +kernel
theorem d_Xdemote_41 : decode b_Xdemote 41 = .ok (.iinc 3 1, 3) := by decide +kernel
theorem d_Xdemote_44 : decode b_Xdemote 44 = .ok (.goto (-23), 3) := by decide +kernel
theorem d_Xdemote_47 : decode b_Xdemote 47 = .ok (.return_, 1) := by decide +kernel
theorem d_Xpromote_0 : decode b_Xpromote 0 = .ok (.aload_n 0, 1) := by decide +kernel
theorem d_Xpromote_1 : decode b_Xpromote 1 = .ok (.getfield 23, 3) := by decide +kernel
theorem d_Xpromote_4 : decode b_Xpromote 4 = .ok (.iload_n 1, 1) := by decide +kernel
theorem d_Xpromote_5 : decode b_Xpromote 5 = .ok (.iaload, 1) := by decide +kernel
theorem d_Xpromote_6 : decode b_Xpromote 6 = .ok (.ifCond .lt 4, 3) := by decide +kernel
theorem d_Xpromote_9 : decode b_Xpromote 9 = .ok (.return_, 1) := by decide +kernel
theorem d_Xpromote_10 : decode b_Xpromote 10 = .ok (.iload_n 1, 1) := by decide +kernel
theorem d_Xpromote_11 : decode b_Xpromote 11 = .ok (.iconst 4, 1) := by decide +kernel
theorem d_Xpromote_12 : decode b_Xpromote 12 = .ok (.imul, 1) := by decide +kernel
theorem d_Xpromote_13 : decode b_Xpromote 13 = .ok (.istore_n 2, 1) := by decide +kernel
theorem d_Xpromote_14 : decode b_Xpromote 14 = .ok (.iconst (-1), 1) := by decide +kernel
theorem d_Xpromote_15 : decode b_Xpromote 15 = .ok (.istore_n 3, 1) := by decide +kernel
theorem d_Xpromote_16 : decode b_Xpromote 16 = .ok (.iconst 1, 1) := by decide +kernel
theorem d_Xpromote_17 : decode b_Xpromote 17 = .ok (.istore 4, 2) := by decide +kernel
theorem d_Xpromote_19 : decode b_Xpromote 19 = .ok (.iconst 0, 1) := by decide +kernel
theorem d_Xpromote_20 : decode b_Xpromote 20 = .ok (.istore 5, 2) := by decide +kernel
theorem d_Xpromote_22 : decode b_Xpromote 22 = .ok (.iload 5, 2) := by decide +kernel
theorem d_Xpromote_24 : decode b_Xpromote 24 = .ok (.iconst 4, 1) := by decide +kernel
theorem d_Xpromote_25 : decode b_Xpromote 25 = .ok (.if_icmp .ge 88, 3) := by decide +kernel
theorem d_Xpromote_28 : decode b_Xpromote 28 = .ok (.aload_n 0, 1) := by decide +kernel
theorem d_Xpromote_29 : decode b_Xpromote 29 = .ok (.getfield 16, 3) := by decide +kernel
theorem d_Xpromote_32 : decode b_Xpromote 32 = .ok (.iload_n 2, 1) := by decide +kernel
theorem d_Xpromote_33 : decode b_Xpromote 33 = .ok (.iload 5, 2) := by decide +kernel
theorem d_Xpromote_35 : decode b_Xpromote 35 = .ok (.iadd, 1) := by decide +kernel
theorem d_Xpromote_36 : decode b_Xpromote 36 = .ok (.iaload, 1) := by decide +kernel
theorem d_Xpromote_37 : decode b_Xpromote 37 = .ok (.istore 6, 2) := by decide +kernel
theorem d_Xpromote_39 : decode b_Xpromote 39 = .ok (.iload 6, 2) := by decide +kernel
theorem d_Xpromote_41 : decode b_Xpromote 41 = .ok (.ifCond .lt 32, 3) := by decide +kernel
theorem d_Xpromote_44 : decode b_Xpromote 44 = .ok (.aload_n 0, 1) := by decide +kernel
theorem d_Xpromote_45 : decode b_Xpromote 45 = .ok (.getfield 13, 3) := by decide +kernel
theorem d_Xpromote_48 : decode b_Xpromote 48 = .ok (.iload 6, 2) := by decide +kernel
theorem d_Xpromote_50 : decode b_Xpromote 50 = .ok (.iaload, 1) := by decide +kernel
theorem d_Xpromote_51 : decode b_Xpromote 51 = .ok (.iconst 1, 1) := by decide +kernel
theorem d_Xpromote_52 : decode b_Xpromote 52 = .ok (.if_icmp .ne 21, 3) := by decide +kernel
theorem d_Xpromote_55 : decode b_Xpromote 55 = .ok (.aload_n 0, 1) := by decide +kernel
theorem d_Xpromote_56 : decode b_Xpromote 56 = .ok (.getfield 19, 3) := by decide +kernel
theorem d_Xpromote_59 : decode b_Xpromote 59 = .ok (.iload_n 2, 1) := by decide +kernel
theorem d_Xpromote_60 : decode b_Xpromote 60 = .ok (.iload 5, 2) := by decide +kernel
theorem d_Xpromote_62 : decode b_Xpromote 62 = .ok (.iadd, 1) := by decide +kernel
theorem d_Xpromote_63 : decode b_Xpromote 63 = .ok (.baload, 1) := by decide +kernel
theorem d_Xpromote_64 : decode b_Xpromote 64 = .ok (.aload_n 0, 1) := by decide +kernel
theorem d_Xpromote_65 : decode b_Xpromote 65 = .ok (.getfield 19, 3) := by decide +kernel
theorem d_Xpromote_68 : decode b_Xpromote 68 = .ok (.iload_n 2, 1) := by decide +kernel
theorem d_Xpromote_69 : decode b_Xpromote 69 = .ok (.baload, 1) := by decide +kernel
theorem d_Xpromote_70 : decode b_Xpromote 70 = .ok (.if_icmp .eq 4, 3) := by decide +kernel
theorem d_Xpromote_73 : decode b_Xpromote 73 = .ok (.return_, 1) := by decide +kernel
theorem d_Xpromote_74 : decode b_Xpromote 74 = .ok (.iload 5, 2) := by decide +kernel
theorem d_Xpromote_76 : decode b_Xpromote 76 = .ok (.ifCond .ne 8, 3) := by decide +kernel
theorem d_Xpromote_79 : decode b_Xpromote 79 = .ok (.iload 6, 2) := by decide +kernel
theorem d_Xpromote_81 : decode b_Xpromote 81 = .ok (.iconst 2, 1) := by decide +kernel
theorem d_Xpromote_82 : decode b_Xpromote 82 = .ok (.ishr, 1) := by decide +kernel
theorem d_Xpromote_83 : decode b_Xpromote 83 = .ok (.istore_n 3, 1) := by decide +kernel
theorem d_Xpromote_84 : decode b_Xpromote 84 = .ok (.iload 4, 2) := by decide +kernel
theorem d_Xpromote_86 : decode b_Xpromote 86 = .ok (.ifCond .eq 18, 3) := by decide +kernel
theorem d_Xpromote_89 : decode b_Xpromote 89 = .ok (.iload 6, 2) := by decide +kernel
theorem d_Xpromote_91 : decode b_Xpromote 91 = .ok (.iload_n 3, 1) := by decide +kernel
theorem d_Xpromote_92 : decode b_Xpromote 92 = .ok (.iconst 4, 1) := by decide +kernel
theorem d_Xpromote_93 : decode b_Xpromote 93 = .ok (.imul, 1) := by decide +kernel
theorem d_Xpromote_94 : decode b_Xpromote 94 = .ok (.iload 5, 2) := by decide +kernel
theorem d_Xpromote_96 : decode b_Xpromote 96 = .ok (.iadd, 1) := by decide +kernel
theorem d_Xpromote_97 : decode b_Xpromote 97 = .ok (.if_icmp .ne 7, 3) := by decide +kernel
theorem d_Xpromote_100 : decode b_Xpromote 100 = .ok (.iconst 1, 1) := by decide +kernel
theorem d_Xpromote_101 : decode b_Xpromote 101 = .ok (.goto 4, 3) := by decide +kernel
theorem d_Xpromote_104 : decode b_Xpromote 104 = .ok (.iconst 0, 1) := by decide +kernel
theorem d_Xpromote_105 : decode b_Xpromote 105 = .ok (.istore 4, 2) := by decide +kernel
theorem d_Xpromote_107 : decode b_Xpromote 107 = .ok (.iinc 5 1, 3) := by decide +kernel
theorem d_Xpromote_110 : decode b_Xpromote 110 = .ok (.goto (-88), 3) := by decide +kernel
theorem d_Xpromote_113 : decode b_Xpromote 113 = .ok (.iload 4, 2) := by decide +kernel
theorem d_Xpromote_115 : decode b_Xpromote 115 = .ok (.ifCond .ne 19, 3) := by decide +kernel
theorem d_Xpromote_118 : decode b_Xpromote 118 = .ok (.aload_n 0, 1) := by decide +kernel
theorem d_Xpromote_119 : decode b_Xpromote 119 = .ok (.invokevirtual 35, 3) := by decide +kernel
theorem d_Xpromote_122 : decode b_Xpromote 122 = .ok (.istore_n 3, 1) := by decide +kernel
theorem d_Xpromote_123 : decode b_Xpromote 123 = .ok (.iload_n 3, 1) := by decide +kernel
theorem d_Xpromote_124 : decode b_Xpromote 124 = .ok (.ifCond .ge 4, 3) := by decide +kernel
theorem d_Xpromote_127 : decode b_Xpromote 127 = .ok (.return_, 1) := by decide +kernel
theorem d_Xpromote_128 : decode b_Xpromote 128 = .ok (.aload_n 0, 1) := by decide +kernel
theorem d_Xpromote_129 : decode b_Xpromote 129 = .ok (.iload_n 2, 1) := by decide +kernel
theorem d_Xpromote_130 : decode b_Xpromote 130 = .ok (.iload_n 3, 1) := by decide +kernel
theorem d_Xpromote_131 : decode b_Xpromote 131 = .ok (.invokevirtual 39, 3) := by decide +kernel
theorem d_Xpromote_134 : decode b_Xpromote 134 = .ok (.aload_n 0, 1) := by decide +kernel
theorem d_Xpromote_135 : decode b_Xpromote 135 = .ok (.getfield 23, 3) := by decide +kernel
theorem d_Xpromote_138 : decode b_Xpromote 138 = .ok (.iload_n 1, 1) := by decide +kernel
theorem d_Xpromote_139 : decode b_Xpromote 139 = .ok (.iload_n 3, 1) := by decide +kernel
theorem d_Xpromote_140 : decode b_Xpromote 140 = .ok (.iastore, 1) := by decide +kernel
theorem d_Xpromote_141 : decode b_Xpromote 141 = .ok (.aload_n 0, 1) := by decide +kernel
theorem d_Xpromote_142 : decode b_Xpromote 142 = .ok (.getfield 26, 3) := by decide +kernel
theorem d_Xpromote_145 : decode b_Xpromote 145 = .ok (.iload_n 3, 1) := by decide +kernel
theorem d_Xpromote_146 : decode b_Xpromote 146 = .ok (.iload_n 1, 1) := by decide +kernel
theorem d_Xpromote_147 : decode b_Xpromote 147 = .ok (.iastore, 1) := by decide +kernel
theorem d_Xpromote_148 : decode b_Xpromote 148 = .ok (.aload_n 0, 1) := by decide +kernel
theorem d_Xpromote_149 : decode b_Xpromote 149 = .ok (.iload_n 1, 1) := by decide +kernel
theorem d_Xpromote_150 : decode b_Xpromote 150 = .ok (.iload_n 3, 1) := by decide +kernel
theorem d_Xpromote_151 : decode b_Xpromote 151 = .ok (.invokevirtual 43, 3) := by decide +kernel
theorem d_Xpromote_154 : decode b_Xpromote 154 = .ok (.iconst 0, 1) := by decide +kernel
theorem d_Xpromote_155 : decode b_Xpromote 155 = .ok (.istore 5, 2) := by decide +kernel
theorem d_Xpromote_157 : decode b_Xpromote 157 = .ok (.iload 5, 2) := by decide +kernel
theorem d_Xpromote_159 : decode b_Xpromote 159 = .ok (.iconst 4, 1) := by decide +kernel
theorem d_Xpromote_160 : decode b_Xpromote 160 = .ok (.if_icmp .ge 19, 3) := by decide +kernel
theorem d_Xpromote_163 : decode b_Xpromote 163 = .ok (.aload_n 0, 1) := by decide +kernel
theorem d_Xpromote_164 : decode b_Xpromote 164 = .ok (.getfield 16, 3) := by decide +kernel
theorem d_Xpromote_167 : decode b_Xpromote 167 = .ok (.iload_n 2, 1) := by decide +kernel
theorem d_Xpromote_168 : decode b_Xpromote 168 = .ok (.iload 5, 2) := by decide +kernel
theorem d_Xpromote_170 : decode b_Xpromote 170 = .ok (.iadd, 1) := by decide +kernel
theorem d_Xpromote_171 : decode b_Xpromote 171 = .ok (.iconst (-1), 1) := by decide +kernel
theorem d_Xpromote_172 : decode b_Xpromote 172 = .ok (.iastore, 1) := by decide +kernel
theorem d_Xpromote_173 : decode b_Xpromote 173 = .ok (.iinc 5 1, 3) := by decide +kernel
theorem d_Xpromote_176 : decode b_Xpromote 176 = .ok (.goto (-19), 3) := by decide +kernel
theorem d_Xpromote_179 : decode b_Xpromote 179 = .ok (.return_, 1) := by decide +kernel
theorem d_Xrelocate_0 : decode b_Xrelocate 0 = .ok (.iconst 0, 1) := by decide +kernel
theorem d_Xrelocate_1 : decode b_Xrelocate 1 = .ok (.istore_n 3, 1) := by decide +kernel
theorem d_Xrelocate_2 : decode b_Xrelocate 2 = .ok (.iload_n 3, 1) := by decide +kernel
theorem d_Xrelocate_3 : decode b_Xrelocate 3 = .ok (.iconst 4, 1) := by decide +kernel
theorem d_Xrelocate_4 : decode b_Xrelocate 4 = .ok (.if_icmp .ge 60, 3) := by decide +kernel
theorem d_Xrelocate_7 : decode b_Xrelocate 7 = .ok (.aload_n 0, 1) := by decide +kernel
theorem d_Xrelocate_8 : decode b_Xrelocate 8 = .ok (.getfield 16, 3) := by decide +kernel
theorem d_Xrelocate_11 : decode b_Xrelocate 11 = .ok (.iload_n 1, 1) := by decide +kernel
theorem d_Xrelocate_12 : decode b_Xrelocate 12 = .ok (.iload_n 3, 1) := by decide +kernel
theorem d_Xrelocate_13 : decode b_Xrelocate 13 = .ok (.iadd, 1) := by decide +kernel
theorem d_Xrelocate_14 : decode b_Xrelocate 14 = .ok (.iaload, 1) := by decide +kernel
theorem d_Xrelocate_15 : decode b_Xrelocate 15 = .ok (.istore 4, 2) := by decide +kernel
theorem d_Xrelocate_17 : decode b_Xrelocate 17 = .ok (.iload_n 2, 1) := by decide +kernel
theorem d_Xrelocate_18 : decode b_Xrelocate 18 = .ok (.iconst 4, 1) := by decide +kernel
theorem d_Xrelocate_19 : decode b_Xrelocate 19 = .ok (.imul, 1) := by decide +kernel
theorem d_Xrelocate_20 : decode b_Xrelocate 20 = .ok (.iload_n 3, 1) := by decide +kernel
theorem d_Xrelocate_21 : decode b_Xrelocate 21 = .ok (.iadd, 1) := by decide +kernel
theorem d_Xrelocate_22 : decode b_Xrelocate 22 = .ok (.istore 5, 2) := by decide +kernel
theorem d_Xrelocate_24 : decode b_Xrelocate 24 = .ok (.aload_n 0, 1) := by decide +kernel
theorem d_Xrelocate_25 : decode b_Xrelocate 25 = .ok (.iload 4, 2) := by decide +kernel
theorem d_Xrelocate_27 : decode b_Xrelocate 27 = .ok (.iload 5, 2) := by decide +kernel
theorem d_Xrelocate_29 : decode b_Xrelocate 29 = .ok (.invokevirtual 46, 3) := by decide +kernel
theorem d_Xrelocate_32 : decode b_Xrelocate 32 = .ok (.aload_n 0, 1) := by decide +kernel
theorem d_Xrelocate_33 : decode b_Xrelocate 33 = .ok (.getfield 13, 3) := by decide +kernel
theorem d_Xrelocate_36 : decode b_Xrelocate 36 = .ok (.iload 4, 2) := by decide +kernel
theorem d_Xrelocate_38 : decode b_Xrelocate 38 = .ok (.iconst 0, 1) := by decide +kernel
theorem d_Xrelocate_39 : decode b_Xrelocate 39 = .ok (.iastore, 1) := by decide +kernel
theorem d_Xrelocate_40 : decode b_Xrelocate 40 = .ok (.aload_n 0, 1) := by decide +kernel
theorem d_Xrelocate_41 : decode b_Xrelocate 41 = .ok (.getfield 13, 3) := by decide +kernel
theorem d_Xrelocate_44 : decode b_Xrelocate 44 = .ok (.iload 5, 2) := by decide +kernel
theorem d_Xrelocate_46 : decode b_Xrelocate 46 = .ok (.iconst 1, 1) := by decide +kernel
theorem d_Xrelocate_47 : decode b_Xrelocate 47 = .ok (.iastore, 1) := by decide +kernel
theorem d_Xrelocate_48 : decode b_Xrelocate 48 = .ok (.aload_n 0, 1) := by decide +kernel
theorem d_Xrelocate_49 : decode b_Xrelocate 49 = .ok (.getfield 16, 3) := by decide +kernel
theorem d_Xrelocate_52 : decode b_Xrelocate 52 = .ok (.iload_n 1, 1) := by decide +kernel
theorem d_Xrelocate_53 : decode b_Xrelocate 53 = .ok (.iload_n 3, 1) := by decide +kernel
theorem d_Xrelocate_54 : decode b_Xrelocate 54 = .ok (.iadd, 1) := by decide +kernel
theorem d_Xrelocate_55 : decode b_Xrelocate 55 = .ok (.iload 5, 2) := by decide +kernel
theorem d_Xrelocate_57 : decode b_Xrelocate 57 = .ok (.iastore, 1) := by decide +kernel
theorem d_Xrelocate_58 : decode b_Xrelocate 58 = .ok (.iinc 3 1, 3) := by decide +kernel
theorem d_Xrelocate_61 : decode b_Xrelocate 61 = .ok (.goto (-59), 3) := by decide +kernel
theorem d_Xrelocate_64 : decode b_Xrelocate 64 = .ok (.return_, 1) := by decide +kernel
theorem d_XcopyFrame_0 : decode b_XcopyFrame 0 = .ok (.iconst 0, 1) := by decide +kernel
theorem d_XcopyFrame_1 : decode b_XcopyFrame 1 = .ok (.istore_n 3, 1) := by decide +kernel
theorem d_XcopyFrame_2 : decode b_XcopyFrame 2 = .ok (.iload_n 3, 1) := by decide +kernel
theorem d_XcopyFrame_3 : decode b_XcopyFrame 3 = .ok (.iconst 4, 1) := by decide +kernel
theorem d_XcopyFrame_4 : decode b_XcopyFrame 4 = .ok (.if_icmp .ge 29, 3) := by decide +kernel
theorem d_XcopyFrame_7 : decode b_XcopyFrame 7 = .ok (.aload_n 0, 1) := by decide +kernel
theorem d_XcopyFrame_8 : decode b_XcopyFrame 8 = .ok (.getfield 7, 3) := by decide +kernel
theorem d_XcopyFrame_11 : decode b_XcopyFrame 11 = .ok (.iload_n 2, 1) := by decide +kernel
theorem d_XcopyFrame_12 : decode b_XcopyFrame 12 = .ok (.iconst 4, 1) := by decide +kernel
theorem d_XcopyFrame_13 : decode b_XcopyFrame 13 = .ok (.imul, 1) := by decide +kernel
theorem d_XcopyFrame_14 : decode b_XcopyFrame 14 = .ok (.iload_n 3, 1) := by decide +kernel
theorem d_XcopyFrame_15 : decode b_XcopyFrame 15 = .ok (.iadd, 1) := by decide +kernel
theorem d_XcopyFrame_16 : decode b_XcopyFrame 16 = .ok (.aload_n 0, 1) := by decide +kernel
theorem d_XcopyFrame_17 : decode b_XcopyFrame 17 = .ok (.getfield 7, 3) := by decide +kernel
theorem d_XcopyFrame_20 : decode b_XcopyFrame 20 = .ok (.iload_n 1, 1) := by decide +kernel
theorem d_XcopyFrame_21 : decode b_XcopyFrame 21 = .ok (.iconst 4, 1) := by decide +kernel
theorem d_XcopyFrame_22 : decode b_XcopyFrame 22 = .ok (.imul, 1) := by decide +kernel
theorem d_XcopyFrame_23 : decode b_XcopyFrame 23 = .ok (.iload_n 3, 1) := by decide +kernel
theorem d_XcopyFrame_24 : decode b_XcopyFrame 24 = .ok (.iadd, 1) := by decide +kernel
theorem d_XcopyFrame_25 : decode b_XcopyFrame 25 = .ok (.iaload, 1) := by decide +kernel
theorem d_XcopyFrame_26 : decode b_XcopyFrame 26 = .ok (.iastore, 1) := by decide +kernel
theorem d_XcopyFrame_27 : decode b_XcopyFrame 27 = .ok (.iinc 3 1, 3) := by decide +kernel
theorem d_XcopyFrame_30 : decode b_XcopyFrame 30 = .ok (.goto (-28), 3) := by decide +kernel
theorem d_XcopyFrame_33 : decode b_XcopyFrame 33 = .ok (.return_, 1) := by decide +kernel
theorem d_XdropOthers_0 : decode b_XdropOthers 0 = .ok (.iconst 0, 1) := by decide +kernel
theorem d_XdropOthers_1 : decode b_XdropOthers 1 = .ok (.istore_n 3, 1) := by decide +kernel
theorem d_XdropOthers_2 : decode b_XdropOthers 2 = .ok (.iload_n 3, 1) := by decide +kernel
theorem d_XdropOthers_3 : decode b_XdropOthers 3 = .ok (.iconst 4, 1) := by decide +kernel
theorem d_XdropOthers_4 : decode b_XdropOthers 4 = .ok (.if_icmp .ge 31, 3) := by decide +kernel
theorem d_XdropOthers_7 : decode b_XdropOthers 7 = .ok (.iload_n 3, 1) := by decide +kernel
theorem d_XdropOthers_8 : decode b_XdropOthers 8 = .ok (.iload_n 2, 1) := by decide +kernel
theorem d_XdropOthers_9 : decode b_XdropOthers 9 = .ok (.if_icmp .eq 20, 3) := by decide +kernel
theorem d_XdropOthers_12 : decode b_XdropOthers 12 = .ok (.aload_n 0, 1) := by decide +kernel
theorem d_XdropOthers_13 : decode b_XdropOthers 13 = .ok (.getfield 26, 3) := by decide +kernel
theorem d_XdropOthers_16 : decode b_XdropOthers 16 = .ok (.iload_n 3, 1) := by decide +kernel
theorem d_XdropOthers_17 : decode b_XdropOthers 17 = .ok (.iaload, 1) := by decide +kernel
theorem d_XdropOthers_18 : decode b_XdropOthers 18 = .ok (.iload_n 1, 1) := by decide +kernel
theorem d_XdropOthers_19 : decode b_XdropOthers 19 = .ok (.if_icmp .ne 10, 3) := by decide +kernel
theorem d_XdropOthers_22 : decode b_XdropOthers 22 = .ok (.aload_n 0, 1) := by decide +kernel
theorem d_XdropOthers_23 : decode b_XdropOthers 23 = .ok (.getfield 26, 3) := by decide +kernel
theorem d_XdropOthers_26 : decode b_XdropOthers 26 = .ok (.iload_n 3, 1) := by decide +kernel
theorem d_XdropOthers_27 : decode b_XdropOthers 27 = .ok (.iconst (-1), 1) := by decide +kernel
theorem d_XdropOthers_28 : decode b_XdropOthers 28 = .ok (.iastore, 1) := by decide +kernel
theorem d_XdropOthers_29 : decode b_XdropOthers 29 = .ok (.iinc 3 1, 3) := by decide +kernel
theorem d_XdropOthers_32 : decode b_XdropOthers 32 = .ok (.goto (-30), 3) := by decide +kernel
theorem d_XdropOthers_35 : decode b_XdropOthers 35 = .ok (.return_, 1) := by decide +kernel
theorem d_XheldBy_0 : decode b_XheldBy 0 = .ok (.iconst (-1), 1) := by decide +kernel
theorem d_XheldBy_1 : decode b_XheldBy 1 = .ok (.istore_n 2, 1) := by decide +kernel
theorem d_XheldBy_2 : decode b_XheldBy 2 = .ok (.iconst 0, 1) := by decide +kernel
theorem d_XheldBy_3 : decode b_XheldBy 3 = .ok (.istore_n 3, 1) := by decide +kernel
theorem d_XheldBy_4 : decode b_XheldBy 4 = .ok (.iload_n 3, 1) := by decide +kernel
theorem d_XheldBy_5 : decode b_XheldBy 5 = .ok (.iconst 4, 1) := by decide +kernel
theorem d_XheldBy_6 : decode b_XheldBy 6 = .ok (.if_icmp .ge 21, 3) := by decide +kernel
theorem d_XheldBy_9 : decode b_XheldBy 9 = .ok (.aload_n 0, 1) := by decide +kernel
theorem d_XheldBy_10 : decode b_XheldBy 10 = .ok (.getfield 26, 3) := by decide +kernel
theorem d_XheldBy_13 : decode b_XheldBy 13 = .ok (.iload_n 3, 1) := by decide +kernel
theorem d_XheldBy_14 : decode b_XheldBy 14 = .ok (.iaload, 1) := by decide +kernel
theorem d_XheldBy_15 : decode b_XheldBy 15 = .ok (.iload_n 1, 1) := by decide +kernel
theorem d_XheldBy_16 : decode b_XheldBy 16 = .ok (.if_icmp .ne 5, 3) := by decide +kernel
theorem d_XheldBy_19 : decode b_XheldBy 19 = .ok (.iload_n 3, 1) := by decide +kernel
theorem d_XheldBy_20 : decode b_XheldBy 20 = .ok (.istore_n 2, 1) := by decide +kernel
theorem d_XheldBy_21 : decode b_XheldBy 21 = .ok (.iinc 3 1, 3) := by decide +kernel
theorem d_XheldBy_24 : decode b_XheldBy 24 = .ok (.goto (-20), 3) := by decide +kernel
theorem d_XheldBy_27 : decode b_XheldBy 27 = .ok (.iload_n 2, 1) := by decide +kernel
theorem d_XheldBy_28 : decode b_XheldBy 28 = .ok (.ireturn, 1) := by decide +kernel
theorem d_XusedIn_0 : decode b_XusedIn 0 = .ok (.iconst 0, 1) := by decide +kernel
theorem d_XusedIn_1 : decode b_XusedIn 1 = .ok (.istore_n 2, 1) := by decide +kernel
theorem d_XusedIn_2 : decode b_XusedIn 2 = .ok (.iconst 0, 1) := by decide +kernel
theorem d_XusedIn_3 : decode b_XusedIn 3 = .ok (.istore_n 3, 1) := by decide +kernel
theorem d_XusedIn_4 : decode b_XusedIn 4 = .ok (.iload_n 3, 1) := by decide +kernel
theorem d_XusedIn_5 : decode b_XusedIn 5 = .ok (.iconst 4, 1) := by decide +kernel
theorem d_XusedIn_6 : decode b_XusedIn 6 = .ok (.if_icmp .ge 25, 3) := by decide +kernel
theorem d_XusedIn_9 : decode b_XusedIn 9 = .ok (.aload_n 0, 1) := by decide +kernel
theorem d_XusedIn_10 : decode b_XusedIn 10 = .ok (.getfield 13, 3) := by decide +kernel
theorem d_XusedIn_13 : decode b_XusedIn 13 = .ok (.iload_n 1, 1) := by decide +kernel
theorem d_XusedIn_14 : decode b_XusedIn 14 = .ok (.iconst 4, 1) := by decide +kernel
theorem d_XusedIn_15 : decode b_XusedIn 15 = .ok (.imul, 1) := by decide +kernel
theorem d_XusedIn_16 : decode b_XusedIn 16 = .ok (.iload_n 3, 1) := by decide +kernel
theorem d_XusedIn_17 : decode b_XusedIn 17 = .ok (.iadd, 1) := by decide +kernel
theorem d_XusedIn_18 : decode b_XusedIn 18 = .ok (.iaload, 1) := by decide +kernel
theorem d_XusedIn_19 : decode b_XusedIn 19 = .ok (.ifCond .le 6, 3) := by decide +kernel
theorem d_XusedIn_22 : decode b_XusedIn 22 = .ok (.iinc 2 1, 3) := by decide +kernel
theorem d_XusedIn_25 : decode b_XusedIn 25 = .ok (.iinc 3 1, 3) := by decide +kernel
theorem d_XusedIn_28 : decode b_XusedIn 28 = .ok (.goto (-24), 3) := by decide +kernel
theorem d_XusedIn_31 : decode b_XusedIn 31 = .ok (.iload_n 2, 1) := by decide +kernel
theorem d_XusedIn_32 : decode b_XusedIn 32 = .ok (.ireturn, 1) := by decide +kernel
theorem d_XemptyGroup_0 : decode b_XemptyGroup 0 = .ok (.iconst 0, 1) := by decide +kernel
theorem d_XemptyGroup_1 : decode b_XemptyGroup 1 = .ok (.istore_n 1, 1) := by decide +kernel
theorem d_XemptyGroup_2 : decode b_XemptyGroup 2 = .ok (.iload_n 1, 1) := by decide +kernel
theorem d_XemptyGroup_3 : decode b_XemptyGroup 3 = .ok (.iconst 4, 1) := by decide +kernel
theorem d_XemptyGroup_4 : decode b_XemptyGroup 4 = .ok (.if_icmp .ge 30, 3) := by decide +kernel
theorem d_XemptyGroup_7 : decode b_XemptyGroup 7 = .ok (.aload_n 0, 1) := by decide +kernel
theorem d_XemptyGroup_8 : decode b_XemptyGroup 8 = .ok (.iload_n 1, 1) := by decide +kernel
theorem d_XemptyGroup_9 : decode b_XemptyGroup 9 = .ok (.invokevirtual 49, 3) := by decide +kernel
theorem d_XemptyGroup_12 : decode b_XemptyGroup 12 = .ok (.istore_n 2, 1) := by decide +kernel
theorem d_XemptyGroup_13 : decode b_XemptyGroup 13 = .ok (.iload_n 2, 1) := by decide +kernel
theorem d_XemptyGroup_14 : decode b_XemptyGroup 14 = .ok (.ifCond .ne 14, 3) := by decide +kernel
theorem d_XemptyGroup_17 : decode b_XemptyGroup 17 = .ok (.aload_n 0, 1) := by decide +kernel
theorem d_XemptyGroup_18 : decode b_XemptyGroup 18 = .ok (.getfield 26, 3) := by decide +kernel
theorem d_XemptyGroup_21 : decode b_XemptyGroup 21 = .ok (.iload_n 1, 1) := by decide +kernel
theorem d_XemptyGroup_22 : decode b_XemptyGroup 22 = .ok (.iaload, 1) := by decide +kernel
theorem d_XemptyGroup_23 : decode b_XemptyGroup 23 = .ok (.ifCond .ge 5, 3) := by decide +kernel
theorem d_XemptyGroup_26 : decode b_XemptyGroup 26 = .ok (.iload_n 1, 1) := by decide +kernel
theorem d_XemptyGroup_27 : decode b_XemptyGroup 27 = .ok (.ireturn, 1) := by decide +kernel
theorem d_XemptyGroup_28 : decode b_XemptyGroup 28 = .ok (.iinc 1 1, 3) := by decide +kernel
theorem d_XemptyGroup_31 : decode b_XemptyGroup 31 = .ok (.goto (-29), 3) := by decide +kernel
theorem d_XemptyGroup_34 : decode b_XemptyGroup 34 = .ok (.iconst (-1), 1) := by decide +kernel
theorem d_XemptyGroup_35 : decode b_XemptyGroup 35 = .ok (.ireturn, 1) := by decide +kernel
theorem d_XlooseFrame_0 : decode b_XlooseFrame 0 = .ok (.iconst 0, 1) := by decide +kernel
theorem d_XlooseFrame_1 : decode b_XlooseFrame 1 = .ok (.istore_n 1, 1) := by decide +kernel
theorem d_XlooseFrame_2 : decode b_XlooseFrame 2 = .ok (.iload_n 1, 1) := by decide +kernel
theorem d_XlooseFrame_3 : decode b_XlooseFrame 3 = .ok (.bipush 16, 2) := by decide +kernel
theorem d_XlooseFrame_5 : decode b_XlooseFrame 5 = .ok (.if_icmp .ge 31, 3) := by decide +kernel
theorem d_XlooseFrame_8 : decode b_XlooseFrame 8 = .ok (.aload_n 0, 1) := by decide +kernel
theorem d_XlooseFrame_9 : decode b_XlooseFrame 9 = .ok (.getfield 13, 3) := by decide +kernel
theorem d_XlooseFrame_12 : decode b_XlooseFrame 12 = .ok (.iload_n 1, 1) := by decide +kernel
theorem d_XlooseFrame_13 : decode b_XlooseFrame 13 = .ok (.iaload, 1) := by decide +kernel
theorem d_XlooseFrame_14 : decode b_XlooseFrame 14 = .ok (.ifCond .ne 16, 3) := by decide +kernel
theorem d_XlooseFrame_17 : decode b_XlooseFrame 17 = .ok (.aload_n 0, 1) := by decide +kernel
theorem d_XlooseFrame_18 : decode b_XlooseFrame 18 = .ok (.getfield 26, 3) := by decide +kernel
theorem d_XlooseFrame_21 : decode b_XlooseFrame 21 = .ok (.iload_n 1, 1) := by decide +kernel
theorem d_XlooseFrame_22 : decode b_XlooseFrame 22 = .ok (.iconst 2, 1) := by decide +kernel
theorem d_XlooseFrame_23 : decode b_XlooseFrame 23 = .ok (.ishr, 1) := by decide +kernel
theorem d_XlooseFrame_24 : decode b_XlooseFrame 24 = .ok (.iaload, 1) := by decide +kernel
theorem d_XlooseFrame_25 : decode b_XlooseFrame 25 = .ok (.ifCond .ge 5, 3) := by decide +kernel
theorem d_XlooseFrame_28 : decode b_XlooseFrame 28 = .ok (.iload_n 1, 1) := by decide +kernel
theorem d_XlooseFrame_29 : decode b_XlooseFrame 29 = .ok (.ireturn, 1) := by decide +kernel
theorem d_XlooseFrame_30 : decode b_XlooseFrame 30 = .ok (.iinc 1 1, 3) := by decide +kernel
theorem d_XlooseFrame_33 : decode b_XlooseFrame 33 = .ok (.goto (-31), 3) := by decide +kernel
theorem d_XlooseFrame_36 : decode b_XlooseFrame 36 = .ok (.iconst (-1), 1) := by decide +kernel
theorem d_XlooseFrame_37 : decode b_XlooseFrame 37 = .ok (.ireturn, 1) := by decide +kernel
theorem d_Xpreempt_0 : decode b_Xpreempt 0 = .ok (.iconst (-1), 1) := by decide +kernel
theorem d_Xpreempt_1 : decode b_Xpreempt 1 = .ok (.istore_n 1, 1) := by decide +kernel
theorem d_Xpreempt_2 : decode b_Xpreempt 2 = .ok (.iconst 0, 1) := by decide +kernel
theorem d_Xpreempt_3 : decode b_Xpreempt 3 = .ok (.istore_n 2, 1) := by decide +kernel
theorem d_Xpreempt_4 : decode b_Xpreempt 4 = .ok (.iload_n 2, 1) := by decide +kernel
theorem d_Xpreempt_5 : decode b_Xpreempt 5 = .ok (.iconst 4, 1) := by decide +kernel
theorem d_Xpreempt_6 : decode b_Xpreempt 6 = .ok (.if_icmp .ge 50, 3) := by decide +kernel
theorem d_Xpreempt_9 : decode b_Xpreempt 9 = .ok (.aload_n 0, 1) := by decide +kernel
theorem d_Xpreempt_10 : decode b_Xpreempt 10 = .ok (.iload_n 2, 1) := by decide +kernel
theorem d_Xpreempt_11 : decode b_Xpreempt 11 = .ok (.invokevirtual 49, 3) := by decide +kernel
theorem d_Xpreempt_14 : decode b_Xpreempt 14 = .ok (.istore_n 3, 1) := by decide +kernel
theorem d_Xpreempt_15 : decode b_Xpreempt 15 = .ok (.aload_n 0, 1) := by decide +kernel
theorem d_Xpreempt_16 : decode b_Xpreempt 16 = .ok (.getfield 26, 3) := by decide +kernel
theorem d_Xpreempt_19 : decode b_Xpreempt 19 = .ok (.iload_n 2, 1) := by decide +kernel
theorem d_Xpreempt_20 : decode b_Xpreempt 20 = .ok (.iaload, 1) := by decide +kernel
theorem d_Xpreempt_21 : decode b_Xpreempt 21 = .ok (.ifCond .lt 29, 3) := by decide +kernel
theorem d_Xpreempt_24 : decode b_Xpreempt 24 = .ok (.iload_n 3, 1) := by decide +kernel
theorem d_Xpreempt_25 : decode b_Xpreempt 25 = .ok (.iconst 4, 1) := by decide +kernel
theorem d_Xpreempt_26 : decode b_Xpreempt 26 = .ok (.if_icmp .ge 24, 3) := by decide +kernel
theorem d_Xpreempt_29 : decode b_Xpreempt 29 = .ok (.iload_n 1, 1) := by decide +kernel
theorem d_Xpreempt_30 : decode b_Xpreempt 30 = .ok (.ifCond .lt 18, 3) := by decide +kernel
theorem d_Xpreempt_33 : decode b_Xpreempt 33 = .ok (.aload_n 0, 1) := by decide +kernel
theorem d_Xpreempt_34 : decode b_Xpreempt 34 = .ok (.getfield 29, 3) := by decide +kernel
theorem d_Xpreempt_37 : decode b_Xpreempt 37 = .ok (.iload_n 2, 1) := by decide +kernel
theorem d_Xpreempt_38 : decode b_Xpreempt 38 = .ok (.iaload, 1) := by decide +kernel
theorem d_Xpreempt_39 : decode b_Xpreempt 39 = .ok (.aload_n 0, 1) := by decide +kernel
theorem d_Xpreempt_40 : decode b_Xpreempt 40 = .ok (.getfield 29, 3) := by decide +kernel
theorem d_Xpreempt_43 : decode b_Xpreempt 43 = .ok (.iload_n 1, 1) := by decide +kernel
theorem d_Xpreempt_44 : decode b_Xpreempt 44 = .ok (.iaload, 1) := by decide +kernel
theorem d_Xpreempt_45 : decode b_Xpreempt 45 = .ok (.if_icmp .ge 5, 3) := by decide +kernel
theorem d_Xpreempt_48 : decode b_Xpreempt 48 = .ok (.iload_n 2, 1) := by decide +kernel
theorem d_Xpreempt_49 : decode b_Xpreempt 49 = .ok (.istore_n 1, 1) := by decide +kernel
theorem d_Xpreempt_50 : decode b_Xpreempt 50 = .ok (.iinc 2 1, 3) := by decide +kernel
theorem d_Xpreempt_53 : decode b_Xpreempt 53 = .ok (.goto (-49), 3) := by decide +kernel
theorem d_Xpreempt_56 : decode b_Xpreempt 56 = .ok (.iload_n 1, 1) := by decide +kernel
theorem d_Xpreempt_57 : decode b_Xpreempt 57 = .ok (.ifCond .lt 10, 3) := by decide +kernel
theorem d_Xpreempt_60 : decode b_Xpreempt 60 = .ok (.aload_n 0, 1) := by decide +kernel
theorem d_Xpreempt_61 : decode b_Xpreempt 61 = .ok (.getfield 26, 3) := by decide +kernel
theorem d_Xpreempt_64 : decode b_Xpreempt 64 = .ok (.iload_n 1, 1) := by decide +kernel
theorem d_Xpreempt_65 : decode b_Xpreempt 65 = .ok (.iconst (-1), 1) := by decide +kernel
theorem d_Xpreempt_66 : decode b_Xpreempt 66 = .ok (.iastore, 1) := by decide +kernel
theorem d_Xpreempt_67 : decode b_Xpreempt 67 = .ok (.return_, 1) := by decide +kernel
theorem d_XtakeFrame_0 : decode b_XtakeFrame 0 = .ok (.iload_n 1, 1) := by decide +kernel
theorem d_XtakeFrame_1 : decode b_XtakeFrame 1 = .ok (.iconst 2, 1) := by decide +kernel
theorem d_XtakeFrame_2 : decode b_XtakeFrame 2 = .ok (.ishr, 1) := by decide +kernel
theorem d_XtakeFrame_3 : decode b_XtakeFrame 3 = .ok (.istore_n 2, 1) := by decide +kernel
theorem d_XtakeFrame_4 : decode b_XtakeFrame 4 = .ok (.aload_n 0, 1) := by decide +kernel
theorem d_XtakeFrame_5 : decode b_XtakeFrame 5 = .ok (.iload_n 2, 1) := by decide +kernel
theorem d_XtakeFrame_6 : decode b_XtakeFrame 6 = .ok (.invokevirtual 53, 3) := by decide +kernel
theorem d_XtakeFrame_9 : decode b_XtakeFrame 9 = .ok (.istore_n 3, 1) := by decide +kernel
theorem d_XtakeFrame_10 : decode b_XtakeFrame 10 = .ok (.iload_n 3, 1) := by decide +kernel
theorem d_XtakeFrame_11 : decode b_XtakeFrame 11 = .ok (.ifCond .ge 19, 3) := by decide +kernel
theorem d_XtakeFrame_14 : decode b_XtakeFrame 14 = .ok (.aload_n 0, 1) := by decide +kernel
theorem d_XtakeFrame_15 : decode b_XtakeFrame 15 = .ok (.invokevirtual 35, 3) := by decide +kernel
theorem d_XtakeFrame_18 : decode b_XtakeFrame 18 = .ok (.istore_n 3, 1) := by decide +kernel
theorem d_XtakeFrame_19 : decode b_XtakeFrame 19 = .ok (.iload_n 3, 1) := by decide +kernel
theorem d_XtakeFrame_20 : decode b_XtakeFrame 20 = .ok (.ifCond .lt 10, 3) := by decide +kernel
theorem d_XtakeFrame_23 : decode b_XtakeFrame 23 = .ok (.aload_n 0, 1) := by decide +kernel
theorem d_XtakeFrame_24 : decode b_XtakeFrame 24 = .ok (.getfield 26, 3) := by decide +kernel
theorem d_XtakeFrame_27 : decode b_XtakeFrame 27 = .ok (.iload_n 3, 1) := by decide +kernel
theorem d_XtakeFrame_28 : decode b_XtakeFrame 28 = .ok (.iload_n 2, 1) := by decide +kernel
theorem d_XtakeFrame_29 : decode b_XtakeFrame 29 = .ok (.iastore, 1) := by decide +kernel
theorem d_XtakeFrame_30 : decode b_XtakeFrame 30 = .ok (.iload_n 3, 1) := by decide +kernel
theorem d_XtakeFrame_31 : decode b_XtakeFrame 31 = .ok (.ifCond .lt 46, 3) := by decide +kernel
theorem d_XtakeFrame_34 : decode b_XtakeFrame 34 = .ok (.aload_n 0, 1) := by decide +kernel
theorem d_XtakeFrame_35 : decode b_XtakeFrame 35 = .ok (.getfield 13, 3) := by decide +kernel
theorem d_XtakeFrame_38 : decode b_XtakeFrame 38 = .ok (.iload_n 3, 1) := by decide +kernel
theorem d_XtakeFrame_39 : decode b_XtakeFrame 39 = .ok (.iconst 4, 1) := by decide +kernel
theorem d_XtakeFrame_40 : decode b_XtakeFrame 40 = .ok (.imul, 1) := by decide +kernel
theorem d_XtakeFrame_41 : decode b_XtakeFrame 41 = .ok (.iload_n 1, 1) := by decide +kernel
theorem d_XtakeFrame_42 : decode b_XtakeFrame 42 = .ok (.iconst 3, 1) := by decide +kernel
theorem d_XtakeFrame_43 : decode b_XtakeFrame 43 = .ok (.iand, 1) := by decide +kernel
theorem d_XtakeFrame_44 : decode b_XtakeFrame 44 = .ok (.iadd, 1) := by decide +kernel
theorem d_XtakeFrame_45 : decode b_XtakeFrame 45 = .ok (.iaload, 1) := by decide +kernel
theorem d_XtakeFrame_46 : decode b_XtakeFrame 46 = .ok (.ifCond .ne 31, 3) := by decide +kernel
theorem d_XtakeFrame_49 : decode b_XtakeFrame 49 = .ok (.aload_n 0, 1) := by decide +kernel
theorem d_XtakeFrame_50 : decode b_XtakeFrame 50 = .ok (.dup, 1) := by decide +kernel
theorem d_XtakeFrame_51 : decode b_XtakeFrame 51 = .ok (.getfield 56, 3) := by decide +kernel
theorem d_XtakeFrame_54 : decode b_XtakeFrame 54 = .ok (.iconst 1, 1) := by decide +kernel
theorem d_XtakeFrame_55 : decode b_XtakeFrame 55 = .ok (.iadd, 1) := by decide +kernel
theorem d_XtakeFrame_56 : decode b_XtakeFrame 56 = .ok (.putfield 56, 3) := by decide +kernel
theorem d_XtakeFrame_59 : decode b_XtakeFrame 59 = .ok (.aload_n 0, 1) := by decide +kernel
theorem d_XtakeFrame_60 : decode b_XtakeFrame 60 = .ok (.getfield 29, 3) := by decide +kernel
theorem d_XtakeFrame_63 : decode b_XtakeFrame 63 = .ok (.iload_n 3, 1) := by decide +kernel
theorem d_XtakeFrame_64 : decode b_XtakeFrame 64 = .ok (.aload_n 0, 1) := by decide +kernel
theorem d_XtakeFrame_65 : decode b_XtakeFrame 65 = .ok (.getfield 56, 3) := by decide +kernel
theorem d_XtakeFrame_68 : decode b_XtakeFrame 68 = .ok (.iastore, 1) := by decide +kernel
theorem d_XtakeFrame_69 : decode b_XtakeFrame 69 = .ok (.iload_n 3, 1) := by decide +kernel
theorem d_XtakeFrame_70 : decode b_XtakeFrame 70 = .ok (.iconst 4, 1) := by decide +kernel
theorem d_XtakeFrame_71 : decode b_XtakeFrame 71 = .ok (.imul, 1) := by decide +kernel
theorem d_XtakeFrame_72 : decode b_XtakeFrame 72 = .ok (.iload_n 1, 1) := by decide +kernel
theorem d_XtakeFrame_73 : decode b_XtakeFrame 73 = .ok (.iconst 3, 1) := by decide +kernel
theorem d_XtakeFrame_74 : decode b_XtakeFrame 74 = .ok (.iand, 1) := by decide +kernel
theorem d_XtakeFrame_75 : decode b_XtakeFrame 75 = .ok (.iadd, 1) := by decide +kernel
theorem d_XtakeFrame_76 : decode b_XtakeFrame 76 = .ok (.ireturn, 1) := by decide +kernel
theorem d_XtakeFrame_77 : decode b_XtakeFrame 77 = .ok (.aload_n 0, 1) := by decide +kernel
theorem d_XtakeFrame_78 : decode b_XtakeFrame 78 = .ok (.invokevirtual 60, 3) := by decide +kernel
theorem d_XtakeFrame_81 : decode b_XtakeFrame 81 = .ok (.istore 4, 2) := by decide +kernel
theorem d_XtakeFrame_83 : decode b_XtakeFrame 83 = .ok (.iload 4, 2) := by decide +kernel
theorem d_XtakeFrame_85 : decode b_XtakeFrame 85 = .ok (.ifCond .ge 13, 3) := by decide +kernel
theorem d_XtakeFrame_88 : decode b_XtakeFrame 88 = .ok (.aload_n 0, 1) := by decide +kernel
theorem d_XtakeFrame_89 : decode b_XtakeFrame 89 = .ok (.invokevirtual 63, 3) := by decide +kernel
theorem d_XtakeFrame_92 : decode b_XtakeFrame 92 = .ok (.aload_n 0, 1) := by decide +kernel
theorem d_XtakeFrame_93 : decode b_XtakeFrame 93 = .ok (.invokevirtual 60, 3) := by decide +kernel
theorem d_XtakeFrame_96 : decode b_XtakeFrame 96 = .ok (.istore 4, 2) := by decide +kernel
theorem d_XtakeFrame_98 : decode b_XtakeFrame 98 = .ok (.iload 4, 2) := by decide +kernel
theorem d_XtakeFrame_100 : decode b_XtakeFrame 100 = .ok (.ireturn, 1) := by decide +kernel
theorem d_Xrelease_0 : decode b_Xrelease 0 = .ok (.aload_n 0, 1) := by decide +kernel
theorem d_Xrelease_1 : decode b_Xrelease 1 = .ok (.iload_n 1, 1) := by decide +kernel
theorem d_Xrelease_2 : decode b_Xrelease 2 = .ok (.invokevirtual 53, 3) := by decide +kernel
theorem d_Xrelease_5 : decode b_Xrelease 5 = .ok (.istore_n 2, 1) := by decide +kernel
theorem d_Xrelease_6 : decode b_Xrelease 6 = .ok (.iload_n 2, 1) := by decide +kernel
theorem d_Xrelease_7 : decode b_Xrelease 7 = .ok (.ifCond .lt 12, 3) := by decide +kernel
theorem d_Xrelease_10 : decode b_Xrelease 10 = .ok (.aload_n 0, 1) := by decide +kernel
theorem d_Xrelease_11 : decode b_Xrelease 11 = .ok (.getfield 23, 3) := by decide +kernel
theorem d_Xrelease_14 : decode b_Xrelease 14 = .ok (.iload_n 1, 1) := by decide +kernel
theorem d_Xrelease_15 : decode b_Xrelease 15 = .ok (.iaload, 1) := by decide +kernel
theorem d_Xrelease_16 : decode b_Xrelease 16 = .ok (.ifCond .lt 4, 3) := by decide +kernel
theorem d_Xrelease_19 : decode b_Xrelease 19 = .ok (.return_, 1) := by decide +kernel
theorem d_Xrelease_20 : decode b_Xrelease 20 = .ok (.iconst 0, 1) := by decide +kernel
theorem d_Xrelease_21 : decode b_Xrelease 21 = .ok (.istore_n 3, 1) := by decide +kernel
theorem d_Xrelease_22 : decode b_Xrelease 22 = .ok (.iconst 0, 1) := by decide +kernel
theorem d_Xrelease_23 : decode b_Xrelease 23 = .ok (.istore 4, 2) := by decide +kernel
theorem d_Xrelease_25 : decode b_Xrelease 25 = .ok (.iload 4, 2) := by decide +kernel
theorem d_Xrelease_27 : decode b_Xrelease 27 = .ok (.iconst 4, 1) := by decide +kernel
theorem d_Xrelease_28 : decode b_Xrelease 28 = .ok (.if_icmp .ge 45, 3) := by decide +kernel
theorem d_Xrelease_31 : decode b_Xrelease 31 = .ok (.aload_n 0, 1) := by decide +kernel
theorem d_Xrelease_32 : decode b_Xrelease 32 = .ok (.getfield 16, 3) := by decide +kernel
theorem d_Xrelease_35 : decode b_Xrelease 35 = .ok (.iload_n 1, 1) := by decide +kernel
theorem d_Xrelease_36 : decode b_Xrelease 36 = .ok (.iconst 4, 1) := by decide +kernel
theorem d_Xrelease_37 : decode b_Xrelease 37 = .ok (.imul, 1) := by decide +kernel
theorem d_Xrelease_38 : decode b_Xrelease 38 = .ok (.iload 4, 2) := by decide +kernel
theorem d_Xrelease_40 : decode b_Xrelease 40 = .ok (.iadd, 1) := by decide +kernel
theorem d_Xrelease_41 : decode b_Xrelease 41 = .ok (.iaload, 1) := by decide +kernel
theorem d_Xrelease_42 : decode b_Xrelease 42 = .ok (.istore 5, 2) := by decide +kernel
theorem d_Xrelease_44 : decode b_Xrelease 44 = .ok (.iload_n 3, 1) := by decide +kernel
theorem d_Xrelease_45 : decode b_Xrelease 45 = .ok (.ifCond .ne 16, 3) := by decide +kernel
theorem d_Xrelease_48 : decode b_Xrelease 48 = .ok (.iload 5, 2) := by decide +kernel
theorem d_Xrelease_50 : decode b_Xrelease 50 = .ok (.ifCond .lt 15, 3) := by decide +kernel
theorem d_Xrelease_53 : decode b_Xrelease 53 = .ok (.iload 5, 2) := by decide +kernel
theorem d_Xrelease_55 : decode b_Xrelease 55 = .ok (.iconst 2, 1) := by decide +kernel
theorem d_Xrelease_56 : decode b_Xrelease 56 = .ok (.ishr, 1) := by decide +kernel
theorem d_Xrelease_57 : decode b_Xrelease 57 = .ok (.iload_n 2, 1) := by decide +kernel
theorem d_Xrelease_58 : decode b_Xrelease 58 = .ok (.if_icmp .ne 7, 3) := by decide +kernel
theorem d_Xrelease_61 : decode b_Xrelease 61 = .ok (.iconst 1, 1) := by decide +kernel
theorem d_Xrelease_62 : decode b_Xrelease 62 = .ok (.goto 4, 3) := by decide +kernel
theorem d_Xrelease_65 : decode b_Xrelease 65 = .ok (.iconst 0, 1) := by decide +kernel
theorem d_Xrelease_66 : decode b_Xrelease 66 = .ok (.istore_n 3, 1) := by decide +kernel
theorem d_Xrelease_67 : decode b_Xrelease 67 = .ok (.iinc 4 1, 3) := by decide +kernel
theorem d_Xrelease_70 : decode b_Xrelease 70 = .ok (.goto (-45), 3) := by decide +kernel
theorem d_Xrelease_73 : decode b_Xrelease 73 = .ok (.iload_n 3, 1) := by decide +kernel
theorem d_Xrelease_74 : decode b_Xrelease 74 = .ok (.ifCond .ne 10, 3) := by decide +kernel
theorem d_Xrelease_77 : decode b_Xrelease 77 = .ok (.aload_n 0, 1) := by decide +kernel
theorem d_Xrelease_78 : decode b_Xrelease 78 = .ok (.getfield 26, 3) := by decide +kernel
theorem d_Xrelease_81 : decode b_Xrelease 81 = .ok (.iload_n 2, 1) := by decide +kernel
theorem d_Xrelease_82 : decode b_Xrelease 82 = .ok (.iconst (-1), 1) := by decide +kernel
theorem d_Xrelease_83 : decode b_Xrelease 83 = .ok (.iastore, 1) := by decide +kernel
theorem d_Xrelease_84 : decode b_Xrelease 84 = .ok (.return_, 1) := by decide +kernel
theorem d_Xremove_0 : decode b_Xremove 0 = .ok (.iload_n 1, 1) := by decide +kernel
theorem d_Xremove_1 : decode b_Xremove 1 = .ok (.iconst 2, 1) := by decide +kernel
theorem d_Xremove_2 : decode b_Xremove 2 = .ok (.ishr, 1) := by decide +kernel
theorem d_Xremove_3 : decode b_Xremove 3 = .ok (.istore_n 2, 1) := by decide +kernel
theorem d_Xremove_4 : decode b_Xremove 4 = .ok (.aload_n 0, 1) := by decide +kernel
theorem d_Xremove_5 : decode b_Xremove 5 = .ok (.iload_n 2, 1) := by decide +kernel
theorem d_Xremove_6 : decode b_Xremove 6 = .ok (.invokevirtual 66, 3) := by decide +kernel
theorem d_Xremove_9 : decode b_Xremove 9 = .ok (.aload_n 0, 1) := by decide +kernel
theorem d_Xremove_10 : decode b_Xremove 10 = .ok (.getfield 16, 3) := by decide +kernel
theorem d_Xremove_13 : decode b_Xremove 13 = .ok (.iload_n 1, 1) := by decide +kernel
theorem d_Xremove_14 : decode b_Xremove 14 = .ok (.iaload, 1) := by decide +kernel
theorem d_Xremove_15 : decode b_Xremove 15 = .ok (.istore_n 3, 1) := by decide +kernel
theorem d_Xremove_16 : decode b_Xremove 16 = .ok (.aload_n 0, 1) := by decide +kernel
theorem d_Xremove_17 : decode b_Xremove 17 = .ok (.getfield 13, 3) := by decide +kernel
theorem d_Xremove_20 : decode b_Xremove 20 = .ok (.iload_n 3, 1) := by decide +kernel
theorem d_Xremove_21 : decode b_Xremove 21 = .ok (.aload_n 0, 1) := by decide +kernel
theorem d_Xremove_22 : decode b_Xremove 22 = .ok (.getfield 13, 3) := by decide +kernel
theorem d_Xremove_25 : decode b_Xremove 25 = .ok (.iload_n 3, 1) := by decide +kernel
theorem d_Xremove_26 : decode b_Xremove 26 = .ok (.iaload, 1) := by decide +kernel
theorem d_Xremove_27 : decode b_Xremove 27 = .ok (.iconst 1, 1) := by decide +kernel
theorem d_Xremove_28 : decode b_Xremove 28 = .ok (.isub, 1) := by decide +kernel
theorem d_Xremove_29 : decode b_Xremove 29 = .ok (.iastore, 1) := by decide +kernel
theorem d_Xremove_30 : decode b_Xremove 30 = .ok (.aload_n 0, 1) := by decide +kernel
theorem d_Xremove_31 : decode b_Xremove 31 = .ok (.getfield 16, 3) := by decide +kernel
theorem d_Xremove_34 : decode b_Xremove 34 = .ok (.iload_n 1, 1) := by decide +kernel
theorem d_Xremove_35 : decode b_Xremove 35 = .ok (.iconst (-1), 1) := by decide +kernel
theorem d_Xremove_36 : decode b_Xremove 36 = .ok (.iastore, 1) := by decide +kernel
theorem d_Xremove_37 : decode b_Xremove 37 = .ok (.aload_n 0, 1) := by decide +kernel
theorem d_Xremove_38 : decode b_Xremove 38 = .ok (.iload_n 2, 1) := by decide +kernel
theorem d_Xremove_39 : decode b_Xremove 39 = .ok (.invokevirtual 70, 3) := by decide +kernel
theorem d_Xremove_42 : decode b_Xremove 42 = .ok (.return_, 1) := by decide +kernel
theorem d_Xtouch_0 : decode b_Xtouch 0 = .ok (.aload_n 0, 1) := by decide +kernel
theorem d_Xtouch_1 : decode b_Xtouch 1 = .ok (.iload_n 1, 1) := by decide +kernel
theorem d_Xtouch_2 : decode b_Xtouch 2 = .ok (.iload_n 2, 1) := by decide +kernel
theorem d_Xtouch_3 : decode b_Xtouch 3 = .ok (.invokevirtual 73, 3) := by decide +kernel
theorem d_Xtouch_6 : decode b_Xtouch 6 = .ok (.ifCond .eq 5, 3) := by decide +kernel
theorem d_Xtouch_9 : decode b_Xtouch 9 = .ok (.iconst (-1), 1) := by decide +kernel
theorem d_Xtouch_10 : decode b_Xtouch 10 = .ok (.ireturn, 1) := by decide +kernel
theorem d_Xtouch_11 : decode b_Xtouch 11 = .ok (.aload_n 0, 1) := by decide +kernel
theorem d_Xtouch_12 : decode b_Xtouch 12 = .ok (.iload_n 1, 1) := by decide +kernel
theorem d_Xtouch_13 : decode b_Xtouch 13 = .ok (.bipush 16, 2) := by decide +kernel
theorem d_Xtouch_15 : decode b_Xtouch 15 = .ok (.imul, 1) := by decide +kernel
theorem d_Xtouch_16 : decode b_Xtouch 16 = .ok (.iload_n 2, 1) := by decide +kernel
theorem d_Xtouch_17 : decode b_Xtouch 17 = .ok (.iadd, 1) := by decide +kernel
theorem d_Xtouch_18 : decode b_Xtouch 18 = .ok (.invokevirtual 77, 3) := by decide +kernel
theorem d_Xtouch_21 : decode b_Xtouch 21 = .ok (.ireturn, 1) := by decide +kernel
theorem d_XbringIn_0 : decode b_XbringIn 0 = .ok (.aload_n 0, 1) := by decide +kernel
theorem d_XbringIn_1 : decode b_XbringIn 1 = .ok (.iload_n 1, 1) := by decide +kernel
theorem d_XbringIn_2 : decode b_XbringIn 2 = .ok (.invokevirtual 80, 3) := by decide +kernel
theorem d_XbringIn_5 : decode b_XbringIn 5 = .ok (.istore_n 2, 1) := by decide +kernel
theorem d_XbringIn_6 : decode b_XbringIn 6 = .ok (.iload_n 2, 1) := by decide +kernel
theorem d_XbringIn_7 : decode b_XbringIn 7 = .ok (.ifCond .lt 5, 3) := by decide +kernel
theorem d_XbringIn_10 : decode b_XbringIn 10 = .ok (.iconst 0, 1) := by decide +kernel
theorem d_XbringIn_11 : decode b_XbringIn 11 = .ok (.ireturn, 1) := by decide +kernel
theorem d_XbringIn_12 : decode b_XbringIn 12 = .ok (.aload_n 0, 1) := by decide +kernel
theorem d_XbringIn_13 : decode b_XbringIn 13 = .ok (.invokevirtual 83, 3) := by decide +kernel
theorem d_XbringIn_16 : decode b_XbringIn 16 = .ok (.istore_n 3, 1) := by decide +kernel
theorem d_XbringIn_17 : decode b_XbringIn 17 = .ok (.iload_n 3, 1) := by decide +kernel
theorem d_XbringIn_18 : decode b_XbringIn 18 = .ok (.bipush 16, 2) := by decide +kernel
theorem d_XbringIn_20 : decode b_XbringIn 20 = .ok (.if_icmp .ne 6, 3) := by decide +kernel
theorem d_XbringIn_23 : decode b_XbringIn 23 = .ok (.bipush (-2), 2) := by decide +kernel
theorem d_XbringIn_25 : decode b_XbringIn 25 = .ok (.ireturn, 1) := by decide +kernel
theorem d_XbringIn_26 : decode b_XbringIn 26 = .ok (.aload_n 0, 1) := by decide +kernel
theorem d_XbringIn_27 : decode b_XbringIn 27 = .ok (.iload_n 1, 1) := by decide +kernel
theorem d_XbringIn_28 : decode b_XbringIn 28 = .ok (.invokevirtual 86, 3) := by decide +kernel
theorem d_XbringIn_31 : decode b_XbringIn 31 = .ok (.istore_n 2, 1) := by decide +kernel
theorem d_XbringIn_32 : decode b_XbringIn 32 = .ok (.iload_n 2, 1) := by decide +kernel
theorem d_XbringIn_33 : decode b_XbringIn 33 = .ok (.ifCond .ge 6, 3) := by decide +kernel
theorem d_XbringIn_36 : decode b_XbringIn 36 = .ok (.bipush (-2), 2) := by decide +kernel
theorem d_XbringIn_38 : decode b_XbringIn 38 = .ok (.ireturn, 1) := by decide +kernel
theorem d_XbringIn_39 : decode b_XbringIn 39 = .ok (.iconst 0, 1) := by decide +kernel
theorem d_XbringIn_40 : decode b_XbringIn 40 = .ok (.istore 4, 2) := by decide +kernel
theorem d_XbringIn_42 : decode b_XbringIn 42 = .ok (.iload 4, 2) := by decide +kernel
theorem d_XbringIn_44 : decode b_XbringIn 44 = .ok (.iconst 4, 1) := by decide +kernel
theorem d_XbringIn_45 : decode b_XbringIn 45 = .ok (.if_icmp .ge 21, 3) := by decide +kernel
theorem d_XbringIn_48 : decode b_XbringIn 48 = .ok (.aload_n 0, 1) := by decide +kernel
theorem d_XbringIn_49 : decode b_XbringIn 49 = .ok (.getfield 7, 3) := by decide +kernel
theorem d_XbringIn_52 : decode b_XbringIn 52 = .ok (.iload_n 2, 1) := by decide +kernel
theorem d_XbringIn_53 : decode b_XbringIn 53 = .ok (.iconst 4, 1) := by decide +kernel
theorem d_XbringIn_54 : decode b_XbringIn 54 = .ok (.imul, 1) := by decide +kernel
theorem d_XbringIn_55 : decode b_XbringIn 55 = .ok (.iload 4, 2) := by decide +kernel
theorem d_XbringIn_57 : decode b_XbringIn 57 = .ok (.iadd, 1) := by decide +kernel
theorem d_XbringIn_58 : decode b_XbringIn 58 = .ok (.iconst 0, 1) := by decide +kernel
theorem d_XbringIn_59 : decode b_XbringIn 59 = .ok (.iastore, 1) := by decide +kernel
theorem d_XbringIn_60 : decode b_XbringIn 60 = .ok (.iinc 4 1, 3) := by decide +kernel
theorem d_XbringIn_63 : decode b_XbringIn 63 = .ok (.goto (-21), 3) := by decide +kernel
theorem d_XbringIn_66 : decode b_XbringIn 66 = .ok (.aload_n 0, 1) := by decide +kernel
theorem d_XbringIn_67 : decode b_XbringIn 67 = .ok (.getfield 13, 3) := by decide +kernel
theorem d_XbringIn_70 : decode b_XbringIn 70 = .ok (.iload_n 2, 1) := by decide +kernel
theorem d_XbringIn_71 : decode b_XbringIn 71 = .ok (.iconst 1, 1) := by decide +kernel
theorem d_XbringIn_72 : decode b_XbringIn 72 = .ok (.iastore, 1) := by decide +kernel
theorem d_XbringIn_73 : decode b_XbringIn 73 = .ok (.aload_n 0, 1) := by decide +kernel
theorem d_XbringIn_74 : decode b_XbringIn 74 = .ok (.getfield 16, 3) := by decide +kernel
theorem d_XbringIn_77 : decode b_XbringIn 77 = .ok (.iload_n 1, 1) := by decide +kernel
theorem d_XbringIn_78 : decode b_XbringIn 78 = .ok (.iload_n 2, 1) := by decide +kernel
theorem d_XbringIn_79 : decode b_XbringIn 79 = .ok (.iastore, 1) := by decide +kernel
theorem d_XbringIn_80 : decode b_XbringIn 80 = .ok (.aload_n 0, 1) := by decide +kernel
theorem d_XbringIn_81 : decode b_XbringIn 81 = .ok (.getfield 19, 3) := by decide +kernel
theorem d_XbringIn_84 : decode b_XbringIn 84 = .ok (.iload_n 1, 1) := by decide +kernel
theorem d_XbringIn_85 : decode b_XbringIn 85 = .ok (.iconst 0, 1) := by decide +kernel
theorem d_XbringIn_86 : decode b_XbringIn 86 = .ok (.bastore, 1) := by decide +kernel
theorem d_XbringIn_87 : decode b_XbringIn 87 = .ok (.aload_n 0, 1) := by decide +kernel
theorem d_XbringIn_88 : decode b_XbringIn 88 = .ok (.iload_n 1, 1) := by decide +kernel
theorem d_XbringIn_89 : decode b_XbringIn 89 = .ok (.iconst 2, 1) := by decide +kernel
theorem d_XbringIn_90 : decode b_XbringIn 90 = .ok (.ishr, 1) := by decide +kernel
theorem d_XbringIn_91 : decode b_XbringIn 91 = .ok (.invokevirtual 89, 3) := by decide +kernel
theorem d_XbringIn_94 : decode b_XbringIn 94 = .ok (.iconst 1, 1) := by decide +kernel
theorem d_XbringIn_95 : decode b_XbringIn 95 = .ok (.ireturn, 1) := by decide +kernel
theorem d_Xopen_0 : decode b_Xopen 0 = .ok (.aload_n 0, 1) := by decide +kernel
theorem d_Xopen_1 : decode b_Xopen 1 = .ok (.iload_n 1, 1) := by decide +kernel
theorem d_Xopen_2 : decode b_Xopen 2 = .ok (.invokevirtual 80, 3) := by decide +kernel
theorem d_Xopen_5 : decode b_Xopen 5 = .ok (.istore_n 2, 1) := by decide +kernel
theorem d_Xopen_6 : decode b_Xopen 6 = .ok (.iload_n 2, 1) := by decide +kernel
theorem d_Xopen_7 : decode b_Xopen 7 = .ok (.ifCond .ge 19, 3) := by decide +kernel
theorem d_Xopen_10 : decode b_Xopen 10 = .ok (.aload_n 0, 1) := by decide +kernel
theorem d_Xopen_11 : decode b_Xopen 11 = .ok (.iload_n 1, 1) := by decide +kernel
theorem d_Xopen_12 : decode b_Xopen 12 = .ok (.invokevirtual 77, 3) := by decide +kernel
theorem d_Xopen_15 : decode b_Xopen 15 = .ok (.istore_n 3, 1) := by decide +kernel
theorem d_Xopen_16 : decode b_Xopen 16 = .ok (.iload_n 3, 1) := by decide +kernel
theorem d_Xopen_17 : decode b_Xopen 17 = .ok (.ifCond .ge 7, 3) := by decide +kernel
theorem d_Xopen_20 : decode b_Xopen 20 = .ok (.iload_n 3, 1) := by decide +kernel
theorem d_Xopen_21 : decode b_Xopen 21 = .ok (.goto 4, 3) := by decide +kernel
theorem d_Xopen_24 : decode b_Xopen 24 = .ok (.iconst 0, 1) := by decide +kernel
theorem d_Xopen_25 : decode b_Xopen 25 = .ok (.ireturn, 1) := by decide +kernel
theorem d_Xopen_26 : decode b_Xopen 26 = .ok (.aload_n 0, 1) := by decide +kernel
theorem d_Xopen_27 : decode b_Xopen 27 = .ok (.getfield 19, 3) := by decide +kernel
theorem d_Xopen_30 : decode b_Xopen 30 = .ok (.iload_n 1, 1) := by decide +kernel
theorem d_Xopen_31 : decode b_Xopen 31 = .ok (.baload, 1) := by decide +kernel
theorem d_Xopen_32 : decode b_Xopen 32 = .ok (.ifCond .eq 6, 3) := by decide +kernel
theorem d_Xopen_35 : decode b_Xopen 35 = .ok (.bipush (-4), 2) := by decide +kernel
theorem d_Xopen_37 : decode b_Xopen 37 = .ok (.ireturn, 1) := by decide +kernel
theorem d_Xopen_38 : decode b_Xopen 38 = .ok (.aload_n 0, 1) := by decide +kernel
theorem d_Xopen_39 : decode b_Xopen 39 = .ok (.getfield 13, 3) := by decide +kernel
theorem d_Xopen_42 : decode b_Xopen 42 = .ok (.iload_n 2, 1) := by decide +kernel
theorem d_Xopen_43 : decode b_Xopen 43 = .ok (.iaload, 1) := by decide +kernel
theorem d_Xopen_44 : decode b_Xopen 44 = .ok (.iconst 1, 1) := by decide +kernel
theorem d_Xopen_45 : decode b_Xopen 45 = .ok (.if_icmp .ne 5, 3) := by decide +kernel
theorem d_Xopen_48 : decode b_Xopen 48 = .ok (.iconst 0, 1) := by decide +kernel
theorem d_Xopen_49 : decode b_Xopen 49 = .ok (.ireturn, 1) := by decide +kernel
theorem d_Xopen_50 : decode b_Xopen 50 = .ok (.aload_n 0, 1) := by decide +kernel
theorem d_Xopen_51 : decode b_Xopen 51 = .ok (.invokevirtual 83, 3) := by decide +kernel
theorem d_Xopen_54 : decode b_Xopen 54 = .ok (.istore_n 3, 1) := by decide +kernel
theorem d_Xopen_55 : decode b_Xopen 55 = .ok (.iload_n 3, 1) := by decide +kernel
theorem d_Xopen_56 : decode b_Xopen 56 = .ok (.bipush 16, 2) := by decide +kernel
theorem d_Xopen_58 : decode b_Xopen 58 = .ok (.if_icmp .ne 6, 3) := by decide +kernel
theorem d_Xopen_61 : decode b_Xopen 61 = .ok (.bipush (-2), 2) := by decide +kernel
theorem d_Xopen_63 : decode b_Xopen 63 = .ok (.ireturn, 1) := by decide +kernel
theorem d_Xopen_64 : decode b_Xopen 64 = .ok (.aload_n 0, 1) := by decide +kernel
theorem d_Xopen_65 : decode b_Xopen 65 = .ok (.iload_n 1, 1) := by decide +kernel
theorem d_Xopen_66 : decode b_Xopen 66 = .ok (.invokevirtual 86, 3) := by decide +kernel
theorem d_Xopen_69 : decode b_Xopen 69 = .ok (.istore 4, 2) := by decide +kernel
theorem d_Xopen_71 : decode b_Xopen 71 = .ok (.iload 4, 2) := by decide +kernel
theorem d_Xopen_73 : decode b_Xopen 73 = .ok (.ifCond .ge 6, 3) := by decide +kernel
theorem d_Xopen_76 : decode b_Xopen 76 = .ok (.bipush (-2), 2) := by decide +kernel
theorem d_Xopen_78 : decode b_Xopen 78 = .ok (.ireturn, 1) := by decide +kernel
theorem d_Xopen_79 : decode b_Xopen 79 = .ok (.aload_n 0, 1) := by decide +kernel
theorem d_Xopen_80 : decode b_Xopen 80 = .ok (.iload_n 2, 1) := by decide +kernel
theorem d_Xopen_81 : decode b_Xopen 81 = .ok (.iload 4, 2) := by decide +kernel
theorem d_Xopen_83 : decode b_Xopen 83 = .ok (.invokevirtual 46, 3) := by decide +kernel
theorem d_Xopen_86 : decode b_Xopen 86 = .ok (.aload_n 0, 1) := by decide +kernel
theorem d_Xopen_87 : decode b_Xopen 87 = .ok (.getfield 13, 3) := by decide +kernel
theorem d_Xopen_90 : decode b_Xopen 90 = .ok (.iload_n 2, 1) := by decide +kernel
theorem d_Xopen_91 : decode b_Xopen 91 = .ok (.iconst 1, 1) := by decide +kernel
theorem d_Xopen_92 : decode b_Xopen 92 = .ok (.iastore, 1) := by decide +kernel
theorem d_Xopen_93 : decode b_Xopen 93 = .ok (.aload_n 0, 1) := by decide +kernel
theorem d_Xopen_94 : decode b_Xopen 94 = .ok (.getfield 13, 3) := by decide +kernel
theorem d_Xopen_97 : decode b_Xopen 97 = .ok (.iload 4, 2) := by decide +kernel
theorem d_Xopen_99 : decode b_Xopen 99 = .ok (.iconst 1, 1) := by decide +kernel
theorem d_Xopen_100 : decode b_Xopen 100 = .ok (.iastore, 1) := by decide +kernel
theorem d_Xopen_101 : decode b_Xopen 101 = .ok (.aload_n 0, 1) := by decide +kernel
theorem d_Xopen_102 : decode b_Xopen 102 = .ok (.getfield 16, 3) := by decide +kernel
theorem d_Xopen_105 : decode b_Xopen 105 = .ok (.iload_n 1, 1) := by decide +kernel
theorem d_Xopen_106 : decode b_Xopen 106 = .ok (.iload 4, 2) := by decide +kernel
theorem d_Xopen_108 : decode b_Xopen 108 = .ok (.iastore, 1) := by decide +kernel
theorem d_Xopen_109 : decode b_Xopen 109 = .ok (.aload_n 0, 1) := by decide +kernel
theorem d_Xopen_110 : decode b_Xopen 110 = .ok (.iload_n 1, 1) := by decide +kernel
theorem d_Xopen_111 : decode b_Xopen 111 = .ok (.iconst 2, 1) := by decide +kernel
theorem d_Xopen_112 : decode b_Xopen 112 = .ok (.ishr, 1) := by decide +kernel
theorem d_Xopen_113 : decode b_Xopen 113 = .ok (.invokevirtual 70, 3) := by decide +kernel
theorem d_Xopen_116 : decode b_Xopen 116 = .ok (.aload_n 0, 1) := by decide +kernel
theorem d_Xopen_117 : decode b_Xopen 117 = .ok (.iload_n 1, 1) := by decide +kernel
theorem d_Xopen_118 : decode b_Xopen 118 = .ok (.iconst 2, 1) := by decide +kernel
theorem d_Xopen_119 : decode b_Xopen 119 = .ok (.ishr, 1) := by decide +kernel
theorem d_Xopen_120 : decode b_Xopen 120 = .ok (.invokevirtual 89, 3) := by decide +kernel
theorem d_Xopen_123 : decode b_Xopen 123 = .ok (.aload_n 0, 1) := by decide +kernel
theorem d_Xopen_124 : decode b_Xopen 124 = .ok (.iload_n 1, 1) := by decide +kernel
theorem d_Xopen_125 : decode b_Xopen 125 = .ok (.iconst 2, 1) := by decide +kernel
theorem d_Xopen_126 : decode b_Xopen 126 = .ok (.ishr, 1) := by decide +kernel
theorem d_Xopen_127 : decode b_Xopen 127 = .ok (.iconst 4, 1) := by decide +kernel
theorem d_Xopen_128 : decode b_Xopen 128 = .ok (.ixor, 1) := by decide +kernel
theorem d_Xopen_129 : decode b_Xopen 129 = .ok (.invokevirtual 89, 3) := by decide +kernel
theorem d_Xopen_132 : decode b_Xopen 132 = .ok (.iconst 0, 1) := by decide +kernel
theorem d_Xopen_133 : decode b_Xopen 133 = .ok (.ireturn, 1) := by decide +kernel
theorem d_Xwrite_0 : decode b_Xwrite 0 = .ok (.aload_n 0, 1) := by decide +kernel
theorem d_Xwrite_1 : decode b_Xwrite 1 = .ok (.iload_n 1, 1) := by decide +kernel
theorem d_Xwrite_2 : decode b_Xwrite 2 = .ok (.iload_n 2, 1) := by decide +kernel
theorem d_Xwrite_3 : decode b_Xwrite 3 = .ok (.invokevirtual 73, 3) := by decide +kernel
theorem d_Xwrite_6 : decode b_Xwrite 6 = .ok (.ifCond .ne 12, 3) := by decide +kernel
theorem d_Xwrite_9 : decode b_Xwrite 9 = .ok (.iload_n 3, 1) := by decide +kernel
theorem d_Xwrite_10 : decode b_Xwrite 10 = .ok (.ifCond .lt 8, 3) := by decide +kernel
theorem d_Xwrite_13 : decode b_Xwrite 13 = .ok (.iload_n 3, 1) := by decide +kernel
theorem d_Xwrite_14 : decode b_Xwrite 14 = .ok (.iconst 3, 1) := by decide +kernel
theorem d_Xwrite_15 : decode b_Xwrite 15 = .ok (.if_icmp .le 5, 3) := by decide +kernel
theorem d_Xwrite_18 : decode b_Xwrite 18 = .ok (.iconst (-1), 1) := by decide +kernel
theorem d_Xwrite_19 : decode b_Xwrite 19 = .ok (.ireturn, 1) := by decide +kernel
theorem d_Xwrite_20 : decode b_Xwrite 20 = .ok (.aload_n 0, 1) := by decide +kernel
theorem d_Xwrite_21 : decode b_Xwrite 21 = .ok (.iload_n 1, 1) := by decide +kernel
theorem d_Xwrite_22 : decode b_Xwrite 22 = .ok (.bipush 16, 2) := by decide +kernel
theorem d_Xwrite_24 : decode b_Xwrite 24 = .ok (.imul, 1) := by decide +kernel
theorem d_Xwrite_25 : decode b_Xwrite 25 = .ok (.iload_n 2, 1) := by decide +kernel
theorem d_Xwrite_26 : decode b_Xwrite 26 = .ok (.iadd, 1) := by decide +kernel
theorem d_Xwrite_27 : decode b_Xwrite 27 = .ok (.invokevirtual 92, 3) := by decide +kernel
theorem d_Xwrite_30 : decode b_Xwrite 30 = .ok (.istore 5, 2) := by decide +kernel
theorem d_Xwrite_32 : decode b_Xwrite 32 = .ok (.iload 5, 2) := by decide +kernel
theorem d_Xwrite_34 : decode b_Xwrite 34 = .ok (.ifCond .ge 6, 3) := by decide +kernel
theorem d_Xwrite_37 : decode b_Xwrite 37 = .ok (.iload 5, 2) := by decide +kernel
theorem d_Xwrite_39 : decode b_Xwrite 39 = .ok (.ireturn, 1) := by decide +kernel
theorem d_Xwrite_40 : decode b_Xwrite 40 = .ok (.aload_n 0, 1) := by decide +kernel
theorem d_Xwrite_41 : decode b_Xwrite 41 = .ok (.iload_n 1, 1) := by decide +kernel
theorem d_Xwrite_42 : decode b_Xwrite 42 = .ok (.bipush 16, 2) := by decide +kernel
theorem d_Xwrite_44 : decode b_Xwrite 44 = .ok (.imul, 1) := by decide +kernel
theorem d_Xwrite_45 : decode b_Xwrite 45 = .ok (.iload_n 2, 1) := by decide +kernel
theorem d_Xwrite_46 : decode b_Xwrite 46 = .ok (.iadd, 1) := by decide +kernel
theorem d_Xwrite_47 : decode b_Xwrite 47 = .ok (.invokevirtual 80, 3) := by decide +kernel
theorem d_Xwrite_50 : decode b_Xwrite 50 = .ok (.istore 6, 2) := by decide +kernel
theorem d_Xwrite_52 : decode b_Xwrite 52 = .ok (.aload_n 0, 1) := by decide +kernel
theorem d_Xwrite_53 : decode b_Xwrite 53 = .ok (.getfield 7, 3) := by decide +kernel
theorem d_Xwrite_56 : decode b_Xwrite 56 = .ok (.iload 6, 2) := by decide +kernel
theorem d_Xwrite_58 : decode b_Xwrite 58 = .ok (.iconst 4, 1) := by decide +kernel
theorem d_Xwrite_59 : decode b_Xwrite 59 = .ok (.imul, 1) := by decide +kernel
theorem d_Xwrite_60 : decode b_Xwrite 60 = .ok (.iload_n 3, 1) := by decide +kernel
theorem d_Xwrite_61 : decode b_Xwrite 61 = .ok (.iadd, 1) := by decide +kernel
theorem d_Xwrite_62 : decode b_Xwrite 62 = .ok (.iload 4, 2) := by decide +kernel
theorem d_Xwrite_64 : decode b_Xwrite 64 = .ok (.iastore, 1) := by decide +kernel
theorem d_Xwrite_65 : decode b_Xwrite 65 = .ok (.iconst 0, 1) := by decide +kernel
theorem d_Xwrite_66 : decode b_Xwrite 66 = .ok (.ireturn, 1) := by decide +kernel
theorem d_Xread_0 : decode b_Xread 0 = .ok (.aload_n 0, 1) := by decide +kernel
theorem d_Xread_1 : decode b_Xread 1 = .ok (.iload_n 1, 1) := by decide +kernel
theorem d_Xread_2 : decode b_Xread 2 = .ok (.iload_n 2, 1) := by decide +kernel
theorem d_Xread_3 : decode b_Xread 3 = .ok (.invokevirtual 73, 3) := by decide +kernel
theorem d_Xread_6 : decode b_Xread 6 = .ok (.ifCond .ne 12, 3) := by decide +kernel
theorem d_Xread_9 : decode b_Xread 9 = .ok (.iload_n 3, 1) := by decide +kernel
theorem d_Xread_10 : decode b_Xread 10 = .ok (.ifCond .lt 8, 3) := by decide +kernel
theorem d_Xread_13 : decode b_Xread 13 = .ok (.iload_n 3, 1) := by decide +kernel
theorem d_Xread_14 : decode b_Xread 14 = .ok (.iconst 3, 1) := by decide +kernel
theorem d_Xread_15 : decode b_Xread 15 = .ok (.if_icmp .le 5, 3) := by decide +kernel
theorem d_Xread_18 : decode b_Xread 18 = .ok (.iconst 0, 1) := by decide +kernel
theorem d_Xread_19 : decode b_Xread 19 = .ok (.ireturn, 1) := by decide +kernel
theorem d_Xread_20 : decode b_Xread 20 = .ok (.aload_n 0, 1) := by decide +kernel
theorem d_Xread_21 : decode b_Xread 21 = .ok (.iload_n 1, 1) := by decide +kernel
theorem d_Xread_22 : decode b_Xread 22 = .ok (.bipush 16, 2) := by decide +kernel
theorem d_Xread_24 : decode b_Xread 24 = .ok (.imul, 1) := by decide +kernel
theorem d_Xread_25 : decode b_Xread 25 = .ok (.iload_n 2, 1) := by decide +kernel
theorem d_Xread_26 : decode b_Xread 26 = .ok (.iadd, 1) := by decide +kernel
theorem d_Xread_27 : decode b_Xread 27 = .ok (.invokevirtual 80, 3) := by decide +kernel
theorem d_Xread_30 : decode b_Xread 30 = .ok (.istore 4, 2) := by decide +kernel
theorem d_Xread_32 : decode b_Xread 32 = .ok (.iload 4, 2) := by decide +kernel
theorem d_Xread_34 : decode b_Xread 34 = .ok (.ifCond .ge 7, 3) := by decide +kernel
theorem d_Xread_37 : decode b_Xread 37 = .ok (.iconst 0, 1) := by decide +kernel
theorem d_Xread_38 : decode b_Xread 38 = .ok (.goto 14, 3) := by decide +kernel
theorem d_Xread_41 : decode b_Xread 41 = .ok (.aload_n 0, 1) := by decide +kernel
theorem d_Xread_42 : decode b_Xread 42 = .ok (.getfield 7, 3) := by decide +kernel
theorem d_Xread_45 : decode b_Xread 45 = .ok (.iload 4, 2) := by decide +kernel
theorem d_Xread_47 : decode b_Xread 47 = .ok (.iconst 4, 1) := by decide +kernel
theorem d_Xread_48 : decode b_Xread 48 = .ok (.imul, 1) := by decide +kernel
theorem d_Xread_49 : decode b_Xread 49 = .ok (.iload_n 3, 1) := by decide +kernel
theorem d_Xread_50 : decode b_Xread 50 = .ok (.iadd, 1) := by decide +kernel
theorem d_Xread_51 : decode b_Xread 51 = .ok (.iaload, 1) := by decide +kernel
theorem d_Xread_52 : decode b_Xread 52 = .ok (.ireturn, 1) := by decide +kernel
theorem d_Xunmap_0 : decode b_Xunmap 0 = .ok (.aload_n 0, 1) := by decide +kernel
theorem d_Xunmap_1 : decode b_Xunmap 1 = .ok (.iload_n 1, 1) := by decide +kernel
theorem d_Xunmap_2 : decode b_Xunmap 2 = .ok (.iload_n 2, 1) := by decide +kernel
theorem d_Xunmap_3 : decode b_Xunmap 3 = .ok (.invokevirtual 73, 3) := by decide +kernel
theorem d_Xunmap_6 : decode b_Xunmap 6 = .ok (.ifCond .eq 5, 3) := by decide +kernel
theorem d_Xunmap_9 : decode b_Xunmap 9 = .ok (.iconst (-1), 1) := by decide +kernel
theorem d_Xunmap_10 : decode b_Xunmap 10 = .ok (.ireturn, 1) := by decide +kernel
theorem d_Xunmap_11 : decode b_Xunmap 11 = .ok (.aload_n 0, 1) := by decide +kernel
theorem d_Xunmap_12 : decode b_Xunmap 12 = .ok (.iload_n 1, 1) := by decide +kernel
theorem d_Xunmap_13 : decode b_Xunmap 13 = .ok (.bipush 16, 2) := by decide +kernel
theorem d_Xunmap_15 : decode b_Xunmap 15 = .ok (.imul, 1) := by decide +kernel
theorem d_Xunmap_16 : decode b_Xunmap 16 = .ok (.iload_n 2, 1) := by decide +kernel
theorem d_Xunmap_17 : decode b_Xunmap 17 = .ok (.iadd, 1) := by decide +kernel
theorem d_Xunmap_18 : decode b_Xunmap 18 = .ok (.invokevirtual 80, 3) := by decide +kernel
theorem d_Xunmap_21 : decode b_Xunmap 21 = .ok (.istore_n 3, 1) := by decide +kernel
theorem d_Xunmap_22 : decode b_Xunmap 22 = .ok (.iload_n 3, 1) := by decide +kernel
theorem d_Xunmap_23 : decode b_Xunmap 23 = .ok (.ifCond .ge 6, 3) := by decide +kernel
theorem d_Xunmap_26 : decode b_Xunmap 26 = .ok (.bipush (-3), 2) := by decide +kernel
theorem d_Xunmap_28 : decode b_Xunmap 28 = .ok (.ireturn, 1) := by decide +kernel
theorem d_Xunmap_29 : decode b_Xunmap 29 = .ok (.aload_n 0, 1) := by decide +kernel
theorem d_Xunmap_30 : decode b_Xunmap 30 = .ok (.iload_n 1, 1) := by decide +kernel
theorem d_Xunmap_31 : decode b_Xunmap 31 = .ok (.bipush 16, 2) := by decide +kernel
theorem d_Xunmap_33 : decode b_Xunmap 33 = .ok (.imul, 1) := by decide +kernel
theorem d_Xunmap_34 : decode b_Xunmap 34 = .ok (.iload_n 2, 1) := by decide +kernel
theorem d_Xunmap_35 : decode b_Xunmap 35 = .ok (.iadd, 1) := by decide +kernel
theorem d_Xunmap_36 : decode b_Xunmap 36 = .ok (.invokevirtual 95, 3) := by decide +kernel
theorem d_Xunmap_39 : decode b_Xunmap 39 = .ok (.iconst 0, 1) := by decide +kernel
theorem d_Xunmap_40 : decode b_Xunmap 40 = .ok (.ireturn, 1) := by decide +kernel
theorem d_Xprotect_0 : decode b_Xprotect 0 = .ok (.aload_n 0, 1) := by decide +kernel
theorem d_Xprotect_1 : decode b_Xprotect 1 = .ok (.iload_n 1, 1) := by decide +kernel
theorem d_Xprotect_2 : decode b_Xprotect 2 = .ok (.iload_n 2, 1) := by decide +kernel
theorem d_Xprotect_3 : decode b_Xprotect 3 = .ok (.invokevirtual 73, 3) := by decide +kernel
theorem d_Xprotect_6 : decode b_Xprotect 6 = .ok (.ifCond .eq 5, 3) := by decide +kernel
theorem d_Xprotect_9 : decode b_Xprotect 9 = .ok (.iconst (-1), 1) := by decide +kernel
theorem d_Xprotect_10 : decode b_Xprotect 10 = .ok (.ireturn, 1) := by decide +kernel
theorem d_Xprotect_11 : decode b_Xprotect 11 = .ok (.iload_n 1, 1) := by decide +kernel
theorem d_Xprotect_12 : decode b_Xprotect 12 = .ok (.bipush 16, 2) := by decide +kernel
theorem d_Xprotect_14 : decode b_Xprotect 14 = .ok (.imul, 1) := by decide +kernel
theorem d_Xprotect_15 : decode b_Xprotect 15 = .ok (.iload_n 2, 1) := by decide +kernel
theorem d_Xprotect_16 : decode b_Xprotect 16 = .ok (.iadd, 1) := by decide +kernel
theorem d_Xprotect_17 : decode b_Xprotect 17 = .ok (.istore 4, 2) := by decide +kernel
theorem d_Xprotect_19 : decode b_Xprotect 19 = .ok (.aload_n 0, 1) := by decide +kernel
theorem d_Xprotect_20 : decode b_Xprotect 20 = .ok (.iload 4, 2) := by decide +kernel
theorem d_Xprotect_22 : decode b_Xprotect 22 = .ok (.invokevirtual 80, 3) := by decide +kernel
theorem d_Xprotect_25 : decode b_Xprotect 25 = .ok (.istore 5, 2) := by decide +kernel
theorem d_Xprotect_27 : decode b_Xprotect 27 = .ok (.iload 5, 2) := by decide +kernel
theorem d_Xprotect_29 : decode b_Xprotect 29 = .ok (.ifCond .ge 6, 3) := by decide +kernel
theorem d_Xprotect_32 : decode b_Xprotect 32 = .ok (.bipush (-3), 2) := by decide +kernel
theorem d_Xprotect_34 : decode b_Xprotect 34 = .ok (.ireturn, 1) := by decide +kernel
theorem d_Xprotect_35 : decode b_Xprotect 35 = .ok (.aload_n 0, 1) := by decide +kernel
theorem d_Xprotect_36 : decode b_Xprotect 36 = .ok (.getfield 19, 3) := by decide +kernel
theorem d_Xprotect_39 : decode b_Xprotect 39 = .ok (.iload 4, 2) := by decide +kernel
theorem d_Xprotect_41 : decode b_Xprotect 41 = .ok (.baload, 1) := by decide +kernel
theorem d_Xprotect_42 : decode b_Xprotect 42 = .ok (.ifCond .eq 7, 3) := by decide +kernel
theorem d_Xprotect_45 : decode b_Xprotect 45 = .ok (.iconst 1, 1) := by decide +kernel
theorem d_Xprotect_46 : decode b_Xprotect 46 = .ok (.goto 4, 3) := by decide +kernel
theorem d_Xprotect_49 : decode b_Xprotect 49 = .ok (.iconst 0, 1) := by decide +kernel
theorem d_Xprotect_50 : decode b_Xprotect 50 = .ok (.istore 6, 2) := by decide +kernel
theorem d_Xprotect_52 : decode b_Xprotect 52 = .ok (.aload_n 0, 1) := by decide +kernel
theorem d_Xprotect_53 : decode b_Xprotect 53 = .ok (.getfield 19, 3) := by decide +kernel
theorem d_Xprotect_56 : decode b_Xprotect 56 = .ok (.iload 4, 2) := by decide +kernel
theorem d_Xprotect_58 : decode b_Xprotect 58 = .ok (.baload, 1) := by decide +kernel
theorem d_Xprotect_59 : decode b_Xprotect 59 = .ok (.iload_n 3, 1) := by decide +kernel
theorem d_Xprotect_60 : decode b_Xprotect 60 = .ok (.ifCond .eq 7, 3) := by decide +kernel
theorem d_Xprotect_63 : decode b_Xprotect 63 = .ok (.iconst 1, 1) := by decide +kernel
theorem d_Xprotect_64 : decode b_Xprotect 64 = .ok (.goto 4, 3) := by decide +kernel
theorem d_Xprotect_67 : decode b_Xprotect 67 = .ok (.iconst 0, 1) := by decide +kernel
theorem d_Xprotect_68 : decode b_Xprotect 68 = .ok (.if_icmp .eq 35, 3) := by decide +kernel
theorem d_Xprotect_71 : decode b_Xprotect 71 = .ok (.aload_n 0, 1) := by decide +kernel
theorem d_Xprotect_72 : decode b_Xprotect 72 = .ok (.iload 4, 2) := by decide +kernel
theorem d_Xprotect_74 : decode b_Xprotect 74 = .ok (.iconst 2, 1) := by decide +kernel
theorem d_Xprotect_75 : decode b_Xprotect 75 = .ok (.ishr, 1) := by decide +kernel
theorem d_Xprotect_76 : decode b_Xprotect 76 = .ok (.invokevirtual 66, 3) := by decide +kernel
theorem d_Xprotect_79 : decode b_Xprotect 79 = .ok (.aload_n 0, 1) := by decide +kernel
theorem d_Xprotect_80 : decode b_Xprotect 80 = .ok (.getfield 19, 3) := by decide +kernel
theorem d_Xprotect_83 : decode b_Xprotect 83 = .ok (.iload 4, 2) := by decide +kernel
theorem d_Xprotect_85 : decode b_Xprotect 85 = .ok (.iload_n 3, 1) := by decide +kernel
theorem d_Xprotect_86 : decode b_Xprotect 86 = .ok (.ifCond .eq 7, 3) := by decide +kernel
theorem d_Xprotect_89 : decode b_Xprotect 89 = .ok (.iconst 1, 1) := by decide +kernel
theorem d_Xprotect_90 : decode b_Xprotect 90 = .ok (.goto 4, 3) := by decide +kernel
theorem d_Xprotect_93 : decode b_Xprotect 93 = .ok (.iconst 0, 1) := by decide +kernel
theorem d_Xprotect_94 : decode b_Xprotect 94 = .ok (.bastore, 1) := by decide +kernel
theorem d_Xprotect_95 : decode b_Xprotect 95 = .ok (.aload_n 0, 1) := by decide +kernel
theorem d_Xprotect_96 : decode b_Xprotect 96 = .ok (.iload 4, 2) := by decide +kernel
theorem d_Xprotect_98 : decode b_Xprotect 98 = .ok (.iconst 2, 1) := by decide +kernel
theorem d_Xprotect_99 : decode b_Xprotect 99 = .ok (.ishr, 1) := by decide +kernel
theorem d_Xprotect_100 : decode b_Xprotect 100 = .ok (.invokevirtual 89, 3) := by decide +kernel
theorem d_Xprotect_103 : decode b_Xprotect 103 = .ok (.iload 6, 2) := by decide +kernel
theorem d_Xprotect_105 : decode b_Xprotect 105 = .ok (.ireturn, 1) := by decide +kernel
theorem d_Xstate_0 : decode b_Xstate 0 = .ok (.aload_n 0, 1) := by decide +kernel
theorem d_Xstate_1 : decode b_Xstate 1 = .ok (.iload_n 1, 1) := by decide +kernel
theorem d_Xstate_2 : decode b_Xstate 2 = .ok (.iload_n 2, 1) := by decide +kernel
theorem d_Xstate_3 : decode b_Xstate 3 = .ok (.invokevirtual 73, 3) := by decide +kernel
theorem d_Xstate_6 : decode b_Xstate 6 = .ok (.ifCond .eq 5, 3) := by decide +kernel
theorem d_Xstate_9 : decode b_Xstate 9 = .ok (.iconst (-1), 1) := by decide +kernel
theorem d_Xstate_10 : decode b_Xstate 10 = .ok (.ireturn, 1) := by decide +kernel
theorem d_Xstate_11 : decode b_Xstate 11 = .ok (.aload_n 0, 1) := by decide +kernel
theorem d_Xstate_12 : decode b_Xstate 12 = .ok (.iload_n 1, 1) := by decide +kernel
theorem d_Xstate_13 : decode b_Xstate 13 = .ok (.bipush 16, 2) := by decide +kernel
theorem d_Xstate_15 : decode b_Xstate 15 = .ok (.imul, 1) := by decide +kernel
theorem d_Xstate_16 : decode b_Xstate 16 = .ok (.iload_n 2, 1) := by decide +kernel
theorem d_Xstate_17 : decode b_Xstate 17 = .ok (.iadd, 1) := by decide +kernel
theorem d_Xstate_18 : decode b_Xstate 18 = .ok (.invokevirtual 80, 3) := by decide +kernel
theorem d_Xstate_21 : decode b_Xstate 21 = .ok (.istore_n 3, 1) := by decide +kernel
theorem d_Xstate_22 : decode b_Xstate 22 = .ok (.iload_n 3, 1) := by decide +kernel
theorem d_Xstate_23 : decode b_Xstate 23 = .ok (.ifCond .ge 5, 3) := by decide +kernel
theorem d_Xstate_26 : decode b_Xstate 26 = .ok (.iconst 0, 1) := by decide +kernel
theorem d_Xstate_27 : decode b_Xstate 27 = .ok (.ireturn, 1) := by decide +kernel
theorem d_Xstate_28 : decode b_Xstate 28 = .ok (.aload_n 0, 1) := by decide +kernel
theorem d_Xstate_29 : decode b_Xstate 29 = .ok (.getfield 19, 3) := by decide +kernel
theorem d_Xstate_32 : decode b_Xstate 32 = .ok (.iload_n 1, 1) := by decide +kernel
theorem d_Xstate_33 : decode b_Xstate 33 = .ok (.bipush 16, 2) := by decide +kernel
theorem d_Xstate_35 : decode b_Xstate 35 = .ok (.imul, 1) := by decide +kernel
theorem d_Xstate_36 : decode b_Xstate 36 = .ok (.iload_n 2, 1) := by decide +kernel
theorem d_Xstate_37 : decode b_Xstate 37 = .ok (.iadd, 1) := by decide +kernel
theorem d_Xstate_38 : decode b_Xstate 38 = .ok (.baload, 1) := by decide +kernel
theorem d_Xstate_39 : decode b_Xstate 39 = .ok (.ifCond .eq 7, 3) := by decide +kernel
theorem d_Xstate_42 : decode b_Xstate 42 = .ok (.iconst 2, 1) := by decide +kernel
theorem d_Xstate_43 : decode b_Xstate 43 = .ok (.goto 4, 3) := by decide +kernel
theorem d_Xstate_46 : decode b_Xstate 46 = .ok (.iconst 1, 1) := by decide +kernel
theorem d_Xstate_47 : decode b_Xstate 47 = .ok (.ireturn, 1) := by decide +kernel
theorem d_Xshared_0 : decode b_Xshared 0 = .ok (.iload_n 1, 1) := by decide +kernel
theorem d_Xshared_1 : decode b_Xshared 1 = .ok (.ifCond .lt 9, 3) := by decide +kernel
theorem d_Xshared_4 : decode b_Xshared 4 = .ok (.iload_n 1, 1) := by decide +kernel
theorem d_Xshared_5 : decode b_Xshared 5 = .ok (.bipush 15, 2) := by decide +kernel
theorem d_Xshared_7 : decode b_Xshared 7 = .ok (.if_icmp .le 5, 3) := by decide +kernel
theorem d_Xshared_10 : decode b_Xshared 10 = .ok (.iconst 0, 1) := by decide +kernel
theorem d_Xshared_11 : decode b_Xshared 11 = .ok (.ireturn, 1) := by decide +kernel
theorem d_Xshared_12 : decode b_Xshared 12 = .ok (.aload_n 0, 1) := by decide +kernel
theorem d_Xshared_13 : decode b_Xshared 13 = .ok (.iload_n 1, 1) := by decide +kernel
theorem d_Xshared_14 : decode b_Xshared 14 = .ok (.invokevirtual 80, 3) := by decide +kernel
theorem d_Xshared_17 : decode b_Xshared 17 = .ok (.istore_n 2, 1) := by decide +kernel
theorem d_Xshared_18 : decode b_Xshared 18 = .ok (.aload_n 0, 1) := by decide +kernel
theorem d_Xshared_19 : decode b_Xshared 19 = .ok (.bipush 16, 2) := by decide +kernel
theorem d_Xshared_21 : decode b_Xshared 21 = .ok (.iload_n 1, 1) := by decide +kernel
theorem d_Xshared_22 : decode b_Xshared 22 = .ok (.iadd, 1) := by decide +kernel
theorem d_Xshared_23 : decode b_Xshared 23 = .ok (.invokevirtual 80, 3) := by decide +kernel
theorem d_Xshared_26 : decode b_Xshared 26 = .ok (.istore_n 3, 1) := by decide +kernel
theorem d_Xshared_27 : decode b_Xshared 27 = .ok (.iload_n 2, 1) := by decide +kernel
theorem d_Xshared_28 : decode b_Xshared 28 = .ok (.ifCond .lt 12, 3) := by decide +kernel
theorem d_Xshared_31 : decode b_Xshared 31 = .ok (.iload_n 2, 1) := by decide +kernel
theorem d_Xshared_32 : decode b_Xshared 32 = .ok (.iload_n 3, 1) := by decide +kernel
theorem d_Xshared_33 : decode b_Xshared 33 = .ok (.if_icmp .ne 7, 3) := by decide +kernel
theorem d_Xshared_36 : decode b_Xshared 36 = .ok (.iconst 1, 1) := by decide +kernel
theorem d_Xshared_37 : decode b_Xshared 37 = .ok (.goto 4, 3) := by decide +kernel
theorem d_Xshared_40 : decode b_Xshared 40 = .ok (.iconst 0, 1) := by decide +kernel
theorem d_Xshared_41 : decode b_Xshared 41 = .ok (.ireturn, 1) := by decide +kernel
theorem d_Xsplit_0 : decode b_Xsplit 0 = .ok (.iload_n 1, 1) := by decide +kernel
theorem d_Xsplit_1 : decode b_Xsplit 1 = .ok (.ifCond .lt 8, 3) := by decide +kernel
theorem d_Xsplit_4 : decode b_Xsplit 4 = .ok (.iload_n 1, 1) := by decide +kernel
theorem d_Xsplit_5 : decode b_Xsplit 5 = .ok (.iconst 1, 1) := by decide +kernel
theorem d_Xsplit_6 : decode b_Xsplit 6 = .ok (.if_icmp .le 5, 3) := by decide +kernel
theorem d_Xsplit_9 : decode b_Xsplit 9 = .ok (.iconst (-1), 1) := by decide +kernel
theorem d_Xsplit_10 : decode b_Xsplit 10 = .ok (.ireturn, 1) := by decide +kernel
theorem d_Xsplit_11 : decode b_Xsplit 11 = .ok (.iconst 1, 1) := by decide +kernel
theorem d_Xsplit_12 : decode b_Xsplit 12 = .ok (.iload_n 1, 1) := by decide +kernel
theorem d_Xsplit_13 : decode b_Xsplit 13 = .ok (.isub, 1) := by decide +kernel
theorem d_Xsplit_14 : decode b_Xsplit 14 = .ok (.istore_n 2, 1) := by decide +kernel
theorem d_Xsplit_15 : decode b_Xsplit 15 = .ok (.aload_n 0, 1) := by decide +kernel
theorem d_Xsplit_16 : decode b_Xsplit 16 = .ok (.iload_n 2, 1) := by decide +kernel
theorem d_Xsplit_17 : decode b_Xsplit 17 = .ok (.iconst 0, 1) := by decide +kernel
theorem d_Xsplit_18 : decode b_Xsplit 18 = .ok (.bipush 15, 2) := by decide +kernel
theorem d_Xsplit_20 : decode b_Xsplit 20 = .ok (.invokevirtual 98, 3) := by decide +kernel
theorem d_Xsplit_23 : decode b_Xsplit 23 = .ok (.pop, 1) := by decide +kernel
theorem d_Xsplit_24 : decode b_Xsplit 24 = .ok (.iconst 0, 1) := by decide +kernel
theorem d_Xsplit_25 : decode b_Xsplit 25 = .ok (.istore_n 3, 1) := by decide +kernel
theorem d_Xsplit_26 : decode b_Xsplit 26 = .ok (.iload_n 3, 1) := by decide +kernel
theorem d_Xsplit_27 : decode b_Xsplit 27 = .ok (.iconst 4, 1) := by decide +kernel
theorem d_Xsplit_28 : decode b_Xsplit 28 = .ok (.if_icmp .ge 18, 3) := by decide +kernel
theorem d_Xsplit_31 : decode b_Xsplit 31 = .ok (.aload_n 0, 1) := by decide +kernel
theorem d_Xsplit_32 : decode b_Xsplit 32 = .ok (.iload_n 1, 1) := by decide +kernel
theorem d_Xsplit_33 : decode b_Xsplit 33 = .ok (.iconst 4, 1) := by decide +kernel
theorem d_Xsplit_34 : decode b_Xsplit 34 = .ok (.imul, 1) := by decide +kernel
theorem d_Xsplit_35 : decode b_Xsplit 35 = .ok (.iload_n 3, 1) := by decide +kernel
theorem d_Xsplit_36 : decode b_Xsplit 36 = .ok (.iadd, 1) := by decide +kernel
theorem d_Xsplit_37 : decode b_Xsplit 37 = .ok (.invokevirtual 66, 3) := by decide +kernel
theorem d_Xsplit_40 : decode b_Xsplit 40 = .ok (.iinc 3 1, 3) := by decide +kernel
theorem d_Xsplit_43 : decode b_Xsplit 43 = .ok (.goto (-17), 3) := by decide +kernel
theorem d_Xsplit_46 : decode b_Xsplit 46 = .ok (.iconst 0, 1) := by decide +kernel
theorem d_Xsplit_47 : decode b_Xsplit 47 = .ok (.istore_n 3, 1) := by decide +kernel
theorem d_Xsplit_48 : decode b_Xsplit 48 = .ok (.iconst 0, 1) := by decide +kernel
theorem d_Xsplit_49 : decode b_Xsplit 49 = .ok (.istore 4, 2) := by decide +kernel
theorem d_Xsplit_51 : decode b_Xsplit 51 = .ok (.iload 4, 2) := by decide +kernel
theorem d_Xsplit_53 : decode b_Xsplit 53 = .ok (.bipush 16, 2) := by decide +kernel
theorem d_Xsplit_55 : decode b_Xsplit 55 = .ok (.if_icmp .ge 77, 3) := by decide +kernel
theorem d_Xsplit_58 : decode b_Xsplit 58 = .ok (.aload_n 0, 1) := by decide +kernel
theorem d_Xsplit_59 : decode b_Xsplit 59 = .ok (.getfield 16, 3) := by decide +kernel
theorem d_Xsplit_62 : decode b_Xsplit 62 = .ok (.iload_n 1, 1) := by decide +kernel
theorem d_Xsplit_63 : decode b_Xsplit 63 = .ok (.bipush 16, 2) := by decide +kernel
theorem d_Xsplit_65 : decode b_Xsplit 65 = .ok (.imul, 1) := by decide +kernel
theorem d_Xsplit_66 : decode b_Xsplit 66 = .ok (.iload 4, 2) := by decide +kernel
theorem d_Xsplit_68 : decode b_Xsplit 68 = .ok (.iadd, 1) := by decide +kernel
theorem d_Xsplit_69 : decode b_Xsplit 69 = .ok (.iaload, 1) := by decide +kernel
theorem d_Xsplit_70 : decode b_Xsplit 70 = .ok (.istore 5, 2) := by decide +kernel
theorem d_Xsplit_72 : decode b_Xsplit 72 = .ok (.iload 5, 2) := by decide +kernel
theorem d_Xsplit_74 : decode b_Xsplit 74 = .ok (.ifCond .lt 52, 3) := by decide +kernel
theorem d_Xsplit_77 : decode b_Xsplit 77 = .ok (.aload_n 0, 1) := by decide +kernel
theorem d_Xsplit_78 : decode b_Xsplit 78 = .ok (.getfield 16, 3) := by decide +kernel
theorem d_Xsplit_81 : decode b_Xsplit 81 = .ok (.iload_n 2, 1) := by decide +kernel
theorem d_Xsplit_82 : decode b_Xsplit 82 = .ok (.bipush 16, 2) := by decide +kernel
theorem d_Xsplit_84 : decode b_Xsplit 84 = .ok (.imul, 1) := by decide +kernel
theorem d_Xsplit_85 : decode b_Xsplit 85 = .ok (.iload 4, 2) := by decide +kernel
theorem d_Xsplit_87 : decode b_Xsplit 87 = .ok (.iadd, 1) := by decide +kernel
theorem d_Xsplit_88 : decode b_Xsplit 88 = .ok (.iload 5, 2) := by decide +kernel
theorem d_Xsplit_90 : decode b_Xsplit 90 = .ok (.iastore, 1) := by decide +kernel
theorem d_Xsplit_91 : decode b_Xsplit 91 = .ok (.aload_n 0, 1) := by decide +kernel
theorem d_Xsplit_92 : decode b_Xsplit 92 = .ok (.getfield 19, 3) := by decide +kernel
theorem d_Xsplit_95 : decode b_Xsplit 95 = .ok (.iload_n 2, 1) := by decide +kernel
theorem d_Xsplit_96 : decode b_Xsplit 96 = .ok (.bipush 16, 2) := by decide +kernel
theorem d_Xsplit_98 : decode b_Xsplit 98 = .ok (.imul, 1) := by decide +kernel
theorem d_Xsplit_99 : decode b_Xsplit 99 = .ok (.iload 4, 2) := by decide +kernel
theorem d_Xsplit_101 : decode b_Xsplit 101 = .ok (.iadd, 1) := by decide +kernel
theorem d_Xsplit_102 : decode b_Xsplit 102 = .ok (.aload_n 0, 1) := by decide +kernel
theorem d_Xsplit_103 : decode b_Xsplit 103 = .ok (.getfield 19, 3) := by decide +kernel
theorem d_Xsplit_106 : decode b_Xsplit 106 = .ok (.iload_n 1, 1) := by decide +kernel
theorem d_Xsplit_107 : decode b_Xsplit 107 = .ok (.bipush 16, 2) := by decide +kernel
theorem d_Xsplit_109 : decode b_Xsplit 109 = .ok (.imul, 1) := by decide +kernel
theorem d_Xsplit_110 : decode b_Xsplit 110 = .ok (.iload 4, 2) := by decide +kernel
theorem d_Xsplit_112 : decode b_Xsplit 112 = .ok (.iadd, 1) := by decide +kernel
theorem d_Xsplit_113 : decode b_Xsplit 113 = .ok (.baload, 1) := by decide +kernel
theorem d_Xsplit_114 : decode b_Xsplit 114 = .ok (.bastore, 1) := by decide +kernel
theorem d_Xsplit_115 : decode b_Xsplit 115 = .ok (.aload_n 0, 1) := by decide +kernel
theorem d_Xsplit_116 : decode b_Xsplit 116 = .ok (.getfield 13, 3) := by decide +kernel
theorem d_Xsplit_119 : decode b_Xsplit 119 = .ok (.iload 5, 2) := by decide +kernel
theorem d_Xsplit_121 : decode b_Xsplit 121 = .ok (.iconst 2, 1) := by decide +kernel
theorem d_Xsplit_122 : decode b_Xsplit 122 = .ok (.iastore, 1) := by decide +kernel
theorem d_Xsplit_123 : decode b_Xsplit 123 = .ok (.iinc 3 1, 3) := by decide +kernel
theorem d_Xsplit_126 : decode b_Xsplit 126 = .ok (.iinc 4 1, 3) := by decide +kernel
theorem d_Xsplit_129 : decode b_Xsplit 129 = .ok (.goto (-78), 3) := by decide +kernel
theorem d_Xsplit_132 : decode b_Xsplit 132 = .ok (.iload_n 3, 1) := by decide +kernel
theorem d_Xsplit_133 : decode b_Xsplit 133 = .ok (.ireturn, 1) := by decide +kernel
theorem d_Xcopy_0 : decode b_Xcopy 0 = .ok (.aload_n 0, 1) := by decide +kernel
theorem d_Xcopy_1 : decode b_Xcopy 1 = .ok (.iload_n 1, 1) := by decide +kernel
theorem d_Xcopy_2 : decode b_Xcopy 2 = .ok (.iload_n 2, 1) := by decide +kernel
theorem d_Xcopy_3 : decode b_Xcopy 3 = .ok (.invokevirtual 73, 3) := by decide +kernel
theorem d_Xcopy_6 : decode b_Xcopy 6 = .ok (.ifCond .ne 12, 3) := by decide +kernel
theorem d_Xcopy_9 : decode b_Xcopy 9 = .ok (.aload_n 0, 1) := by decide +kernel
theorem d_Xcopy_10 : decode b_Xcopy 10 = .ok (.iload_n 1, 1) := by decide +kernel
theorem d_Xcopy_11 : decode b_Xcopy 11 = .ok (.iload_n 3, 1) := by decide +kernel
theorem d_Xcopy_12 : decode b_Xcopy 12 = .ok (.invokevirtual 73, 3) := by decide +kernel
theorem d_Xcopy_15 : decode b_Xcopy 15 = .ok (.ifCond .eq 5, 3) := by decide +kernel
theorem d_Xcopy_18 : decode b_Xcopy 18 = .ok (.iconst (-1), 1) := by decide +kernel
theorem d_Xcopy_19 : decode b_Xcopy 19 = .ok (.ireturn, 1) := by decide +kernel
theorem d_Xcopy_20 : decode b_Xcopy 20 = .ok (.iconst 0, 1) := by decide +kernel
theorem d_Xcopy_21 : decode b_Xcopy 21 = .ok (.istore 4, 2) := by decide +kernel
theorem d_Xcopy_23 : decode b_Xcopy 23 = .ok (.iload 4, 2) := by decide +kernel
theorem d_Xcopy_25 : decode b_Xcopy 25 = .ok (.iconst 4, 1) := by decide +kernel
theorem d_Xcopy_26 : decode b_Xcopy 26 = .ok (.if_icmp .ge 24, 3) := by decide +kernel
theorem d_Xcopy_29 : decode b_Xcopy 29 = .ok (.aload_n 0, 1) := by decide +kernel
theorem d_Xcopy_30 : decode b_Xcopy 30 = .ok (.getfield 32, 3) := by decide +kernel
theorem d_Xcopy_33 : decode b_Xcopy 33 = .ok (.iload 4, 2) := by decide +kernel
theorem d_Xcopy_35 : decode b_Xcopy 35 = .ok (.aload_n 0, 1) := by decide +kernel
theorem d_Xcopy_36 : decode b_Xcopy 36 = .ok (.iload_n 1, 1) := by decide +kernel
theorem d_Xcopy_37 : decode b_Xcopy 37 = .ok (.iload_n 2, 1) := by decide +kernel
theorem d_Xcopy_38 : decode b_Xcopy 38 = .ok (.iload 4, 2) := by decide +kernel
theorem d_Xcopy_40 : decode b_Xcopy 40 = .ok (.invokevirtual 102, 3) := by decide +kernel
theorem d_Xcopy_43 : decode b_Xcopy 43 = .ok (.iastore, 1) := by decide +kernel
theorem d_Xcopy_44 : decode b_Xcopy 44 = .ok (.iinc 4 1, 3) := by decide +kernel
theorem d_Xcopy_47 : decode b_Xcopy 47 = .ok (.goto (-24), 3) := by decide +kernel
theorem d_Xcopy_50 : decode b_Xcopy 50 = .ok (.aload_n 0, 1) := by decide +kernel
theorem d_Xcopy_51 : decode b_Xcopy 51 = .ok (.iload_n 1, 1) := by decide +kernel
theorem d_Xcopy_52 : decode b_Xcopy 52 = .ok (.bipush 16, 2) := by decide +kernel
theorem d_Xcopy_54 : decode b_Xcopy 54 = .ok (.imul, 1) := by decide +kernel
theorem d_Xcopy_55 : decode b_Xcopy 55 = .ok (.iload_n 3, 1) := by decide +kernel
theorem d_Xcopy_56 : decode b_Xcopy 56 = .ok (.iadd, 1) := by decide +kernel
theorem d_Xcopy_57 : decode b_Xcopy 57 = .ok (.invokevirtual 92, 3) := by decide +kernel
theorem d_Xcopy_60 : decode b_Xcopy 60 = .ok (.istore 4, 2) := by decide +kernel
theorem d_Xcopy_62 : decode b_Xcopy 62 = .ok (.iload 4, 2) := by decide +kernel
theorem d_Xcopy_64 : decode b_Xcopy 64 = .ok (.ifCond .ge 6, 3) := by decide +kernel
theorem d_Xcopy_67 : decode b_Xcopy 67 = .ok (.iload 4, 2) := by decide +kernel
theorem d_Xcopy_69 : decode b_Xcopy 69 = .ok (.ireturn, 1) := by decide +kernel
theorem d_Xcopy_70 : decode b_Xcopy 70 = .ok (.aload_n 0, 1) := by decide +kernel
theorem d_Xcopy_71 : decode b_Xcopy 71 = .ok (.iload_n 1, 1) := by decide +kernel
theorem d_Xcopy_72 : decode b_Xcopy 72 = .ok (.bipush 16, 2) := by decide +kernel
theorem d_Xcopy_74 : decode b_Xcopy 74 = .ok (.imul, 1) := by decide +kernel
theorem d_Xcopy_75 : decode b_Xcopy 75 = .ok (.iload_n 3, 1) := by decide +kernel
theorem d_Xcopy_76 : decode b_Xcopy 76 = .ok (.iadd, 1) := by decide +kernel
theorem d_Xcopy_77 : decode b_Xcopy 77 = .ok (.invokevirtual 80, 3) := by decide +kernel
theorem d_Xcopy_80 : decode b_Xcopy 80 = .ok (.istore 5, 2) := by decide +kernel
theorem d_Xcopy_82 : decode b_Xcopy 82 = .ok (.iconst 0, 1) := by decide +kernel
theorem d_Xcopy_83 : decode b_Xcopy 83 = .ok (.istore 6, 2) := by decide +kernel
theorem d_Xcopy_85 : decode b_Xcopy 85 = .ok (.iload 6, 2) := by decide +kernel
theorem d_Xcopy_87 : decode b_Xcopy 87 = .ok (.iconst 4, 1) := by decide +kernel
theorem d_Xcopy_88 : decode b_Xcopy 88 = .ok (.if_icmp .ge 28, 3) := by decide +kernel
theorem d_Xcopy_91 : decode b_Xcopy 91 = .ok (.aload_n 0, 1) := by decide +kernel
theorem d_Xcopy_92 : decode b_Xcopy 92 = .ok (.getfield 7, 3) := by decide +kernel
theorem d_Xcopy_95 : decode b_Xcopy 95 = .ok (.iload 5, 2) := by decide +kernel
theorem d_Xcopy_97 : decode b_Xcopy 97 = .ok (.iconst 4, 1) := by decide +kernel
theorem d_Xcopy_98 : decode b_Xcopy 98 = .ok (.imul, 1) := by decide +kernel
theorem d_Xcopy_99 : decode b_Xcopy 99 = .ok (.iload 6, 2) := by decide +kernel
theorem d_Xcopy_101 : decode b_Xcopy 101 = .ok (.iadd, 1) := by decide +kernel
theorem d_Xcopy_102 : decode b_Xcopy 102 = .ok (.aload_n 0, 1) := by decide +kernel
theorem d_Xcopy_103 : decode b_Xcopy 103 = .ok (.getfield 32, 3) := by decide +kernel
theorem d_Xcopy_106 : decode b_Xcopy 106 = .ok (.iload 6, 2) := by decide +kernel
theorem d_Xcopy_108 : decode b_Xcopy 108 = .ok (.iaload, 1) := by decide +kernel
theorem d_Xcopy_109 : decode b_Xcopy 109 = .ok (.iastore, 1) := by decide +kernel
theorem d_Xcopy_110 : decode b_Xcopy 110 = .ok (.iinc 6 1, 3) := by decide +kernel
theorem d_Xcopy_113 : decode b_Xcopy 113 = .ok (.goto (-28), 3) := by decide +kernel
theorem d_Xcopy_116 : decode b_Xcopy 116 = .ok (.iconst 0, 1) := by decide +kernel
theorem d_Xcopy_117 : decode b_Xcopy 117 = .ok (.ireturn, 1) := by decide +kernel
theorem d_XunmapRange_0 : decode b_XunmapRange 0 = .ok (.aload_n 0, 1) := by decide +kernel
theorem d_XunmapRange_1 : decode b_XunmapRange 1 = .ok (.iload_n 1, 1) := by decide +kernel
theorem d_XunmapRange_2 : decode b_XunmapRange 2 = .ok (.iload_n 2, 1) := by decide +kernel
theorem d_XunmapRange_3 : decode b_XunmapRange 3 = .ok (.invokevirtual 73, 3) := by decide +kernel
theorem d_XunmapRange_6 : decode b_XunmapRange 6 = .ok (.ifCond .ne 12, 3) := by decide +kernel
theorem d_XunmapRange_9 : decode b_XunmapRange 9 = .ok (.aload_n 0, 1) := by decide +kernel
theorem d_XunmapRange_10 : decode b_XunmapRange 10 = .ok (.iload_n 1, 1) := by decide +kernel
theorem d_XunmapRange_11 : decode b_XunmapRange 11 = .ok (.iload_n 3, 1) := by decide +kernel
theorem d_XunmapRange_12 : decode b_XunmapRange 12 = .ok (.invokevirtual 73, 3) := by decide +kernel
theorem d_XunmapRange_15 : decode b_XunmapRange 15 = .ok (.ifCond .eq 5, 3) := by decide +kernel
theorem d_XunmapRange_18 : decode b_XunmapRange 18 = .ok (.iconst (-1), 1) := by decide +kernel
theorem d_XunmapRange_19 : decode b_XunmapRange 19 = .ok (.ireturn, 1) := by decide +kernel
theorem d_XunmapRange_20 : decode b_XunmapRange 20 = .ok (.iconst 0, 1) := by decide +kernel
theorem d_XunmapRange_21 : decode b_XunmapRange 21 = .ok (.istore 4, 2) := by decide +kernel
theorem d_XunmapRange_23 : decode b_XunmapRange 23 = .ok (.iload_n 2, 1) := by decide +kernel
theorem d_XunmapRange_24 : decode b_XunmapRange 24 = .ok (.istore 5, 2) := by decide +kernel
theorem d_XunmapRange_26 : decode b_XunmapRange 26 = .ok (.iload 5, 2) := by decide +kernel
theorem d_XunmapRange_28 : decode b_XunmapRange 28 = .ok (.iload_n 3, 1) := by decide +kernel
theorem d_XunmapRange_29 : decode b_XunmapRange 29 = .ok (.if_icmp .gt 41, 3) := by decide +kernel
theorem d_XunmapRange_32 : decode b_XunmapRange 32 = .ok (.aload_n 0, 1) := by decide +kernel
theorem d_XunmapRange_33 : decode b_XunmapRange 33 = .ok (.iload_n 1, 1) := by decide +kernel
theorem d_XunmapRange_34 : decode b_XunmapRange 34 = .ok (.bipush 16, 2) := by decide +kernel
theorem d_XunmapRange_36 : decode b_XunmapRange 36 = .ok (.imul, 1) := by decide +kernel
theorem d_XunmapRange_37 : decode b_XunmapRange 37 = .ok (.iload 5, 2) := by decide +kernel
theorem d_XunmapRange_39 : decode b_XunmapRange 39 = .ok (.iadd, 1) := by decide +kernel
theorem d_XunmapRange_40 : decode b_XunmapRange 40 = .ok (.invokevirtual 80, 3) := by decide +kernel
theorem d_XunmapRange_43 : decode b_XunmapRange 43 = .ok (.istore 6, 2) := by decide +kernel
theorem d_XunmapRange_45 : decode b_XunmapRange 45 = .ok (.iload 6, 2) := by decide +kernel
theorem d_XunmapRange_47 : decode b_XunmapRange 47 = .ok (.ifCond .lt 17, 3) := by decide +kernel
theorem d_XunmapRange_50 : decode b_XunmapRange 50 = .ok (.aload_n 0, 1) := by decide +kernel
theorem d_XunmapRange_51 : decode b_XunmapRange 51 = .ok (.iload_n 1, 1) := by decide +kernel
theorem d_XunmapRange_52 : decode b_XunmapRange 52 = .ok (.bipush 16, 2) := by decide +kernel
theorem d_XunmapRange_54 : decode b_XunmapRange 54 = .ok (.imul, 1) := by decide +kernel
theorem d_XunmapRange_55 : decode b_XunmapRange 55 = .ok (.iload 5, 2) := by decide +kernel
theorem d_XunmapRange_57 : decode b_XunmapRange 57 = .ok (.iadd, 1) := by decide +kernel
theorem d_XunmapRange_58 : decode b_XunmapRange 58 = .ok (.invokevirtual 95, 3) := by decide +kernel
theorem d_XunmapRange_61 : decode b_XunmapRange 61 = .ok (.iinc 4 1, 3) := by decide +kernel
theorem d_XunmapRange_64 : decode b_XunmapRange 64 = .ok (.iinc 5 1, 3) := by decide +kernel
theorem d_XunmapRange_67 : decode b_XunmapRange 67 = .ok (.goto (-41), 3) := by decide +kernel
theorem d_XunmapRange_70 : decode b_XunmapRange 70 = .ok (.iload 4, 2) := by decide +kernel
theorem d_XunmapRange_72 : decode b_XunmapRange 72 = .ok (.ireturn, 1) := by decide +kernel
theorem d_Xpresent_0 : decode b_Xpresent 0 = .ok (.iload_n 1, 1) := by decide +kernel
theorem d_Xpresent_1 : decode b_Xpresent 1 = .ok (.ifCond .lt 8, 3) := by decide +kernel
theorem d_Xpresent_4 : decode b_Xpresent 4 = .ok (.iload_n 1, 1) := by decide +kernel
theorem d_Xpresent_5 : decode b_Xpresent 5 = .ok (.iconst 1, 1) := by decide +kernel
theorem d_Xpresent_6 : decode b_Xpresent 6 = .ok (.if_icmp .le 5, 3) := by decide +kernel
theorem d_Xpresent_9 : decode b_Xpresent 9 = .ok (.iconst (-1), 1) := by decide +kernel
theorem d_Xpresent_10 : decode b_Xpresent 10 = .ok (.ireturn, 1) := by decide +kernel
theorem d_Xpresent_11 : decode b_Xpresent 11 = .ok (.iconst 0, 1) := by decide +kernel
theorem d_Xpresent_12 : decode b_Xpresent 12 = .ok (.istore_n 2, 1) := by decide +kernel
theorem d_Xpresent_13 : decode b_Xpresent 13 = .ok (.iconst 0, 1) := by decide +kernel
theorem d_Xpresent_14 : decode b_Xpresent 14 = .ok (.istore_n 3, 1) := by decide +kernel
theorem d_Xpresent_15 : decode b_Xpresent 15 = .ok (.iload_n 3, 1) := by decide +kernel
theorem d_Xpresent_16 : decode b_Xpresent 16 = .ok (.bipush 16, 2) := by decide +kernel
theorem d_Xpresent_18 : decode b_Xpresent 18 = .ok (.if_icmp .ge 29, 3) := by decide +kernel
theorem d_Xpresent_21 : decode b_Xpresent 21 = .ok (.aload_n 0, 1) := by decide +kernel
theorem d_Xpresent_22 : decode b_Xpresent 22 = .ok (.iload_n 1, 1) := by decide +kernel
theorem d_Xpresent_23 : decode b_Xpresent 23 = .ok (.bipush 16, 2) := by decide +kernel
theorem d_Xpresent_25 : decode b_Xpresent 25 = .ok (.imul, 1) := by decide +kernel
theorem d_Xpresent_26 : decode b_Xpresent 26 = .ok (.iload_n 3, 1) := by decide +kernel
theorem d_Xpresent_27 : decode b_Xpresent 27 = .ok (.iadd, 1) := by decide +kernel
theorem d_Xpresent_28 : decode b_Xpresent 28 = .ok (.invokevirtual 80, 3) := by decide +kernel
theorem d_Xpresent_31 : decode b_Xpresent 31 = .ok (.istore 4, 2) := by decide +kernel
theorem d_Xpresent_33 : decode b_Xpresent 33 = .ok (.iload 4, 2) := by decide +kernel
theorem d_Xpresent_35 : decode b_Xpresent 35 = .ok (.ifCond .lt 6, 3) := by decide +kernel
theorem d_Xpresent_38 : decode b_Xpresent 38 = .ok (.iinc 2 1, 3) := by decide +kernel
theorem d_Xpresent_41 : decode b_Xpresent 41 = .ok (.iinc 3 1, 3) := by decide +kernel
theorem d_Xpresent_44 : decode b_Xpresent 44 = .ok (.goto (-29), 3) := by decide +kernel
theorem d_Xpresent_47 : decode b_Xpresent 47 = .ok (.iload_n 2, 1) := by decide +kernel
theorem d_Xpresent_48 : decode b_Xpresent 48 = .ok (.ireturn, 1) := by decide +kernel
theorem d_XinUse_0 : decode b_XinUse 0 = .ok (.aload_n 0, 1) := by decide +kernel
theorem d_XinUse_1 : decode b_XinUse 1 = .ok (.invokevirtual 83, 3) := by decide +kernel
theorem d_XinUse_4 : decode b_XinUse 4 = .ok (.ireturn, 1) := by decide +kernel
theorem d_Xdigest_0 : decode b_Xdigest 0 = .ok (.iload_n 1, 1) := by decide +kernel
theorem d_Xdigest_1 : decode b_Xdigest 1 = .ok (.ifCond .lt 8, 3) := by decide +kernel
theorem d_Xdigest_4 : decode b_Xdigest 4 = .ok (.iload_n 1, 1) := by decide +kernel
theorem d_Xdigest_5 : decode b_Xdigest 5 = .ok (.iconst 1, 1) := by decide +kernel
theorem d_Xdigest_6 : decode b_Xdigest 6 = .ok (.if_icmp .le 5, 3) := by decide +kernel
theorem d_Xdigest_9 : decode b_Xdigest 9 = .ok (.iconst 0, 1) := by decide +kernel
theorem d_Xdigest_10 : decode b_Xdigest 10 = .ok (.ireturn, 1) := by decide +kernel
theorem d_Xdigest_11 : decode b_Xdigest 11 = .ok (.iconst 0, 1) := by decide +kernel
theorem d_Xdigest_12 : decode b_Xdigest 12 = .ok (.istore_n 2, 1) := by decide +kernel
theorem d_Xdigest_13 : decode b_Xdigest 13 = .ok (.iconst 0, 1) := by decide +kernel
theorem d_Xdigest_14 : decode b_Xdigest 14 = .ok (.istore_n 3, 1) := by decide +kernel
theorem d_Xdigest_15 : decode b_Xdigest 15 = .ok (.iload_n 3, 1) := by decide +kernel
theorem d_Xdigest_16 : decode b_Xdigest 16 = .ok (.bipush 16, 2) := by decide +kernel
theorem d_Xdigest_18 : decode b_Xdigest 18 = .ok (.if_icmp .ge 48, 3) := by decide +kernel
theorem d_Xdigest_21 : decode b_Xdigest 21 = .ok (.iconst 0, 1) := by decide +kernel
theorem d_Xdigest_22 : decode b_Xdigest 22 = .ok (.istore 4, 2) := by decide +kernel
theorem d_Xdigest_24 : decode b_Xdigest 24 = .ok (.iload 4, 2) := by decide +kernel
theorem d_Xdigest_26 : decode b_Xdigest 26 = .ok (.iconst 4, 1) := by decide +kernel
theorem d_Xdigest_27 : decode b_Xdigest 27 = .ok (.if_icmp .ge 33, 3) := by decide +kernel
theorem d_Xdigest_30 : decode b_Xdigest 30 = .ok (.aload_n 0, 1) := by decide +kernel
theorem d_Xdigest_31 : decode b_Xdigest 31 = .ok (.iload_n 1, 1) := by decide +kernel
theorem d_Xdigest_32 : decode b_Xdigest 32 = .ok (.iload_n 3, 1) := by decide +kernel
theorem d_Xdigest_33 : decode b_Xdigest 33 = .ok (.iload 4, 2) := by decide +kernel
theorem d_Xdigest_35 : decode b_Xdigest 35 = .ok (.invokevirtual 102, 3) := by decide +kernel
theorem d_Xdigest_38 : decode b_Xdigest 38 = .ok (.istore 5, 2) := by decide +kernel
theorem d_Xdigest_40 : decode b_Xdigest 40 = .ok (.iload_n 2, 1) := by decide +kernel
theorem d_Xdigest_41 : decode b_Xdigest 41 = .ok (.iload 5, 2) := by decide +kernel
theorem d_Xdigest_43 : decode b_Xdigest 43 = .ok (.iconst 4, 1) := by decide +kernel
theorem d_Xdigest_44 : decode b_Xdigest 44 = .ok (.iload_n 3, 1) := by decide +kernel
theorem d_Xdigest_45 : decode b_Xdigest 45 = .ok (.imul, 1) := by decide +kernel
theorem d_Xdigest_46 : decode b_Xdigest 46 = .ok (.iload 4, 2) := by decide +kernel
theorem d_Xdigest_48 : decode b_Xdigest 48 = .ok (.iadd, 1) := by decide +kernel
theorem d_Xdigest_49 : decode b_Xdigest 49 = .ok (.iconst 1, 1) := by decide +kernel
theorem d_Xdigest_50 : decode b_Xdigest 50 = .ok (.iadd, 1) := by decide +kernel
theorem d_Xdigest_51 : decode b_Xdigest 51 = .ok (.imul, 1) := by decide +kernel
theorem d_Xdigest_52 : decode b_Xdigest 52 = .ok (.iadd, 1) := by decide +kernel
theorem d_Xdigest_53 : decode b_Xdigest 53 = .ok (.istore_n 2, 1) := by decide +kernel
theorem d_Xdigest_54 : decode b_Xdigest 54 = .ok (.iinc 4 1, 3) := by decide +kernel
theorem d_Xdigest_57 : decode b_Xdigest 57 = .ok (.goto (-33), 3) := by decide +kernel
theorem d_Xdigest_60 : decode b_Xdigest 60 = .ok (.iinc 3 1, 3) := by decide +kernel
theorem d_Xdigest_63 : decode b_Xdigest 63 = .ok (.goto (-48), 3) := by decide +kernel
theorem d_Xdigest_66 : decode b_Xdigest 66 = .ok (.iload_n 2, 1) := by decide +kernel
theorem d_Xdigest_67 : decode b_Xdigest 67 = .ok (.ireturn, 1) := by decide +kernel
end
section
theorem d_Minit_0 : decode b_Minit 0 = .ok (.aload_n 0, 1) := by decide +kernel
theorem d_Minit_1 : decode b_Minit 1 = .ok (.invokespecial 1, 3) := by decide +kernel
theorem d_Minit_4 : decode b_Minit 4 = .ok (.aload_n 0, 1) := by decide +kernel
theorem d_Minit_5 : decode b_Minit 5 = .ok (.bipush 32, 2) := by decide +kernel
theorem d_Minit_7 : decode b_Minit 7 = .ok (.newarray .int, 2) := by decide +kernel
theorem d_Minit_9 : decode b_Minit 9 = .ok (.putfield 7, 3) := by decide +kernel
theorem d_Minit_12 : decode b_Minit 12 = .ok (.aload_n 0, 1) := by decide +kernel
theorem d_Minit_13 : decode b_Minit 13 = .ok (.sipush 128, 3) := by decide +kernel
theorem d_Minit_16 : decode b_Minit 16 = .ok (.newarray .int, 2) := by decide +kernel
theorem d_Minit_18 : decode b_Minit 18 = .ok (.putfield 13, 3) := by decide +kernel
theorem d_Minit_21 : decode b_Minit 21 = .ok (.aload_n 0, 1) := by decide +kernel
theorem d_Minit_22 : decode b_Minit 22 = .ok (.bipush 16, 2) := by decide +kernel
theorem d_Minit_24 : decode b_Minit 24 = .ok (.newarray .boolean, 2) := by decide +kernel
theorem d_Minit_26 : decode b_Minit 26 = .ok (.putfield 16, 3) := by decide +kernel
theorem d_Minit_29 : decode b_Minit 29 = .ok (.return_, 1) := by decide +kernel
theorem d_MisPage_0 : decode b_MisPage 0 = .ok (.iload_n 1, 1) := by decide +kernel
theorem d_MisPage_1 : decode b_MisPage 1 = .ok (.ifCond .lt 22, 3) := by decide +kernel
theorem d_MisPage_4 : decode b_MisPage 4 = .ok (.iload_n 1, 1) := by decide +kernel
theorem d_MisPage_5 : decode b_MisPage 5 = .ok (.iconst 1, 1) := by decide +kernel
theorem d_MisPage_6 : decode b_MisPage 6 = .ok (.if_icmp .gt 17, 3) := by decide +kernel
theorem d_MisPage_9 : decode b_MisPage 9 = .ok (.iload_n 2, 1) := by decide +kernel
theorem d_MisPage_10 : decode b_MisPage 10 = .ok (.ifCond .lt 13, 3) := by decide +kernel
theorem d_MisPage_13 : decode b_MisPage 13 = .ok (.iload_n 2, 1) := by decide +kernel
theorem d_MisPage_14 : decode b_MisPage 14 = .ok (.bipush 15, 2) := by decide +kernel
theorem d_MisPage_16 : decode b_MisPage 16 = .ok (.if_icmp .gt 7, 3) := by decide +kernel
theorem d_MisPage_19 : decode b_MisPage 19 = .ok (.iconst 1, 1) := by decide +kernel
theorem d_MisPage_20 : decode b_MisPage 20 = .ok (.goto 4, 3) := by decide +kernel
theorem d_MisPage_23 : decode b_MisPage 23 = .ok (.iconst 0, 1) := by decide +kernel
theorem d_MisPage_24 : decode b_MisPage 24 = .ok (.ireturn, 1) := by decide +kernel
theorem d_Mtouch_0 : decode b_Mtouch 0 = .ok (.aload_n 0, 1) := by decide +kernel
theorem d_Mtouch_1 : decode b_Mtouch 1 = .ok (.iload_n 1, 1) := by decide +kernel
theorem d_Mtouch_2 : decode b_Mtouch 2 = .ok (.iload_n 2, 1) := by decide +kernel
theorem d_Mtouch_3 : decode b_Mtouch 3 = .ok (.invokevirtual 20, 3) := by decide +kernel
theorem d_Mtouch_6 : decode b_Mtouch 6 = .ok (.ifCond .ne 5, 3) := by decide +kernel
theorem d_Mtouch_9 : decode b_Mtouch 9 = .ok (.iconst (-1), 1) := by decide +kernel
theorem d_Mtouch_10 : decode b_Mtouch 10 = .ok (.ireturn, 1) := by decide +kernel
theorem d_Mtouch_11 : decode b_Mtouch 11 = .ok (.bipush 16, 2) := by decide +kernel
theorem d_Mtouch_13 : decode b_Mtouch 13 = .ok (.iload_n 1, 1) := by decide +kernel
theorem d_Mtouch_14 : decode b_Mtouch 14 = .ok (.imul, 1) := by decide +kernel
theorem d_Mtouch_15 : decode b_Mtouch 15 = .ok (.iload_n 2, 1) := by decide +kernel
theorem d_Mtouch_16 : decode b_Mtouch 16 = .ok (.iadd, 1) := by decide +kernel
theorem d_Mtouch_17 : decode b_Mtouch 17 = .ok (.istore_n 3, 1) := by decide +kernel
theorem d_Mtouch_18 : decode b_Mtouch 18 = .ok (.aload_n 0, 1) := by decide +kernel
theorem d_Mtouch_19 : decode b_Mtouch 19 = .ok (.getfield 7, 3) := by decide +kernel
theorem d_Mtouch_22 : decode b_Mtouch 22 = .ok (.iload_n 3, 1) := by decide +kernel
theorem d_Mtouch_23 : decode b_Mtouch 23 = .ok (.iaload, 1) := by decide +kernel
theorem d_Mtouch_24 : decode b_Mtouch 24 = .ok (.ifCond .eq 5, 3) := by decide +kernel
theorem d_Mtouch_27 : decode b_Mtouch 27 = .ok (.iconst 0, 1) := by decide +kernel
theorem d_Mtouch_28 : decode b_Mtouch 28 = .ok (.ireturn, 1) := by decide +kernel
theorem d_Mtouch_29 : decode b_Mtouch 29 = .ok (.aload_n 0, 1) := by decide +kernel
theorem d_Mtouch_30 : decode b_Mtouch 30 = .ok (.invokevirtual 24, 3) := by decide +kernel
theorem d_Mtouch_33 : decode b_Mtouch 33 = .ok (.bipush 16, 2) := by decide +kernel
theorem d_Mtouch_35 : decode b_Mtouch 35 = .ok (.if_icmp .ne 6, 3) := by decide +kernel
theorem d_Mtouch_38 : decode b_Mtouch 38 = .ok (.bipush (-2), 2) := by decide +kernel
theorem d_Mtouch_40 : decode b_Mtouch 40 = .ok (.ireturn, 1) := by decide +kernel
theorem d_Mtouch_41 : decode b_Mtouch 41 = .ok (.aload_n 0, 1) := by decide +kernel
theorem d_Mtouch_42 : decode b_Mtouch 42 = .ok (.getfield 7, 3) := by decide +kernel
theorem d_Mtouch_45 : decode b_Mtouch 45 = .ok (.iload_n 3, 1) := by decide +kernel
theorem d_Mtouch_46 : decode b_Mtouch 46 = .ok (.iconst 1, 1) := by decide +kernel
theorem d_Mtouch_47 : decode b_Mtouch 47 = .ok (.iastore, 1) := by decide +kernel
theorem d_Mtouch_48 : decode b_Mtouch 48 = .ok (.iconst 0, 1) := by decide +kernel
theorem d_Mtouch_49 : decode b_Mtouch 49 = .ok (.istore 4, 2) := by decide +kernel
theorem d_Mtouch_51 : decode b_Mtouch 51 = .ok (.iload 4, 2) := by decide +kernel
theorem d_Mtouch_53 : decode b_Mtouch 53 = .ok (.iconst 4, 1) := by decide +kernel
theorem d_Mtouch_54 : decode b_Mtouch 54 = .ok (.if_icmp .ge 21, 3) := by decide +kernel
theorem d_Mtouch_57 : decode b_Mtouch 57 = .ok (.aload_n 0, 1) := by decide +kernel
theorem d_Mtouch_58 : decode b_Mtouch 58 = .ok (.getfield 13, 3) := by decide +kernel
theorem d_Mtouch_61 : decode b_Mtouch 61 = .ok (.iconst 4, 1) := by decide +kernel
theorem d_Mtouch_62 : decode b_Mtouch 62 = .ok (.iload_n 3, 1) := by decide +kernel
theorem d_Mtouch_63 : decode b_Mtouch 63 = .ok (.imul, 1) := by decide +kernel
theorem d_Mtouch_64 : decode b_Mtouch 64 = .ok (.iload 4, 2) := by decide +kernel
theorem d_Mtouch_66 : decode b_Mtouch 66 = .ok (.iadd, 1) := by decide +kernel
theorem d_Mtouch_67 : decode b_Mtouch 67 = .ok (.iconst 0, 1) := by decide +kernel
theorem d_Mtouch_68 : decode b_Mtouch 68 = .ok (.iastore, 1) := by decide +kernel
theorem d_Mtouch_69 : decode b_Mtouch 69 = .ok (.iinc 4 1, 3) := by decide +kernel
theorem d_Mtouch_72 : decode b_Mtouch 72 = .ok (.goto (-21), 3) := by decide +kernel
theorem d_Mtouch_75 : decode b_Mtouch 75 = .ok (.iconst 1, 1) := by decide +kernel
theorem d_Mtouch_76 : decode b_Mtouch 76 = .ok (.ireturn, 1) := by decide +kernel
theorem d_Mown_0 : decode b_Mown 0 = .ok (.aload_n 0, 1) := by decide +kernel
theorem d_Mown_1 : decode b_Mown 1 = .ok (.getfield 7, 3) := by decide +kernel
theorem d_Mown_4 : decode b_Mown 4 = .ok (.bipush 16, 2) := by decide +kernel
theorem d_Mown_6 : decode b_Mown 6 = .ok (.iload_n 1, 1) := by decide +kernel
theorem d_Mown_7 : decode b_Mown 7 = .ok (.imul, 1) := by decide +kernel
theorem d_Mown_8 : decode b_Mown 8 = .ok (.iload_n 2, 1) := by decide +kernel
theorem d_Mown_9 : decode b_Mown 9 = .ok (.iadd, 1) := by decide +kernel
theorem d_Mown_10 : decode b_Mown 10 = .ok (.iaload, 1) := by decide +kernel
theorem d_Mown_11 : decode b_Mown 11 = .ok (.iconst 2, 1) := by decide +kernel
theorem d_Mown_12 : decode b_Mown 12 = .ok (.if_icmp .ne 6, 3) := by decide +kernel
theorem d_Mown_15 : decode b_Mown 15 = .ok (.bipush (-4), 2) := by decide +kernel
theorem d_Mown_17 : decode b_Mown 17 = .ok (.ireturn, 1) := by decide +kernel
theorem d_Mown_18 : decode b_Mown 18 = .ok (.aload_n 0, 1) := by decide +kernel
theorem d_Mown_19 : decode b_Mown 19 = .ok (.getfield 7, 3) := by decide +kernel
theorem d_Mown_22 : decode b_Mown 22 = .ok (.bipush 16, 2) := by decide +kernel
theorem d_Mown_24 : decode b_Mown 24 = .ok (.iload_n 1, 1) := by decide +kernel
theorem d_Mown_25 : decode b_Mown 25 = .ok (.imul, 1) := by decide +kernel
theorem d_Mown_26 : decode b_Mown 26 = .ok (.iload_n 2, 1) := by decide +kernel
theorem d_Mown_27 : decode b_Mown 27 = .ok (.iadd, 1) := by decide +kernel
theorem d_Mown_28 : decode b_Mown 28 = .ok (.iaload, 1) := by decide +kernel
theorem d_Mown_29 : decode b_Mown 29 = .ok (.ifCond .ne 21, 3) := by decide +kernel
theorem d_Mown_32 : decode b_Mown 32 = .ok (.aload_n 0, 1) := by decide +kernel
theorem d_Mown_33 : decode b_Mown 33 = .ok (.iload_n 1, 1) := by decide +kernel
theorem d_Mown_34 : decode b_Mown 34 = .ok (.iload_n 2, 1) := by decide +kernel
theorem d_Mown_35 : decode b_Mown 35 = .ok (.invokevirtual 28, 3) := by decide +kernel
theorem d_Mown_38 : decode b_Mown 38 = .ok (.bipush (-2), 2) := by decide +kernel
theorem d_Mown_40 : decode b_Mown 40 = .ok (.if_icmp .ne 8, 3) := by decide +kernel
theorem d_Mown_43 : decode b_Mown 43 = .ok (.bipush (-2), 2) := by decide +kernel
theorem d_Mown_45 : decode b_Mown 45 = .ok (.goto 4, 3) := by decide +kernel
theorem d_Mown_48 : decode b_Mown 48 = .ok (.iconst 0, 1) := by decide +kernel
theorem d_Mown_49 : decode b_Mown 49 = .ok (.ireturn, 1) := by decide +kernel
theorem d_Mown_50 : decode b_Mown 50 = .ok (.aload_n 0, 1) := by decide +kernel
theorem d_Mown_51 : decode b_Mown 51 = .ok (.getfield 16, 3) := by decide +kernel
theorem d_Mown_54 : decode b_Mown 54 = .ok (.iload_n 2, 1) := by decide +kernel
theorem d_Mown_55 : decode b_Mown 55 = .ok (.baload, 1) := by decide +kernel
theorem d_Mown_56 : decode b_Mown 56 = .ok (.ifCond .eq 22, 3) := by decide +kernel
theorem d_Mown_59 : decode b_Mown 59 = .ok (.aload_n 0, 1) := by decide +kernel
theorem d_Mown_60 : decode b_Mown 60 = .ok (.invokevirtual 24, 3) := by decide +kernel
theorem d_Mown_63 : decode b_Mown 63 = .ok (.bipush 16, 2) := by decide +kernel
theorem d_Mown_65 : decode b_Mown 65 = .ok (.if_icmp .ne 6, 3) := by decide +kernel
theorem d_Mown_68 : decode b_Mown 68 = .ok (.bipush (-2), 2) := by decide +kernel
theorem d_Mown_70 : decode b_Mown 70 = .ok (.ireturn, 1) := by decide +kernel
theorem d_Mown_71 : decode b_Mown 71 = .ok (.aload_n 0, 1) := by decide +kernel
theorem d_Mown_72 : decode b_Mown 72 = .ok (.getfield 16, 3) := by decide +kernel
theorem d_Mown_75 : decode b_Mown 75 = .ok (.iload_n 2, 1) := by decide +kernel
theorem d_Mown_76 : decode b_Mown 76 = .ok (.iconst 0, 1) := by decide +kernel
theorem d_Mown_77 : decode b_Mown 77 = .ok (.bastore, 1) := by decide +kernel
theorem d_Mown_78 : decode b_Mown 78 = .ok (.iconst 0, 1) := by decide +kernel
theorem d_Mown_79 : decode b_Mown 79 = .ok (.ireturn, 1) := by decide +kernel
theorem d_Mwrite_0 : decode b_Mwrite 0 = .ok (.aload_n 0, 1) := by decide +kernel
theorem d_Mwrite_1 : decode b_Mwrite 1 = .ok (.iload_n 1, 1) := by decide +kernel
theorem d_Mwrite_2 : decode b_Mwrite 2 = .ok (.iload_n 2, 1) := by decide +kernel
theorem d_Mwrite_3 : decode b_Mwrite 3 = .ok (.invokevirtual 20, 3) := by decide +kernel
theorem d_Mwrite_6 : decode b_Mwrite 6 = .ok (.ifCond .eq 12, 3) := by decide +kernel
theorem d_Mwrite_9 : decode b_Mwrite 9 = .ok (.iload_n 3, 1) := by decide +kernel
theorem d_Mwrite_10 : decode b_Mwrite 10 = .ok (.ifCond .lt 8, 3) := by decide +kernel
theorem d_Mwrite_13 : decode b_Mwrite 13 = .ok (.iload_n 3, 1) := by decide +kernel
theorem d_Mwrite_14 : decode b_Mwrite 14 = .ok (.iconst 3, 1) := by decide +kernel
theorem d_Mwrite_15 : decode b_Mwrite 15 = .ok (.if_icmp .le 5, 3) := by decide +kernel
theorem d_Mwrite_18 : decode b_Mwrite 18 = .ok (.iconst (-1), 1) := by decide +kernel
theorem d_Mwrite_19 : decode b_Mwrite 19 = .ok (.ireturn, 1) := by decide +kernel
theorem d_Mwrite_20 : decode b_Mwrite 20 = .ok (.aload_n 0, 1) := by decide +kernel
theorem d_Mwrite_21 : decode b_Mwrite 21 = .ok (.iload_n 1, 1) := by decide +kernel
theorem d_Mwrite_22 : decode b_Mwrite 22 = .ok (.iload_n 2, 1) := by decide +kernel
theorem d_Mwrite_23 : decode b_Mwrite 23 = .ok (.invokevirtual 32, 3) := by decide +kernel
theorem d_Mwrite_26 : decode b_Mwrite 26 = .ok (.istore 5, 2) := by decide +kernel
theorem d_Mwrite_28 : decode b_Mwrite 28 = .ok (.iload 5, 2) := by decide +kernel
theorem d_Mwrite_30 : decode b_Mwrite 30 = .ok (.ifCond .ne 20, 3) := by decide +kernel
theorem d_Mwrite_33 : decode b_Mwrite 33 = .ok (.aload_n 0, 1) := by decide +kernel
theorem d_Mwrite_34 : decode b_Mwrite 34 = .ok (.getfield 13, 3) := by decide +kernel
theorem d_Mwrite_37 : decode b_Mwrite 37 = .ok (.iconst 4, 1) := by decide +kernel
theorem d_Mwrite_38 : decode b_Mwrite 38 = .ok (.bipush 16, 2) := by decide +kernel
theorem d_Mwrite_40 : decode b_Mwrite 40 = .ok (.iload_n 1, 1) := by decide +kernel
theorem d_Mwrite_41 : decode b_Mwrite 41 = .ok (.imul, 1) := by decide +kernel
theorem d_Mwrite_42 : decode b_Mwrite 42 = .ok (.iload_n 2, 1) := by decide +kernel
theorem d_Mwrite_43 : decode b_Mwrite 43 = .ok (.iadd, 1) := by decide +kernel
theorem d_Mwrite_44 : decode b_Mwrite 44 = .ok (.imul, 1) := by decide +kernel
theorem d_Mwrite_45 : decode b_Mwrite 45 = .ok (.iload_n 3, 1) := by decide +kernel
theorem d_Mwrite_46 : decode b_Mwrite 46 = .ok (.iadd, 1) := by decide +kernel
theorem d_Mwrite_47 : decode b_Mwrite 47 = .ok (.iload 4, 2) := by decide +kernel
theorem d_Mwrite_49 : decode b_Mwrite 49 = .ok (.iastore, 1) := by decide +kernel
theorem d_Mwrite_50 : decode b_Mwrite 50 = .ok (.iload 5, 2) := by decide +kernel
theorem d_Mwrite_52 : decode b_Mwrite 52 = .ok (.ireturn, 1) := by decide +kernel
theorem d_Mread_0 : decode b_Mread 0 = .ok (.aload_n 0, 1) := by decide +kernel
theorem d_Mread_1 : decode b_Mread 1 = .ok (.iload_n 1, 1) := by decide +kernel
theorem d_Mread_2 : decode b_Mread 2 = .ok (.iload_n 2, 1) := by decide +kernel
theorem d_Mread_3 : decode b_Mread 3 = .ok (.invokevirtual 20, 3) := by decide +kernel
theorem d_Mread_6 : decode b_Mread 6 = .ok (.ifCond .eq 26, 3) := by decide +kernel
theorem d_Mread_9 : decode b_Mread 9 = .ok (.iload_n 3, 1) := by decide +kernel
theorem d_Mread_10 : decode b_Mread 10 = .ok (.ifCond .lt 22, 3) := by decide +kernel
theorem d_Mread_13 : decode b_Mread 13 = .ok (.iload_n 3, 1) := by decide +kernel
theorem d_Mread_14 : decode b_Mread 14 = .ok (.iconst 3, 1) := by decide +kernel
theorem d_Mread_15 : decode b_Mread 15 = .ok (.if_icmp .gt 17, 3) := by decide +kernel
theorem d_Mread_18 : decode b_Mread 18 = .ok (.aload_n 0, 1) := by decide +kernel
theorem d_Mread_19 : decode b_Mread 19 = .ok (.getfield 7, 3) := by decide +kernel
theorem d_Mread_22 : decode b_Mread 22 = .ok (.bipush 16, 2) := by decide +kernel
theorem d_Mread_24 : decode b_Mread 24 = .ok (.iload_n 1, 1) := by decide +kernel
theorem d_Mread_25 : decode b_Mread 25 = .ok (.imul, 1) := by decide +kernel
theorem d_Mread_26 : decode b_Mread 26 = .ok (.iload_n 2, 1) := by decide +kernel
theorem d_Mread_27 : decode b_Mread 27 = .ok (.iadd, 1) := by decide +kernel
theorem d_Mread_28 : decode b_Mread 28 = .ok (.iaload, 1) := by decide +kernel
theorem d_Mread_29 : decode b_Mread 29 = .ok (.ifCond .ne 5, 3) := by decide +kernel
theorem d_Mread_32 : decode b_Mread 32 = .ok (.iconst 0, 1) := by decide +kernel
theorem d_Mread_33 : decode b_Mread 33 = .ok (.ireturn, 1) := by decide +kernel
theorem d_Mread_34 : decode b_Mread 34 = .ok (.aload_n 0, 1) := by decide +kernel
theorem d_Mread_35 : decode b_Mread 35 = .ok (.getfield 13, 3) := by decide +kernel
theorem d_Mread_38 : decode b_Mread 38 = .ok (.iconst 4, 1) := by decide +kernel
theorem d_Mread_39 : decode b_Mread 39 = .ok (.bipush 16, 2) := by decide +kernel
theorem d_Mread_41 : decode b_Mread 41 = .ok (.iload_n 1, 1) := by decide +kernel
theorem d_Mread_42 : decode b_Mread 42 = .ok (.imul, 1) := by decide +kernel
theorem d_Mread_43 : decode b_Mread 43 = .ok (.iload_n 2, 1) := by decide +kernel
theorem d_Mread_44 : decode b_Mread 44 = .ok (.iadd, 1) := by decide +kernel
theorem d_Mread_45 : decode b_Mread 45 = .ok (.imul, 1) := by decide +kernel
theorem d_Mread_46 : decode b_Mread 46 = .ok (.iload_n 3, 1) := by decide +kernel
theorem d_Mread_47 : decode b_Mread 47 = .ok (.iadd, 1) := by decide +kernel
theorem d_Mread_48 : decode b_Mread 48 = .ok (.iaload, 1) := by decide +kernel
theorem d_Mread_49 : decode b_Mread 49 = .ok (.ireturn, 1) := by decide +kernel
theorem d_Munmap_0 : decode b_Munmap 0 = .ok (.aload_n 0, 1) := by decide +kernel
theorem d_Munmap_1 : decode b_Munmap 1 = .ok (.iload_n 1, 1) := by decide +kernel
theorem d_Munmap_2 : decode b_Munmap 2 = .ok (.iload_n 2, 1) := by decide +kernel
theorem d_Munmap_3 : decode b_Munmap 3 = .ok (.invokevirtual 20, 3) := by decide +kernel
theorem d_Munmap_6 : decode b_Munmap 6 = .ok (.ifCond .ne 5, 3) := by decide +kernel
theorem d_Munmap_9 : decode b_Munmap 9 = .ok (.iconst (-1), 1) := by decide +kernel
theorem d_Munmap_10 : decode b_Munmap 10 = .ok (.ireturn, 1) := by decide +kernel
theorem d_Munmap_11 : decode b_Munmap 11 = .ok (.aload_n 0, 1) := by decide +kernel
theorem d_Munmap_12 : decode b_Munmap 12 = .ok (.getfield 7, 3) := by decide +kernel
theorem d_Munmap_15 : decode b_Munmap 15 = .ok (.bipush 16, 2) := by decide +kernel
theorem d_Munmap_17 : decode b_Munmap 17 = .ok (.iload_n 1, 1) := by decide +kernel
theorem d_Munmap_18 : decode b_Munmap 18 = .ok (.imul, 1) := by decide +kernel
theorem d_Munmap_19 : decode b_Munmap 19 = .ok (.iload_n 2, 1) := by decide +kernel
theorem d_Munmap_20 : decode b_Munmap 20 = .ok (.iadd, 1) := by decide +kernel
theorem d_Munmap_21 : decode b_Munmap 21 = .ok (.iaload, 1) := by decide +kernel
theorem d_Munmap_22 : decode b_Munmap 22 = .ok (.ifCond .ne 6, 3) := by decide +kernel
theorem d_Munmap_25 : decode b_Munmap 25 = .ok (.bipush (-3), 2) := by decide +kernel
theorem d_Munmap_27 : decode b_Munmap 27 = .ok (.ireturn, 1) := by decide +kernel
theorem d_Munmap_28 : decode b_Munmap 28 = .ok (.aload_n 0, 1) := by decide +kernel
theorem d_Munmap_29 : decode b_Munmap 29 = .ok (.getfield 7, 3) := by decide +kernel
theorem d_Munmap_32 : decode b_Munmap 32 = .ok (.bipush 16, 2) := by decide +kernel
theorem d_Munmap_34 : decode b_Munmap 34 = .ok (.iload_n 1, 1) := by decide +kernel
theorem d_Munmap_35 : decode b_Munmap 35 = .ok (.imul, 1) := by decide +kernel
theorem d_Munmap_36 : decode b_Munmap 36 = .ok (.iload_n 2, 1) := by decide +kernel
theorem d_Munmap_37 : decode b_Munmap 37 = .ok (.iadd, 1) := by decide +kernel
theorem d_Munmap_38 : decode b_Munmap 38 = .ok (.iconst 0, 1) := by decide +kernel
theorem d_Munmap_39 : decode b_Munmap 39 = .ok (.iastore, 1) := by decide +kernel
theorem d_Munmap_40 : decode b_Munmap 40 = .ok (.aload_n 0, 1) := by decide +kernel
theorem d_Munmap_41 : decode b_Munmap 41 = .ok (.getfield 16, 3) := by decide +kernel
theorem d_Munmap_44 : decode b_Munmap 44 = .ok (.iload_n 2, 1) := by decide +kernel
theorem d_Munmap_45 : decode b_Munmap 45 = .ok (.iconst 0, 1) := by decide +kernel
theorem d_Munmap_46 : decode b_Munmap 46 = .ok (.bastore, 1) := by decide +kernel
theorem d_Munmap_47 : decode b_Munmap 47 = .ok (.iconst 0, 1) := by decide +kernel
theorem d_Munmap_48 : decode b_Munmap 48 = .ok (.ireturn, 1) := by decide +kernel
theorem d_Mprotect_0 : decode b_Mprotect 0 = .ok (.aload_n 0, 1) := by decide +kernel
theorem d_Mprotect_1 : decode b_Mprotect 1 = .ok (.iload_n 1, 1) := by decide +kernel
theorem d_Mprotect_2 : decode b_Mprotect 2 = .ok (.iload_n 2, 1) := by decide +kernel
theorem d_Mprotect_3 : decode b_Mprotect 3 = .ok (.invokevirtual 20, 3) := by decide +kernel
theorem d_Mprotect_6 : decode b_Mprotect 6 = .ok (.ifCond .ne 5, 3) := by decide +kernel
theorem d_Mprotect_9 : decode b_Mprotect 9 = .ok (.iconst (-1), 1) := by decide +kernel
theorem d_Mprotect_10 : decode b_Mprotect 10 = .ok (.ireturn, 1) := by decide +kernel
theorem d_Mprotect_11 : decode b_Mprotect 11 = .ok (.aload_n 0, 1) := by decide +kernel
theorem d_Mprotect_12 : decode b_Mprotect 12 = .ok (.getfield 7, 3) := by decide +kernel
theorem d_Mprotect_15 : decode b_Mprotect 15 = .ok (.bipush 16, 2) := by decide +kernel
theorem d_Mprotect_17 : decode b_Mprotect 17 = .ok (.iload_n 1, 1) := by decide +kernel
theorem d_Mprotect_18 : decode b_Mprotect 18 = .ok (.imul, 1) := by decide +kernel
theorem d_Mprotect_19 : decode b_Mprotect 19 = .ok (.iload_n 2, 1) := by decide +kernel
theorem d_Mprotect_20 : decode b_Mprotect 20 = .ok (.iadd, 1) := by decide +kernel
theorem d_Mprotect_21 : decode b_Mprotect 21 = .ok (.iaload, 1) := by decide +kernel
theorem d_Mprotect_22 : decode b_Mprotect 22 = .ok (.istore 4, 2) := by decide +kernel
theorem d_Mprotect_24 : decode b_Mprotect 24 = .ok (.iload 4, 2) := by decide +kernel
theorem d_Mprotect_26 : decode b_Mprotect 26 = .ok (.ifCond .ne 6, 3) := by decide +kernel
theorem d_Mprotect_29 : decode b_Mprotect 29 = .ok (.bipush (-3), 2) := by decide +kernel
theorem d_Mprotect_31 : decode b_Mprotect 31 = .ok (.ireturn, 1) := by decide +kernel
theorem d_Mprotect_32 : decode b_Mprotect 32 = .ok (.aload_n 0, 1) := by decide +kernel
theorem d_Mprotect_33 : decode b_Mprotect 33 = .ok (.getfield 7, 3) := by decide +kernel
theorem d_Mprotect_36 : decode b_Mprotect 36 = .ok (.bipush 16, 2) := by decide +kernel
theorem d_Mprotect_38 : decode b_Mprotect 38 = .ok (.iload_n 1, 1) := by decide +kernel
theorem d_Mprotect_39 : decode b_Mprotect 39 = .ok (.imul, 1) := by decide +kernel
theorem d_Mprotect_40 : decode b_Mprotect 40 = .ok (.iload_n 2, 1) := by decide +kernel
theorem d_Mprotect_41 : decode b_Mprotect 41 = .ok (.iadd, 1) := by decide +kernel
theorem d_Mprotect_42 : decode b_Mprotect 42 = .ok (.iload_n 3, 1) := by decide +kernel
theorem d_Mprotect_43 : decode b_Mprotect 43 = .ok (.ifCond .eq 7, 3) := by decide +kernel
theorem d_Mprotect_46 : decode b_Mprotect 46 = .ok (.iconst 2, 1) := by decide +kernel
theorem d_Mprotect_47 : decode b_Mprotect 47 = .ok (.goto 4, 3) := by decide +kernel
theorem d_Mprotect_50 : decode b_Mprotect 50 = .ok (.iconst 1, 1) := by decide +kernel
theorem d_Mprotect_51 : decode b_Mprotect 51 = .ok (.iastore, 1) := by decide +kernel
theorem d_Mprotect_52 : decode b_Mprotect 52 = .ok (.iload 4, 2) := by decide +kernel
theorem d_Mprotect_54 : decode b_Mprotect 54 = .ok (.iconst 1, 1) := by decide +kernel
theorem d_Mprotect_55 : decode b_Mprotect 55 = .ok (.isub, 1) := by decide +kernel
theorem d_Mprotect_56 : decode b_Mprotect 56 = .ok (.ireturn, 1) := by decide +kernel
theorem d_Mstate_0 : decode b_Mstate 0 = .ok (.aload_n 0, 1) := by decide +kernel
theorem d_Mstate_1 : decode b_Mstate 1 = .ok (.iload_n 1, 1) := by decide +kernel
theorem d_Mstate_2 : decode b_Mstate 2 = .ok (.iload_n 2, 1) := by decide +kernel
theorem d_Mstate_3 : decode b_Mstate 3 = .ok (.invokevirtual 20, 3) := by decide +kernel
theorem d_Mstate_6 : decode b_Mstate 6 = .ok (.ifCond .eq 17, 3) := by decide +kernel
theorem d_Mstate_9 : decode b_Mstate 9 = .ok (.aload_n 0, 1) := by decide +kernel
theorem d_Mstate_10 : decode b_Mstate 10 = .ok (.getfield 7, 3) := by decide +kernel
theorem d_Mstate_13 : decode b_Mstate 13 = .ok (.bipush 16, 2) := by decide +kernel
theorem d_Mstate_15 : decode b_Mstate 15 = .ok (.iload_n 1, 1) := by decide +kernel
theorem d_Mstate_16 : decode b_Mstate 16 = .ok (.imul, 1) := by decide +kernel
theorem d_Mstate_17 : decode b_Mstate 17 = .ok (.iload_n 2, 1) := by decide +kernel
theorem d_Mstate_18 : decode b_Mstate 18 = .ok (.iadd, 1) := by decide +kernel
theorem d_Mstate_19 : decode b_Mstate 19 = .ok (.iaload, 1) := by decide +kernel
theorem d_Mstate_20 : decode b_Mstate 20 = .ok (.goto 4, 3) := by decide +kernel
theorem d_Mstate_23 : decode b_Mstate 23 = .ok (.iconst (-1), 1) := by decide +kernel
theorem d_Mstate_24 : decode b_Mstate 24 = .ok (.ireturn, 1) := by decide +kernel
theorem d_Mshared_0 : decode b_Mshared 0 = .ok (.iload_n 1, 1) := by decide +kernel
theorem d_Mshared_1 : decode b_Mshared 1 = .ok (.ifCond .lt 22, 3) := by decide +kernel
theorem d_Mshared_4 : decode b_Mshared 4 = .ok (.iload_n 1, 1) := by decide +kernel
theorem d_Mshared_5 : decode b_Mshared 5 = .ok (.bipush 15, 2) := by decide +kernel
theorem d_Mshared_7 : decode b_Mshared 7 = .ok (.if_icmp .gt 16, 3) := by decide +kernel
theorem d_Mshared_10 : decode b_Mshared 10 = .ok (.aload_n 0, 1) := by decide +kernel
theorem d_Mshared_11 : decode b_Mshared 11 = .ok (.getfield 16, 3) := by decide +kernel
theorem d_Mshared_14 : decode b_Mshared 14 = .ok (.iload_n 1, 1) := by decide +kernel
theorem d_Mshared_15 : decode b_Mshared 15 = .ok (.baload, 1) := by decide +kernel
theorem d_Mshared_16 : decode b_Mshared 16 = .ok (.ifCond .eq 7, 3) := by decide +kernel
theorem d_Mshared_19 : decode b_Mshared 19 = .ok (.iconst 1, 1) := by decide +kernel
theorem d_Mshared_20 : decode b_Mshared 20 = .ok (.goto 4, 3) := by decide +kernel
theorem d_Mshared_23 : decode b_Mshared 23 = .ok (.iconst 0, 1) := by decide +kernel
theorem d_Mshared_24 : decode b_Mshared 24 = .ok (.ireturn, 1) := by decide +kernel
theorem d_Msplit_0 : decode b_Msplit 0 = .ok (.iload_n 1, 1) := by decide +kernel
theorem d_Msplit_1 : decode b_Msplit 1 = .ok (.ifCond .lt 8, 3) := by decide +kernel
theorem d_Msplit_4 : decode b_Msplit 4 = .ok (.iload_n 1, 1) := by decide +kernel
theorem d_Msplit_5 : decode b_Msplit 5 = .ok (.iconst 1, 1) := by decide +kernel
theorem d_Msplit_6 : decode b_Msplit 6 = .ok (.if_icmp .le 5, 3) := by decide +kernel
theorem d_Msplit_9 : decode b_Msplit 9 = .ok (.iconst (-1), 1) := by decide +kernel
theorem d_Msplit_10 : decode b_Msplit 10 = .ok (.ireturn, 1) := by decide +kernel
theorem d_Msplit_11 : decode b_Msplit 11 = .ok (.iconst 0, 1) := by decide +kernel
theorem d_Msplit_12 : decode b_Msplit 12 = .ok (.istore_n 2, 1) := by decide +kernel
theorem d_Msplit_13 : decode b_Msplit 13 = .ok (.iload_n 2, 1) := by decide +kernel
theorem d_Msplit_14 : decode b_Msplit 14 = .ok (.bipush 16, 2) := by decide +kernel
theorem d_Msplit_16 : decode b_Msplit 16 = .ok (.if_icmp .ge 97, 3) := by decide +kernel
theorem d_Msplit_19 : decode b_Msplit 19 = .ok (.bipush 16, 2) := by decide +kernel
theorem d_Msplit_21 : decode b_Msplit 21 = .ok (.iload_n 1, 1) := by decide +kernel
theorem d_Msplit_22 : decode b_Msplit 22 = .ok (.imul, 1) := by decide +kernel
theorem d_Msplit_23 : decode b_Msplit 23 = .ok (.iload_n 2, 1) := by decide +kernel
theorem d_Msplit_24 : decode b_Msplit 24 = .ok (.iadd, 1) := by decide +kernel
theorem d_Msplit_25 : decode b_Msplit 25 = .ok (.istore_n 3, 1) := by decide +kernel
theorem d_Msplit_26 : decode b_Msplit 26 = .ok (.bipush 16, 2) := by decide +kernel
theorem d_Msplit_28 : decode b_Msplit 28 = .ok (.iconst 1, 1) := by decide +kernel
theorem d_Msplit_29 : decode b_Msplit 29 = .ok (.iload_n 1, 1) := by decide +kernel
theorem d_Msplit_30 : decode b_Msplit 30 = .ok (.isub, 1) := by decide +kernel
theorem d_Msplit_31 : decode b_Msplit 31 = .ok (.imul, 1) := by decide +kernel
theorem d_Msplit_32 : decode b_Msplit 32 = .ok (.iload_n 2, 1) := by decide +kernel
theorem d_Msplit_33 : decode b_Msplit 33 = .ok (.iadd, 1) := by decide +kernel
theorem d_Msplit_34 : decode b_Msplit 34 = .ok (.istore 4, 2) := by decide +kernel
theorem d_Msplit_36 : decode b_Msplit 36 = .ok (.aload_n 0, 1) := by decide +kernel
theorem d_Msplit_37 : decode b_Msplit 37 = .ok (.getfield 7, 3) := by decide +kernel
theorem d_Msplit_40 : decode b_Msplit 40 = .ok (.iload 4, 2) := by decide +kernel
theorem d_Msplit_42 : decode b_Msplit 42 = .ok (.aload_n 0, 1) := by decide +kernel
theorem d_Msplit_43 : decode b_Msplit 43 = .ok (.getfield 7, 3) := by decide +kernel
theorem d_Msplit_46 : decode b_Msplit 46 = .ok (.iload_n 3, 1) := by decide +kernel
theorem d_Msplit_47 : decode b_Msplit 47 = .ok (.iaload, 1) := by decide +kernel
theorem d_Msplit_48 : decode b_Msplit 48 = .ok (.iastore, 1) := by decide +kernel
theorem d_Msplit_49 : decode b_Msplit 49 = .ok (.aload_n 0, 1) := by decide +kernel
theorem d_Msplit_50 : decode b_Msplit 50 = .ok (.getfield 16, 3) := by decide +kernel
theorem d_Msplit_53 : decode b_Msplit 53 = .ok (.iload_n 2, 1) := by decide +kernel
theorem d_Msplit_54 : decode b_Msplit 54 = .ok (.aload_n 0, 1) := by decide +kernel
theorem d_Msplit_55 : decode b_Msplit 55 = .ok (.getfield 7, 3) := by decide +kernel
theorem d_Msplit_58 : decode b_Msplit 58 = .ok (.iload_n 3, 1) := by decide +kernel
theorem d_Msplit_59 : decode b_Msplit 59 = .ok (.iaload, 1) := by decide +kernel
theorem d_Msplit_60 : decode b_Msplit 60 = .ok (.ifCond .eq 7, 3) := by decide +kernel
theorem d_Msplit_63 : decode b_Msplit 63 = .ok (.iconst 1, 1) := by decide +kernel
theorem d_Msplit_64 : decode b_Msplit 64 = .ok (.goto 4, 3) := by decide +kernel
theorem d_Msplit_67 : decode b_Msplit 67 = .ok (.iconst 0, 1) := by decide +kernel
theorem d_Msplit_68 : decode b_Msplit 68 = .ok (.bastore, 1) := by decide +kernel
theorem d_Msplit_69 : decode b_Msplit 69 = .ok (.iconst 0, 1) := by decide +kernel
theorem d_Msplit_70 : decode b_Msplit 70 = .ok (.istore 5, 2) := by decide +kernel
theorem d_Msplit_72 : decode b_Msplit 72 = .ok (.iload 5, 2) := by decide +kernel
theorem d_Msplit_74 : decode b_Msplit 74 = .ok (.iconst 4, 1) := by decide +kernel
theorem d_Msplit_75 : decode b_Msplit 75 = .ok (.if_icmp .ge 32, 3) := by decide +kernel
theorem d_Msplit_78 : decode b_Msplit 78 = .ok (.aload_n 0, 1) := by decide +kernel
theorem d_Msplit_79 : decode b_Msplit 79 = .ok (.getfield 13, 3) := by decide +kernel
theorem d_Msplit_82 : decode b_Msplit 82 = .ok (.iconst 4, 1) := by decide +kernel
theorem d_Msplit_83 : decode b_Msplit 83 = .ok (.iload 4, 2) := by decide +kernel
theorem d_Msplit_85 : decode b_Msplit 85 = .ok (.imul, 1) := by decide +kernel
theorem d_Msplit_86 : decode b_Msplit 86 = .ok (.iload 5, 2) := by decide +kernel
theorem d_Msplit_88 : decode b_Msplit 88 = .ok (.iadd, 1) := by decide +kernel
theorem d_Msplit_89 : decode b_Msplit 89 = .ok (.aload_n 0, 1) := by decide +kernel
theorem d_Msplit_90 : decode b_Msplit 90 = .ok (.getfield 13, 3) := by decide +kernel
theorem d_Msplit_93 : decode b_Msplit 93 = .ok (.iconst 4, 1) := by decide +kernel
theorem d_Msplit_94 : decode b_Msplit 94 = .ok (.iload_n 3, 1) := by decide +kernel
theorem d_Msplit_95 : decode b_Msplit 95 = .ok (.imul, 1) := by decide +kernel
theorem d_Msplit_96 : decode b_Msplit 96 = .ok (.iload 5, 2) := by decide +kernel
theorem d_Msplit_98 : decode b_Msplit 98 = .ok (.iadd, 1) := by decide +kernel
theorem d_Msplit_99 : decode b_Msplit 99 = .ok (.iaload, 1) := by decide +kernel
theorem d_Msplit_100 : decode b_Msplit 100 = .ok (.iastore, 1) := by decide +kernel
theorem d_Msplit_101 : decode b_Msplit 101 = .ok (.iinc 5 1, 3) := by decide +kernel
theorem d_Msplit_104 : decode b_Msplit 104 = .ok (.goto (-32), 3) := by decide +kernel
theorem d_Msplit_107 : decode b_Msplit 107 = .ok (.iinc 2 1, 3) := by decide +kernel
theorem d_Msplit_110 : decode b_Msplit 110 = .ok (.goto (-97), 3) := by decide +kernel
theorem d_Msplit_113 : decode b_Msplit 113 = .ok (.aload_n 0, 1) := by decide +kernel
theorem d_Msplit_114 : decode b_Msplit 114 = .ok (.iload_n 1, 1) := by decide +kernel
theorem d_Msplit_115 : decode b_Msplit 115 = .ok (.invokevirtual 35, 3) := by decide +kernel
theorem d_Msplit_118 : decode b_Msplit 118 = .ok (.ireturn, 1) := by decide +kernel
theorem d_Mcopy_0 : decode b_Mcopy 0 = .ok (.aload_n 0, 1) := by decide +kernel
theorem d_Mcopy_1 : decode b_Mcopy 1 = .ok (.iload_n 1, 1) := by decide +kernel
theorem d_Mcopy_2 : decode b_Mcopy 2 = .ok (.iload_n 2, 1) := by decide +kernel
theorem d_Mcopy_3 : decode b_Mcopy 3 = .ok (.invokevirtual 20, 3) := by decide +kernel
theorem d_Mcopy_6 : decode b_Mcopy 6 = .ok (.ifCond .eq 12, 3) := by decide +kernel
theorem d_Mcopy_9 : decode b_Mcopy 9 = .ok (.aload_n 0, 1) := by decide +kernel
theorem d_Mcopy_10 : decode b_Mcopy 10 = .ok (.iload_n 1, 1) := by decide +kernel
theorem d_Mcopy_11 : decode b_Mcopy 11 = .ok (.iload_n 3, 1) := by decide +kernel
theorem d_Mcopy_12 : decode b_Mcopy 12 = .ok (.invokevirtual 20, 3) := by decide +kernel
theorem d_Mcopy_15 : decode b_Mcopy 15 = .ok (.ifCond .ne 5, 3) := by decide +kernel
theorem d_Mcopy_18 : decode b_Mcopy 18 = .ok (.iconst (-1), 1) := by decide +kernel
theorem d_Mcopy_19 : decode b_Mcopy 19 = .ok (.ireturn, 1) := by decide +kernel
theorem d_Mcopy_20 : decode b_Mcopy 20 = .ok (.iconst 0, 1) := by decide +kernel
theorem d_Mcopy_21 : decode b_Mcopy 21 = .ok (.istore 4, 2) := by decide +kernel
theorem d_Mcopy_23 : decode b_Mcopy 23 = .ok (.iconst 0, 1) := by decide +kernel
theorem d_Mcopy_24 : decode b_Mcopy 24 = .ok (.istore 5, 2) := by decide +kernel
theorem d_Mcopy_26 : decode b_Mcopy 26 = .ok (.iload 5, 2) := by decide +kernel
theorem d_Mcopy_28 : decode b_Mcopy 28 = .ok (.iconst 4, 1) := by decide +kernel
theorem d_Mcopy_29 : decode b_Mcopy 29 = .ok (.if_icmp .ge 36, 3) := by decide +kernel
theorem d_Mcopy_32 : decode b_Mcopy 32 = .ok (.iload 4, 2) := by decide +kernel
theorem d_Mcopy_34 : decode b_Mcopy 34 = .ok (.ifCond .ne 31, 3) := by decide +kernel
theorem d_Mcopy_37 : decode b_Mcopy 37 = .ok (.aload_n 0, 1) := by decide +kernel
theorem d_Mcopy_38 : decode b_Mcopy 38 = .ok (.iload_n 1, 1) := by decide +kernel
theorem d_Mcopy_39 : decode b_Mcopy 39 = .ok (.iload_n 2, 1) := by decide +kernel
theorem d_Mcopy_40 : decode b_Mcopy 40 = .ok (.iload 5, 2) := by decide +kernel
theorem d_Mcopy_42 : decode b_Mcopy 42 = .ok (.invokevirtual 39, 3) := by decide +kernel
theorem d_Mcopy_45 : decode b_Mcopy 45 = .ok (.istore 6, 2) := by decide +kernel
theorem d_Mcopy_47 : decode b_Mcopy 47 = .ok (.aload_n 0, 1) := by decide +kernel
theorem d_Mcopy_48 : decode b_Mcopy 48 = .ok (.iload_n 1, 1) := by decide +kernel
theorem d_Mcopy_49 : decode b_Mcopy 49 = .ok (.iload_n 3, 1) := by decide +kernel
theorem d_Mcopy_50 : decode b_Mcopy 50 = .ok (.iload 5, 2) := by decide +kernel
theorem d_Mcopy_52 : decode b_Mcopy 52 = .ok (.iload 6, 2) := by decide +kernel
theorem d_Mcopy_54 : decode b_Mcopy 54 = .ok (.invokevirtual 43, 3) := by decide +kernel
theorem d_Mcopy_57 : decode b_Mcopy 57 = .ok (.istore 4, 2) := by decide +kernel
theorem d_Mcopy_59 : decode b_Mcopy 59 = .ok (.iinc 5 1, 3) := by decide +kernel
theorem d_Mcopy_62 : decode b_Mcopy 62 = .ok (.goto (-36), 3) := by decide +kernel
theorem d_Mcopy_65 : decode b_Mcopy 65 = .ok (.iload 4, 2) := by decide +kernel
theorem d_Mcopy_67 : decode b_Mcopy 67 = .ok (.ireturn, 1) := by decide +kernel
theorem d_MunmapRange_0 : decode b_MunmapRange 0 = .ok (.aload_n 0, 1) := by decide +kernel
theorem d_MunmapRange_1 : decode b_MunmapRange 1 = .ok (.iload_n 1, 1) := by decide +kernel
theorem d_MunmapRange_2 : decode b_MunmapRange 2 = .ok (.iload_n 2, 1) := by decide +kernel
theorem d_MunmapRange_3 : decode b_MunmapRange 3 = .ok (.invokevirtual 20, 3) := by decide +kernel
theorem d_MunmapRange_6 : decode b_MunmapRange 6 = .ok (.ifCond .eq 12, 3) := by decide +kernel
theorem d_MunmapRange_9 : decode b_MunmapRange 9 = .ok (.aload_n 0, 1) := by decide +kernel
theorem d_MunmapRange_10 : decode b_MunmapRange 10 = .ok (.iload_n 1, 1) := by decide +kernel
theorem d_MunmapRange_11 : decode b_MunmapRange 11 = .ok (.iload_n 3, 1) := by decide +kernel
theorem d_MunmapRange_12 : decode b_MunmapRange 12 = .ok (.invokevirtual 20, 3) := by decide +kernel
theorem d_MunmapRange_15 : decode b_MunmapRange 15 = .ok (.ifCond .ne 5, 3) := by decide +kernel
theorem d_MunmapRange_18 : decode b_MunmapRange 18 = .ok (.iconst (-1), 1) := by decide +kernel
theorem d_MunmapRange_19 : decode b_MunmapRange 19 = .ok (.ireturn, 1) := by decide +kernel
theorem d_MunmapRange_20 : decode b_MunmapRange 20 = .ok (.iconst 0, 1) := by decide +kernel
theorem d_MunmapRange_21 : decode b_MunmapRange 21 = .ok (.istore 4, 2) := by decide +kernel
theorem d_MunmapRange_23 : decode b_MunmapRange 23 = .ok (.iload_n 2, 1) := by decide +kernel
theorem d_MunmapRange_24 : decode b_MunmapRange 24 = .ok (.istore 5, 2) := by decide +kernel
theorem d_MunmapRange_26 : decode b_MunmapRange 26 = .ok (.iload 5, 2) := by decide +kernel
theorem d_MunmapRange_28 : decode b_MunmapRange 28 = .ok (.iload_n 3, 1) := by decide +kernel
theorem d_MunmapRange_29 : decode b_MunmapRange 29 = .ok (.if_icmp .gt 22, 3) := by decide +kernel
theorem d_MunmapRange_32 : decode b_MunmapRange 32 = .ok (.aload_n 0, 1) := by decide +kernel
theorem d_MunmapRange_33 : decode b_MunmapRange 33 = .ok (.iload_n 1, 1) := by decide +kernel
theorem d_MunmapRange_34 : decode b_MunmapRange 34 = .ok (.iload 5, 2) := by decide +kernel
theorem d_MunmapRange_36 : decode b_MunmapRange 36 = .ok (.invokevirtual 47, 3) := by decide +kernel
theorem d_MunmapRange_39 : decode b_MunmapRange 39 = .ok (.ifCond .ne 6, 3) := by decide +kernel
theorem d_MunmapRange_42 : decode b_MunmapRange 42 = .ok (.iinc 4 1, 3) := by decide +kernel
theorem d_MunmapRange_45 : decode b_MunmapRange 45 = .ok (.iinc 5 1, 3) := by decide +kernel
theorem d_MunmapRange_48 : decode b_MunmapRange 48 = .ok (.goto (-22), 3) := by decide +kernel
theorem d_MunmapRange_51 : decode b_MunmapRange 51 = .ok (.iload 4, 2) := by decide +kernel
theorem d_MunmapRange_53 : decode b_MunmapRange 53 = .ok (.ireturn, 1) := by decide +kernel
theorem d_Mpresent_0 : decode b_Mpresent 0 = .ok (.iload_n 1, 1) := by decide +kernel
theorem d_Mpresent_1 : decode b_Mpresent 1 = .ok (.ifCond .lt 8, 3) := by decide +kernel
theorem d_Mpresent_4 : decode b_Mpresent 4 = .ok (.iload_n 1, 1) := by decide +kernel
theorem d_Mpresent_5 : decode b_Mpresent 5 = .ok (.iconst 1, 1) := by decide +kernel
theorem d_Mpresent_6 : decode b_Mpresent 6 = .ok (.if_icmp .le 5, 3) := by decide +kernel
theorem d_Mpresent_9 : decode b_Mpresent 9 = .ok (.iconst (-1), 1) := by decide +kernel
theorem d_Mpresent_10 : decode b_Mpresent 10 = .ok (.ireturn, 1) := by decide +kernel
theorem d_Mpresent_11 : decode b_Mpresent 11 = .ok (.iconst 0, 1) := by decide +kernel
theorem d_Mpresent_12 : decode b_Mpresent 12 = .ok (.istore_n 2, 1) := by decide +kernel
theorem d_Mpresent_13 : decode b_Mpresent 13 = .ok (.iconst 0, 1) := by decide +kernel
theorem d_Mpresent_14 : decode b_Mpresent 14 = .ok (.istore_n 3, 1) := by decide +kernel
theorem d_Mpresent_15 : decode b_Mpresent 15 = .ok (.iload_n 3, 1) := by decide +kernel
theorem d_Mpresent_16 : decode b_Mpresent 16 = .ok (.bipush 16, 2) := by decide +kernel
theorem d_Mpresent_18 : decode b_Mpresent 18 = .ok (.if_icmp .ge 26, 3) := by decide +kernel
theorem d_Mpresent_21 : decode b_Mpresent 21 = .ok (.aload_n 0, 1) := by decide +kernel
theorem d_Mpresent_22 : decode b_Mpresent 22 = .ok (.getfield 7, 3) := by decide +kernel
theorem d_Mpresent_25 : decode b_Mpresent 25 = .ok (.bipush 16, 2) := by decide +kernel
theorem d_Mpresent_27 : decode b_Mpresent 27 = .ok (.iload_n 1, 1) := by decide +kernel
theorem d_Mpresent_28 : decode b_Mpresent 28 = .ok (.imul, 1) := by decide +kernel
theorem d_Mpresent_29 : decode b_Mpresent 29 = .ok (.iload_n 3, 1) := by decide +kernel
theorem d_Mpresent_30 : decode b_Mpresent 30 = .ok (.iadd, 1) := by decide +kernel
theorem d_Mpresent_31 : decode b_Mpresent 31 = .ok (.iaload, 1) := by decide +kernel
theorem d_Mpresent_32 : decode b_Mpresent 32 = .ok (.ifCond .eq 6, 3) := by decide +kernel
theorem d_Mpresent_35 : decode b_Mpresent 35 = .ok (.iinc 2 1, 3) := by decide +kernel
theorem d_Mpresent_38 : decode b_Mpresent 38 = .ok (.iinc 3 1, 3) := by decide +kernel
theorem d_Mpresent_41 : decode b_Mpresent 41 = .ok (.goto (-26), 3) := by decide +kernel
theorem d_Mpresent_44 : decode b_Mpresent 44 = .ok (.iload_n 2, 1) := by decide +kernel
theorem d_Mpresent_45 : decode b_Mpresent 45 = .ok (.ireturn, 1) := by decide +kernel
theorem d_MinUse_0 : decode b_MinUse 0 = .ok (.aload_n 0, 1) := by decide +kernel
theorem d_MinUse_1 : decode b_MinUse 1 = .ok (.iconst 0, 1) := by decide +kernel
theorem d_MinUse_2 : decode b_MinUse 2 = .ok (.invokevirtual 35, 3) := by decide +kernel
theorem d_MinUse_5 : decode b_MinUse 5 = .ok (.aload_n 0, 1) := by decide +kernel
theorem d_MinUse_6 : decode b_MinUse 6 = .ok (.iconst 1, 1) := by decide +kernel
theorem d_MinUse_7 : decode b_MinUse 7 = .ok (.invokevirtual 35, 3) := by decide +kernel
theorem d_MinUse_10 : decode b_MinUse 10 = .ok (.iadd, 1) := by decide +kernel
theorem d_MinUse_11 : decode b_MinUse 11 = .ok (.istore_n 1, 1) := by decide +kernel
theorem d_MinUse_12 : decode b_MinUse 12 = .ok (.iconst 0, 1) := by decide +kernel
theorem d_MinUse_13 : decode b_MinUse 13 = .ok (.istore_n 2, 1) := by decide +kernel
theorem d_MinUse_14 : decode b_MinUse 14 = .ok (.iload_n 2, 1) := by decide +kernel
theorem d_MinUse_15 : decode b_MinUse 15 = .ok (.bipush 16, 2) := by decide +kernel
theorem d_MinUse_17 : decode b_MinUse 17 = .ok (.if_icmp .ge 21, 3) := by decide +kernel
theorem d_MinUse_20 : decode b_MinUse 20 = .ok (.aload_n 0, 1) := by decide +kernel
theorem d_MinUse_21 : decode b_MinUse 21 = .ok (.getfield 16, 3) := by decide +kernel
theorem d_MinUse_24 : decode b_MinUse 24 = .ok (.iload_n 2, 1) := by decide +kernel
theorem d_MinUse_25 : decode b_MinUse 25 = .ok (.baload, 1) := by decide +kernel
theorem d_MinUse_26 : decode b_MinUse 26 = .ok (.ifCond .eq 6, 3) := by decide +kernel
theorem d_MinUse_29 : decode b_MinUse 29 = .ok (.iinc 1 (-1), 3) := by decide +kernel
theorem d_MinUse_32 : decode b_MinUse 32 = .ok (.iinc 2 1, 3) := by decide +kernel
theorem d_MinUse_35 : decode b_MinUse 35 = .ok (.goto (-21), 3) := by decide +kernel
theorem d_MinUse_38 : decode b_MinUse 38 = .ok (.iload_n 1, 1) := by decide +kernel
theorem d_MinUse_39 : decode b_MinUse 39 = .ok (.ireturn, 1) := by decide +kernel
theorem d_Mdigest_0 : decode b_Mdigest 0 = .ok (.iload_n 1, 1) := by decide +kernel
theorem d_Mdigest_1 : decode b_Mdigest 1 = .ok (.ifCond .lt 8, 3) := by decide +kernel
theorem d_Mdigest_4 : decode b_Mdigest 4 = .ok (.iload_n 1, 1) := by decide +kernel
theorem d_Mdigest_5 : decode b_Mdigest 5 = .ok (.iconst 1, 1) := by decide +kernel
theorem d_Mdigest_6 : decode b_Mdigest 6 = .ok (.if_icmp .le 5, 3) := by decide +kernel
theorem d_Mdigest_9 : decode b_Mdigest 9 = .ok (.iconst 0, 1) := by decide +kernel
theorem d_Mdigest_10 : decode b_Mdigest 10 = .ok (.ireturn, 1) := by decide +kernel
theorem d_Mdigest_11 : decode b_Mdigest 11 = .ok (.iconst 0, 1) := by decide +kernel
theorem d_Mdigest_12 : decode b_Mdigest 12 = .ok (.istore_n 2, 1) := by decide +kernel
theorem d_Mdigest_13 : decode b_Mdigest 13 = .ok (.iconst 0, 1) := by decide +kernel
theorem d_Mdigest_14 : decode b_Mdigest 14 = .ok (.istore_n 3, 1) := by decide +kernel
theorem d_Mdigest_15 : decode b_Mdigest 15 = .ok (.iload_n 3, 1) := by decide +kernel
theorem d_Mdigest_16 : decode b_Mdigest 16 = .ok (.bipush 16, 2) := by decide +kernel
theorem d_Mdigest_18 : decode b_Mdigest 18 = .ok (.if_icmp .ge 48, 3) := by decide +kernel
theorem d_Mdigest_21 : decode b_Mdigest 21 = .ok (.iconst 0, 1) := by decide +kernel
theorem d_Mdigest_22 : decode b_Mdigest 22 = .ok (.istore 4, 2) := by decide +kernel
theorem d_Mdigest_24 : decode b_Mdigest 24 = .ok (.iload 4, 2) := by decide +kernel
theorem d_Mdigest_26 : decode b_Mdigest 26 = .ok (.iconst 4, 1) := by decide +kernel
theorem d_Mdigest_27 : decode b_Mdigest 27 = .ok (.if_icmp .ge 33, 3) := by decide +kernel
theorem d_Mdigest_30 : decode b_Mdigest 30 = .ok (.aload_n 0, 1) := by decide +kernel
theorem d_Mdigest_31 : decode b_Mdigest 31 = .ok (.iload_n 1, 1) := by decide +kernel
theorem d_Mdigest_32 : decode b_Mdigest 32 = .ok (.iload_n 3, 1) := by decide +kernel
theorem d_Mdigest_33 : decode b_Mdigest 33 = .ok (.iload 4, 2) := by decide +kernel
theorem d_Mdigest_35 : decode b_Mdigest 35 = .ok (.invokevirtual 39, 3) := by decide +kernel
theorem d_Mdigest_38 : decode b_Mdigest 38 = .ok (.istore 5, 2) := by decide +kernel
theorem d_Mdigest_40 : decode b_Mdigest 40 = .ok (.iload_n 2, 1) := by decide +kernel
theorem d_Mdigest_41 : decode b_Mdigest 41 = .ok (.iload 5, 2) := by decide +kernel
theorem d_Mdigest_43 : decode b_Mdigest 43 = .ok (.iconst 4, 1) := by decide +kernel
theorem d_Mdigest_44 : decode b_Mdigest 44 = .ok (.iload_n 3, 1) := by decide +kernel
theorem d_Mdigest_45 : decode b_Mdigest 45 = .ok (.imul, 1) := by decide +kernel
theorem d_Mdigest_46 : decode b_Mdigest 46 = .ok (.iload 4, 2) := by decide +kernel
theorem d_Mdigest_48 : decode b_Mdigest 48 = .ok (.iadd, 1) := by decide +kernel
theorem d_Mdigest_49 : decode b_Mdigest 49 = .ok (.iconst 1, 1) := by decide +kernel
theorem d_Mdigest_50 : decode b_Mdigest 50 = .ok (.iadd, 1) := by decide +kernel
theorem d_Mdigest_51 : decode b_Mdigest 51 = .ok (.imul, 1) := by decide +kernel
theorem d_Mdigest_52 : decode b_Mdigest 52 = .ok (.iadd, 1) := by decide +kernel
theorem d_Mdigest_53 : decode b_Mdigest 53 = .ok (.istore_n 2, 1) := by decide +kernel
theorem d_Mdigest_54 : decode b_Mdigest 54 = .ok (.iinc 4 1, 3) := by decide +kernel
theorem d_Mdigest_57 : decode b_Mdigest 57 = .ok (.goto (-33), 3) := by decide +kernel
theorem d_Mdigest_60 : decode b_Mdigest 60 = .ok (.iinc 3 1, 3) := by decide +kernel
theorem d_Mdigest_63 : decode b_Mdigest 63 = .ok (.goto (-48), 3) := by decide +kernel
theorem d_Mdigest_66 : decode b_Mdigest 66 = .ok (.iload_n 2, 1) := by decide +kernel
theorem d_Mdigest_67 : decode b_Mdigest 67 = .ok (.ireturn, 1) := by decide +kernel
end
section
theorem d_law_0 : decode code 0 = .ok (.new 7, 3) := by decide +kernel
theorem d_law_3 : decode code 3 = .ok (.dup, 1) := by decide +kernel
theorem d_law_4 : decode code 4 = .ok (.invokespecial 9, 3) := by decide +kernel
theorem d_law_7 : decode code 7 = .ok (.astore_n 1, 1) := by decide +kernel
theorem d_law_8 : decode code 8 = .ok (.new 10, 3) := by decide +kernel
theorem d_law_11 : decode code 11 = .ok (.dup, 1) := by decide +kernel
theorem d_law_12 : decode code 12 = .ok (.invokespecial 12, 3) := by decide +kernel
theorem d_law_15 : decode code 15 = .ok (.astore_n 2, 1) := by decide +kernel
theorem d_law_16 : decode code 16 = .ok (.iconst 0, 1) := by decide +kernel
theorem d_law_17 : decode code 17 = .ok (.istore_n 3, 1) := by decide +kernel
theorem d_law_18 : decode code 18 = .ok (.iload_n 3, 1) := by decide +kernel
theorem d_law_19 : decode code 19 = .ok (.aload_n 0, 1) := by decide +kernel
theorem d_law_20 : decode code 20 = .ok (.arraylength, 1) := by decide +kernel
theorem d_law_21 : decode code 21 = .ok (.iconst 5, 1) := by decide +kernel
theorem d_law_22 : decode code 22 = .ok (.isub, 1) := by decide +kernel
theorem d_law_23 : decode code 23 = .ok (.if_icmp .gt 512, 3) := by decide +kernel
theorem d_law_26 : decode code 26 = .ok (.aload_n 0, 1) := by decide +kernel
theorem d_law_27 : decode code 27 = .ok (.iload_n 3, 1) := by decide +kernel
theorem d_law_28 : decode code 28 = .ok (.iaload, 1) := by decide +kernel
theorem d_law_29 : decode code 29 = .ok (.bipush 15, 2) := by decide +kernel
theorem d_law_31 : decode code 31 = .ok (.iand, 1) := by decide +kernel
theorem d_law_32 : decode code 32 = .ok (.tableswitch 497 0 12 #[68, 101, 154, 197, 230, 273, 306, 329, 352, 395, 438, 461, 474], 68) := by decide +kernel
theorem d_law_100 : decode code 100 = .ok (.aload_n 1, 1) := by decide +kernel
theorem d_law_101 : decode code 101 = .ok (.aload_n 0, 1) := by decide +kernel
theorem d_law_102 : decode code 102 = .ok (.iload_n 3, 1) := by decide +kernel
theorem d_law_103 : decode code 103 = .ok (.iconst 1, 1) := by decide +kernel
theorem d_law_104 : decode code 104 = .ok (.iadd, 1) := by decide +kernel
theorem d_law_105 : decode code 105 = .ok (.iaload, 1) := by decide +kernel
theorem d_law_106 : decode code 106 = .ok (.aload_n 0, 1) := by decide +kernel
theorem d_law_107 : decode code 107 = .ok (.iload_n 3, 1) := by decide +kernel
theorem d_law_108 : decode code 108 = .ok (.iconst 2, 1) := by decide +kernel
theorem d_law_109 : decode code 109 = .ok (.iadd, 1) := by decide +kernel
theorem d_law_110 : decode code 110 = .ok (.iaload, 1) := by decide +kernel
theorem d_law_111 : decode code 111 = .ok (.invokevirtual 13, 3) := by decide +kernel
theorem d_law_114 : decode code 114 = .ok (.aload_n 2, 1) := by decide +kernel
theorem d_law_115 : decode code 115 = .ok (.aload_n 0, 1) := by decide +kernel
theorem d_law_116 : decode code 116 = .ok (.iload_n 3, 1) := by decide +kernel
theorem d_law_117 : decode code 117 = .ok (.iconst 1, 1) := by decide +kernel
theorem d_law_118 : decode code 118 = .ok (.iadd, 1) := by decide +kernel
theorem d_law_119 : decode code 119 = .ok (.iaload, 1) := by decide +kernel
theorem d_law_120 : decode code 120 = .ok (.aload_n 0, 1) := by decide +kernel
theorem d_law_121 : decode code 121 = .ok (.iload_n 3, 1) := by decide +kernel
theorem d_law_122 : decode code 122 = .ok (.iconst 2, 1) := by decide +kernel
theorem d_law_123 : decode code 123 = .ok (.iadd, 1) := by decide +kernel
theorem d_law_124 : decode code 124 = .ok (.iaload, 1) := by decide +kernel
theorem d_law_125 : decode code 125 = .ok (.invokevirtual 17, 3) := by decide +kernel
theorem d_law_128 : decode code 128 = .ok (.if_icmp .eq 401, 3) := by decide +kernel
theorem d_law_131 : decode code 131 = .ok (.iconst 0, 1) := by decide +kernel
theorem d_law_132 : decode code 132 = .ok (.ireturn, 1) := by decide +kernel
theorem d_law_133 : decode code 133 = .ok (.aload_n 1, 1) := by decide +kernel
theorem d_law_134 : decode code 134 = .ok (.aload_n 0, 1) := by decide +kernel
theorem d_law_135 : decode code 135 = .ok (.iload_n 3, 1) := by decide +kernel
theorem d_law_136 : decode code 136 = .ok (.iconst 1, 1) := by decide +kernel
theorem d_law_137 : decode code 137 = .ok (.iadd, 1) := by decide +kernel
theorem d_law_138 : decode code 138 = .ok (.iaload, 1) := by decide +kernel
theorem d_law_139 : decode code 139 = .ok (.aload_n 0, 1) := by decide +kernel
theorem d_law_140 : decode code 140 = .ok (.iload_n 3, 1) := by decide +kernel
theorem d_law_141 : decode code 141 = .ok (.iconst 2, 1) := by decide +kernel
theorem d_law_142 : decode code 142 = .ok (.iadd, 1) := by decide +kernel
theorem d_law_143 : decode code 143 = .ok (.iaload, 1) := by decide +kernel
theorem d_law_144 : decode code 144 = .ok (.aload_n 0, 1) := by decide +kernel
theorem d_law_145 : decode code 145 = .ok (.iload_n 3, 1) := by decide +kernel
theorem d_law_146 : decode code 146 = .ok (.iconst 3, 1) := by decide +kernel
theorem d_law_147 : decode code 147 = .ok (.iadd, 1) := by decide +kernel
theorem d_law_148 : decode code 148 = .ok (.iaload, 1) := by decide +kernel
theorem d_law_149 : decode code 149 = .ok (.aload_n 0, 1) := by decide +kernel
theorem d_law_150 : decode code 150 = .ok (.iload_n 3, 1) := by decide +kernel
theorem d_law_151 : decode code 151 = .ok (.iconst 4, 1) := by decide +kernel
theorem d_law_152 : decode code 152 = .ok (.iadd, 1) := by decide +kernel
theorem d_law_153 : decode code 153 = .ok (.iaload, 1) := by decide +kernel
theorem d_law_154 : decode code 154 = .ok (.invokevirtual 18, 3) := by decide +kernel
theorem d_law_157 : decode code 157 = .ok (.aload_n 2, 1) := by decide +kernel
theorem d_law_158 : decode code 158 = .ok (.aload_n 0, 1) := by decide +kernel
theorem d_law_159 : decode code 159 = .ok (.iload_n 3, 1) := by decide +kernel
theorem d_law_160 : decode code 160 = .ok (.iconst 1, 1) := by decide +kernel
theorem d_law_161 : decode code 161 = .ok (.iadd, 1) := by decide +kernel
theorem d_law_162 : decode code 162 = .ok (.iaload, 1) := by decide +kernel
theorem d_law_163 : decode code 163 = .ok (.aload_n 0, 1) := by decide +kernel
theorem d_law_164 : decode code 164 = .ok (.iload_n 3, 1) := by decide +kernel
theorem d_law_165 : decode code 165 = .ok (.iconst 2, 1) := by decide +kernel
theorem d_law_166 : decode code 166 = .ok (.iadd, 1) := by decide +kernel
theorem d_law_167 : decode code 167 = .ok (.iaload, 1) := by decide +kernel
theorem d_law_168 : decode code 168 = .ok (.aload_n 0, 1) := by decide +kernel
theorem d_law_169 : decode code 169 = .ok (.iload_n 3, 1) := by decide +kernel
theorem d_law_170 : decode code 170 = .ok (.iconst 3, 1) := by decide +kernel
theorem d_law_171 : decode code 171 = .ok (.iadd, 1) := by decide +kernel
theorem d_law_172 : decode code 172 = .ok (.iaload, 1) := by decide +kernel
theorem d_law_173 : decode code 173 = .ok (.aload_n 0, 1) := by decide +kernel
theorem d_law_174 : decode code 174 = .ok (.iload_n 3, 1) := by decide +kernel
theorem d_law_175 : decode code 175 = .ok (.iconst 4, 1) := by decide +kernel
theorem d_law_176 : decode code 176 = .ok (.iadd, 1) := by decide +kernel
theorem d_law_177 : decode code 177 = .ok (.iaload, 1) := by decide +kernel
theorem d_law_178 : decode code 178 = .ok (.invokevirtual 22, 3) := by decide +kernel
theorem d_law_181 : decode code 181 = .ok (.if_icmp .eq 348, 3) := by decide +kernel
theorem d_law_184 : decode code 184 = .ok (.iconst 0, 1) := by decide +kernel
theorem d_law_185 : decode code 185 = .ok (.ireturn, 1) := by decide +kernel
theorem d_law_186 : decode code 186 = .ok (.aload_n 1, 1) := by decide +kernel
theorem d_law_187 : decode code 187 = .ok (.aload_n 0, 1) := by decide +kernel
theorem d_law_188 : decode code 188 = .ok (.iload_n 3, 1) := by decide +kernel
theorem d_law_189 : decode code 189 = .ok (.iconst 1, 1) := by decide +kernel
theorem d_law_190 : decode code 190 = .ok (.iadd, 1) := by decide +kernel
theorem d_law_191 : decode code 191 = .ok (.iaload, 1) := by decide +kernel
theorem d_law_192 : decode code 192 = .ok (.aload_n 0, 1) := by decide +kernel
theorem d_law_193 : decode code 193 = .ok (.iload_n 3, 1) := by decide +kernel
theorem d_law_194 : decode code 194 = .ok (.iconst 2, 1) := by decide +kernel
theorem d_law_195 : decode code 195 = .ok (.iadd, 1) := by decide +kernel
theorem d_law_196 : decode code 196 = .ok (.iaload, 1) := by decide +kernel
theorem d_law_197 : decode code 197 = .ok (.aload_n 0, 1) := by decide +kernel
theorem d_law_198 : decode code 198 = .ok (.iload_n 3, 1) := by decide +kernel
theorem d_law_199 : decode code 199 = .ok (.iconst 3, 1) := by decide +kernel
theorem d_law_200 : decode code 200 = .ok (.iadd, 1) := by decide +kernel
theorem d_law_201 : decode code 201 = .ok (.iaload, 1) := by decide +kernel
theorem d_law_202 : decode code 202 = .ok (.invokevirtual 23, 3) := by decide +kernel
theorem d_law_205 : decode code 205 = .ok (.aload_n 2, 1) := by decide +kernel
theorem d_law_206 : decode code 206 = .ok (.aload_n 0, 1) := by decide +kernel
theorem d_law_207 : decode code 207 = .ok (.iload_n 3, 1) := by decide +kernel
theorem d_law_208 : decode code 208 = .ok (.iconst 1, 1) := by decide +kernel
theorem d_law_209 : decode code 209 = .ok (.iadd, 1) := by decide +kernel
theorem d_law_210 : decode code 210 = .ok (.iaload, 1) := by decide +kernel
theorem d_law_211 : decode code 211 = .ok (.aload_n 0, 1) := by decide +kernel
theorem d_law_212 : decode code 212 = .ok (.iload_n 3, 1) := by decide +kernel
theorem d_law_213 : decode code 213 = .ok (.iconst 2, 1) := by decide +kernel
theorem d_law_214 : decode code 214 = .ok (.iadd, 1) := by decide +kernel
theorem d_law_215 : decode code 215 = .ok (.iaload, 1) := by decide +kernel
theorem d_law_216 : decode code 216 = .ok (.aload_n 0, 1) := by decide +kernel
theorem d_law_217 : decode code 217 = .ok (.iload_n 3, 1) := by decide +kernel
theorem d_law_218 : decode code 218 = .ok (.iconst 3, 1) := by decide +kernel
theorem d_law_219 : decode code 219 = .ok (.iadd, 1) := by decide +kernel
theorem d_law_220 : decode code 220 = .ok (.iaload, 1) := by decide +kernel
theorem d_law_221 : decode code 221 = .ok (.invokevirtual 27, 3) := by decide +kernel
end
section
theorem d_law_224 : decode code 224 = .ok (.if_icmp .eq 305, 3) := by decide +kernel
theorem d_law_227 : decode code 227 = .ok (.iconst 0, 1) := by decide +kernel
theorem d_law_228 : decode code 228 = .ok (.ireturn, 1) := by decide +kernel
theorem d_law_229 : decode code 229 = .ok (.aload_n 1, 1) := by decide +kernel
theorem d_law_230 : decode code 230 = .ok (.aload_n 0, 1) := by decide +kernel
theorem d_law_231 : decode code 231 = .ok (.iload_n 3, 1) := by decide +kernel
theorem d_law_232 : decode code 232 = .ok (.iconst 1, 1) := by decide +kernel
theorem d_law_233 : decode code 233 = .ok (.iadd, 1) := by decide +kernel
theorem d_law_234 : decode code 234 = .ok (.iaload, 1) := by decide +kernel
theorem d_law_235 : decode code 235 = .ok (.aload_n 0, 1) := by decide +kernel
theorem d_law_236 : decode code 236 = .ok (.iload_n 3, 1) := by decide +kernel
theorem d_law_237 : decode code 237 = .ok (.iconst 2, 1) := by decide +kernel
theorem d_law_238 : decode code 238 = .ok (.iadd, 1) := by decide +kernel
theorem d_law_239 : decode code 239 = .ok (.iaload, 1) := by decide +kernel
theorem d_law_240 : decode code 240 = .ok (.invokevirtual 28, 3) := by decide +kernel
theorem d_law_243 : decode code 243 = .ok (.aload_n 2, 1) := by decide +kernel
theorem d_law_244 : decode code 244 = .ok (.aload_n 0, 1) := by decide +kernel
theorem d_law_245 : decode code 245 = .ok (.iload_n 3, 1) := by decide +kernel
theorem d_law_246 : decode code 246 = .ok (.iconst 1, 1) := by decide +kernel
theorem d_law_247 : decode code 247 = .ok (.iadd, 1) := by decide +kernel
theorem d_law_248 : decode code 248 = .ok (.iaload, 1) := by decide +kernel
theorem d_law_249 : decode code 249 = .ok (.aload_n 0, 1) := by decide +kernel
theorem d_law_250 : decode code 250 = .ok (.iload_n 3, 1) := by decide +kernel
theorem d_law_251 : decode code 251 = .ok (.iconst 2, 1) := by decide +kernel
theorem d_law_252 : decode code 252 = .ok (.iadd, 1) := by decide +kernel
theorem d_law_253 : decode code 253 = .ok (.iaload, 1) := by decide +kernel
theorem d_law_254 : decode code 254 = .ok (.invokevirtual 31, 3) := by decide +kernel
theorem d_law_257 : decode code 257 = .ok (.if_icmp .eq 272, 3) := by decide +kernel
theorem d_law_260 : decode code 260 = .ok (.iconst 0, 1) := by decide +kernel
theorem d_law_261 : decode code 261 = .ok (.ireturn, 1) := by decide +kernel
theorem d_law_262 : decode code 262 = .ok (.aload_n 1, 1) := by decide +kernel
theorem d_law_263 : decode code 263 = .ok (.aload_n 0, 1) := by decide +kernel
theorem d_law_264 : decode code 264 = .ok (.iload_n 3, 1) := by decide +kernel
theorem d_law_265 : decode code 265 = .ok (.iconst 1, 1) := by decide +kernel
theorem d_law_266 : decode code 266 = .ok (.iadd, 1) := by decide +kernel
theorem d_law_267 : decode code 267 = .ok (.iaload, 1) := by decide +kernel
theorem d_law_268 : decode code 268 = .ok (.aload_n 0, 1) := by decide +kernel
theorem d_law_269 : decode code 269 = .ok (.iload_n 3, 1) := by decide +kernel
theorem d_law_270 : decode code 270 = .ok (.iconst 2, 1) := by decide +kernel
theorem d_law_271 : decode code 271 = .ok (.iadd, 1) := by decide +kernel
theorem d_law_272 : decode code 272 = .ok (.iaload, 1) := by decide +kernel
theorem d_law_273 : decode code 273 = .ok (.aload_n 0, 1) := by decide +kernel
theorem d_law_274 : decode code 274 = .ok (.iload_n 3, 1) := by decide +kernel
theorem d_law_275 : decode code 275 = .ok (.iconst 3, 1) := by decide +kernel
theorem d_law_276 : decode code 276 = .ok (.iadd, 1) := by decide +kernel
theorem d_law_277 : decode code 277 = .ok (.iaload, 1) := by decide +kernel
theorem d_law_278 : decode code 278 = .ok (.invokevirtual 32, 3) := by decide +kernel
theorem d_law_281 : decode code 281 = .ok (.aload_n 2, 1) := by decide +kernel
theorem d_law_282 : decode code 282 = .ok (.aload_n 0, 1) := by decide +kernel
theorem d_law_283 : decode code 283 = .ok (.iload_n 3, 1) := by decide +kernel
theorem d_law_284 : decode code 284 = .ok (.iconst 1, 1) := by decide +kernel
theorem d_law_285 : decode code 285 = .ok (.iadd, 1) := by decide +kernel
theorem d_law_286 : decode code 286 = .ok (.iaload, 1) := by decide +kernel
theorem d_law_287 : decode code 287 = .ok (.aload_n 0, 1) := by decide +kernel
theorem d_law_288 : decode code 288 = .ok (.iload_n 3, 1) := by decide +kernel
theorem d_law_289 : decode code 289 = .ok (.iconst 2, 1) := by decide +kernel
theorem d_law_290 : decode code 290 = .ok (.iadd, 1) := by decide +kernel
theorem d_law_291 : decode code 291 = .ok (.iaload, 1) := by decide +kernel
theorem d_law_292 : decode code 292 = .ok (.aload_n 0, 1) := by decide +kernel
theorem d_law_293 : decode code 293 = .ok (.iload_n 3, 1) := by decide +kernel
theorem d_law_294 : decode code 294 = .ok (.iconst 3, 1) := by decide +kernel
theorem d_law_295 : decode code 295 = .ok (.iadd, 1) := by decide +kernel
theorem d_law_296 : decode code 296 = .ok (.iaload, 1) := by decide +kernel
theorem d_law_297 : decode code 297 = .ok (.invokevirtual 35, 3) := by decide +kernel
theorem d_law_300 : decode code 300 = .ok (.if_icmp .eq 229, 3) := by decide +kernel
theorem d_law_303 : decode code 303 = .ok (.iconst 0, 1) := by decide +kernel
theorem d_law_304 : decode code 304 = .ok (.ireturn, 1) := by decide +kernel
theorem d_law_305 : decode code 305 = .ok (.aload_n 1, 1) := by decide +kernel
theorem d_law_306 : decode code 306 = .ok (.aload_n 0, 1) := by decide +kernel
theorem d_law_307 : decode code 307 = .ok (.iload_n 3, 1) := by decide +kernel
theorem d_law_308 : decode code 308 = .ok (.iconst 1, 1) := by decide +kernel
theorem d_law_309 : decode code 309 = .ok (.iadd, 1) := by decide +kernel
theorem d_law_310 : decode code 310 = .ok (.iaload, 1) := by decide +kernel
theorem d_law_311 : decode code 311 = .ok (.aload_n 0, 1) := by decide +kernel
theorem d_law_312 : decode code 312 = .ok (.iload_n 3, 1) := by decide +kernel
theorem d_law_313 : decode code 313 = .ok (.iconst 2, 1) := by decide +kernel
theorem d_law_314 : decode code 314 = .ok (.iadd, 1) := by decide +kernel
theorem d_law_315 : decode code 315 = .ok (.iaload, 1) := by decide +kernel
theorem d_law_316 : decode code 316 = .ok (.invokevirtual 36, 3) := by decide +kernel
theorem d_law_319 : decode code 319 = .ok (.aload_n 2, 1) := by decide +kernel
theorem d_law_320 : decode code 320 = .ok (.aload_n 0, 1) := by decide +kernel
theorem d_law_321 : decode code 321 = .ok (.iload_n 3, 1) := by decide +kernel
theorem d_law_322 : decode code 322 = .ok (.iconst 1, 1) := by decide +kernel
theorem d_law_323 : decode code 323 = .ok (.iadd, 1) := by decide +kernel
theorem d_law_324 : decode code 324 = .ok (.iaload, 1) := by decide +kernel
theorem d_law_325 : decode code 325 = .ok (.aload_n 0, 1) := by decide +kernel
theorem d_law_326 : decode code 326 = .ok (.iload_n 3, 1) := by decide +kernel
theorem d_law_327 : decode code 327 = .ok (.iconst 2, 1) := by decide +kernel
theorem d_law_328 : decode code 328 = .ok (.iadd, 1) := by decide +kernel
theorem d_law_329 : decode code 329 = .ok (.iaload, 1) := by decide +kernel
theorem d_law_330 : decode code 330 = .ok (.invokevirtual 39, 3) := by decide +kernel
theorem d_law_333 : decode code 333 = .ok (.if_icmp .eq 196, 3) := by decide +kernel
theorem d_law_336 : decode code 336 = .ok (.iconst 0, 1) := by decide +kernel
theorem d_law_337 : decode code 337 = .ok (.ireturn, 1) := by decide +kernel
theorem d_law_338 : decode code 338 = .ok (.aload_n 1, 1) := by decide +kernel
theorem d_law_339 : decode code 339 = .ok (.aload_n 0, 1) := by decide +kernel
theorem d_law_340 : decode code 340 = .ok (.iload_n 3, 1) := by decide +kernel
theorem d_law_341 : decode code 341 = .ok (.iconst 1, 1) := by decide +kernel
theorem d_law_342 : decode code 342 = .ok (.iadd, 1) := by decide +kernel
theorem d_law_343 : decode code 343 = .ok (.iaload, 1) := by decide +kernel
theorem d_law_344 : decode code 344 = .ok (.invokevirtual 40, 3) := by decide +kernel
theorem d_law_347 : decode code 347 = .ok (.aload_n 2, 1) := by decide +kernel
theorem d_law_348 : decode code 348 = .ok (.aload_n 0, 1) := by decide +kernel
theorem d_law_349 : decode code 349 = .ok (.iload_n 3, 1) := by decide +kernel
theorem d_law_350 : decode code 350 = .ok (.iconst 1, 1) := by decide +kernel
theorem d_law_351 : decode code 351 = .ok (.iadd, 1) := by decide +kernel
theorem d_law_352 : decode code 352 = .ok (.iaload, 1) := by decide +kernel
theorem d_law_353 : decode code 353 = .ok (.invokevirtual 44, 3) := by decide +kernel
theorem d_law_356 : decode code 356 = .ok (.if_icmp .eq 173, 3) := by decide +kernel
theorem d_law_359 : decode code 359 = .ok (.iconst 0, 1) := by decide +kernel
theorem d_law_360 : decode code 360 = .ok (.ireturn, 1) := by decide +kernel
theorem d_law_361 : decode code 361 = .ok (.aload_n 1, 1) := by decide +kernel
theorem d_law_362 : decode code 362 = .ok (.aload_n 0, 1) := by decide +kernel
theorem d_law_363 : decode code 363 = .ok (.iload_n 3, 1) := by decide +kernel
theorem d_law_364 : decode code 364 = .ok (.iconst 1, 1) := by decide +kernel
theorem d_law_365 : decode code 365 = .ok (.iadd, 1) := by decide +kernel
theorem d_law_366 : decode code 366 = .ok (.iaload, 1) := by decide +kernel
theorem d_law_367 : decode code 367 = .ok (.invokevirtual 45, 3) := by decide +kernel
theorem d_law_370 : decode code 370 = .ok (.aload_n 2, 1) := by decide +kernel
theorem d_law_371 : decode code 371 = .ok (.aload_n 0, 1) := by decide +kernel
theorem d_law_372 : decode code 372 = .ok (.iload_n 3, 1) := by decide +kernel
theorem d_law_373 : decode code 373 = .ok (.iconst 1, 1) := by decide +kernel
theorem d_law_374 : decode code 374 = .ok (.iadd, 1) := by decide +kernel
theorem d_law_375 : decode code 375 = .ok (.iaload, 1) := by decide +kernel
theorem d_law_376 : decode code 376 = .ok (.invokevirtual 49, 3) := by decide +kernel
theorem d_law_379 : decode code 379 = .ok (.if_icmp .eq 150, 3) := by decide +kernel
theorem d_law_382 : decode code 382 = .ok (.iconst 0, 1) := by decide +kernel
theorem d_law_383 : decode code 383 = .ok (.ireturn, 1) := by decide +kernel
theorem d_law_384 : decode code 384 = .ok (.aload_n 1, 1) := by decide +kernel
theorem d_law_385 : decode code 385 = .ok (.aload_n 0, 1) := by decide +kernel
end
section
theorem d_law_386 : decode code 386 = .ok (.iload_n 3, 1) := by decide +kernel
theorem d_law_387 : decode code 387 = .ok (.iconst 1, 1) := by decide +kernel
theorem d_law_388 : decode code 388 = .ok (.iadd, 1) := by decide +kernel
theorem d_law_389 : decode code 389 = .ok (.iaload, 1) := by decide +kernel
theorem d_law_390 : decode code 390 = .ok (.aload_n 0, 1) := by decide +kernel
theorem d_law_391 : decode code 391 = .ok (.iload_n 3, 1) := by decide +kernel
theorem d_law_392 : decode code 392 = .ok (.iconst 2, 1) := by decide +kernel
theorem d_law_393 : decode code 393 = .ok (.iadd, 1) := by decide +kernel
theorem d_law_394 : decode code 394 = .ok (.iaload, 1) := by decide +kernel
theorem d_law_395 : decode code 395 = .ok (.aload_n 0, 1) := by decide +kernel
theorem d_law_396 : decode code 396 = .ok (.iload_n 3, 1) := by decide +kernel
theorem d_law_397 : decode code 397 = .ok (.iconst 3, 1) := by decide +kernel
theorem d_law_398 : decode code 398 = .ok (.iadd, 1) := by decide +kernel
theorem d_law_399 : decode code 399 = .ok (.iaload, 1) := by decide +kernel
theorem d_law_400 : decode code 400 = .ok (.invokevirtual 50, 3) := by decide +kernel
theorem d_law_403 : decode code 403 = .ok (.aload_n 2, 1) := by decide +kernel
theorem d_law_404 : decode code 404 = .ok (.aload_n 0, 1) := by decide +kernel
theorem d_law_405 : decode code 405 = .ok (.iload_n 3, 1) := by decide +kernel
theorem d_law_406 : decode code 406 = .ok (.iconst 1, 1) := by decide +kernel
theorem d_law_407 : decode code 407 = .ok (.iadd, 1) := by decide +kernel
theorem d_law_408 : decode code 408 = .ok (.iaload, 1) := by decide +kernel
theorem d_law_409 : decode code 409 = .ok (.aload_n 0, 1) := by decide +kernel
theorem d_law_410 : decode code 410 = .ok (.iload_n 3, 1) := by decide +kernel
theorem d_law_411 : decode code 411 = .ok (.iconst 2, 1) := by decide +kernel
theorem d_law_412 : decode code 412 = .ok (.iadd, 1) := by decide +kernel
theorem d_law_413 : decode code 413 = .ok (.iaload, 1) := by decide +kernel
theorem d_law_414 : decode code 414 = .ok (.aload_n 0, 1) := by decide +kernel
theorem d_law_415 : decode code 415 = .ok (.iload_n 3, 1) := by decide +kernel
theorem d_law_416 : decode code 416 = .ok (.iconst 3, 1) := by decide +kernel
theorem d_law_417 : decode code 417 = .ok (.iadd, 1) := by decide +kernel
theorem d_law_418 : decode code 418 = .ok (.iaload, 1) := by decide +kernel
theorem d_law_419 : decode code 419 = .ok (.invokevirtual 53, 3) := by decide +kernel
theorem d_law_422 : decode code 422 = .ok (.if_icmp .eq 107, 3) := by decide +kernel
theorem d_law_425 : decode code 425 = .ok (.iconst 0, 1) := by decide +kernel
theorem d_law_426 : decode code 426 = .ok (.ireturn, 1) := by decide +kernel
theorem d_law_427 : decode code 427 = .ok (.aload_n 1, 1) := by decide +kernel
theorem d_law_428 : decode code 428 = .ok (.aload_n 0, 1) := by decide +kernel
theorem d_law_429 : decode code 429 = .ok (.iload_n 3, 1) := by decide +kernel
theorem d_law_430 : decode code 430 = .ok (.iconst 1, 1) := by decide +kernel
theorem d_law_431 : decode code 431 = .ok (.iadd, 1) := by decide +kernel
theorem d_law_432 : decode code 432 = .ok (.iaload, 1) := by decide +kernel
theorem d_law_433 : decode code 433 = .ok (.aload_n 0, 1) := by decide +kernel
theorem d_law_434 : decode code 434 = .ok (.iload_n 3, 1) := by decide +kernel
theorem d_law_435 : decode code 435 = .ok (.iconst 2, 1) := by decide +kernel
theorem d_law_436 : decode code 436 = .ok (.iadd, 1) := by decide +kernel
theorem d_law_437 : decode code 437 = .ok (.iaload, 1) := by decide +kernel
theorem d_law_438 : decode code 438 = .ok (.aload_n 0, 1) := by decide +kernel
theorem d_law_439 : decode code 439 = .ok (.iload_n 3, 1) := by decide +kernel
theorem d_law_440 : decode code 440 = .ok (.iconst 3, 1) := by decide +kernel
theorem d_law_441 : decode code 441 = .ok (.iadd, 1) := by decide +kernel
theorem d_law_442 : decode code 442 = .ok (.iaload, 1) := by decide +kernel
theorem d_law_443 : decode code 443 = .ok (.invokevirtual 54, 3) := by decide +kernel
theorem d_law_446 : decode code 446 = .ok (.aload_n 2, 1) := by decide +kernel
theorem d_law_447 : decode code 447 = .ok (.aload_n 0, 1) := by decide +kernel
theorem d_law_448 : decode code 448 = .ok (.iload_n 3, 1) := by decide +kernel
theorem d_law_449 : decode code 449 = .ok (.iconst 1, 1) := by decide +kernel
theorem d_law_450 : decode code 450 = .ok (.iadd, 1) := by decide +kernel
theorem d_law_451 : decode code 451 = .ok (.iaload, 1) := by decide +kernel
theorem d_law_452 : decode code 452 = .ok (.aload_n 0, 1) := by decide +kernel
theorem d_law_453 : decode code 453 = .ok (.iload_n 3, 1) := by decide +kernel
theorem d_law_454 : decode code 454 = .ok (.iconst 2, 1) := by decide +kernel
theorem d_law_455 : decode code 455 = .ok (.iadd, 1) := by decide +kernel
theorem d_law_456 : decode code 456 = .ok (.iaload, 1) := by decide +kernel
theorem d_law_457 : decode code 457 = .ok (.aload_n 0, 1) := by decide +kernel
theorem d_law_458 : decode code 458 = .ok (.iload_n 3, 1) := by decide +kernel
theorem d_law_459 : decode code 459 = .ok (.iconst 3, 1) := by decide +kernel
theorem d_law_460 : decode code 460 = .ok (.iadd, 1) := by decide +kernel
theorem d_law_461 : decode code 461 = .ok (.iaload, 1) := by decide +kernel
theorem d_law_462 : decode code 462 = .ok (.invokevirtual 57, 3) := by decide +kernel
theorem d_law_465 : decode code 465 = .ok (.if_icmp .eq 64, 3) := by decide +kernel
theorem d_law_468 : decode code 468 = .ok (.iconst 0, 1) := by decide +kernel
theorem d_law_469 : decode code 469 = .ok (.ireturn, 1) := by decide +kernel
theorem d_law_470 : decode code 470 = .ok (.aload_n 1, 1) := by decide +kernel
theorem d_law_471 : decode code 471 = .ok (.aload_n 0, 1) := by decide +kernel
theorem d_law_472 : decode code 472 = .ok (.iload_n 3, 1) := by decide +kernel
theorem d_law_473 : decode code 473 = .ok (.iconst 1, 1) := by decide +kernel
theorem d_law_474 : decode code 474 = .ok (.iadd, 1) := by decide +kernel
theorem d_law_475 : decode code 475 = .ok (.iaload, 1) := by decide +kernel
theorem d_law_476 : decode code 476 = .ok (.invokevirtual 58, 3) := by decide +kernel
theorem d_law_479 : decode code 479 = .ok (.aload_n 2, 1) := by decide +kernel
theorem d_law_480 : decode code 480 = .ok (.aload_n 0, 1) := by decide +kernel
theorem d_law_481 : decode code 481 = .ok (.iload_n 3, 1) := by decide +kernel
theorem d_law_482 : decode code 482 = .ok (.iconst 1, 1) := by decide +kernel
theorem d_law_483 : decode code 483 = .ok (.iadd, 1) := by decide +kernel
theorem d_law_484 : decode code 484 = .ok (.iaload, 1) := by decide +kernel
theorem d_law_485 : decode code 485 = .ok (.invokevirtual 61, 3) := by decide +kernel
theorem d_law_488 : decode code 488 = .ok (.if_icmp .eq 41, 3) := by decide +kernel
theorem d_law_491 : decode code 491 = .ok (.iconst 0, 1) := by decide +kernel
theorem d_law_492 : decode code 492 = .ok (.ireturn, 1) := by decide +kernel
theorem d_law_493 : decode code 493 = .ok (.aload_n 1, 1) := by decide +kernel
theorem d_law_494 : decode code 494 = .ok (.invokevirtual 62, 3) := by decide +kernel
theorem d_law_497 : decode code 497 = .ok (.aload_n 2, 1) := by decide +kernel
theorem d_law_498 : decode code 498 = .ok (.invokevirtual 66, 3) := by decide +kernel
theorem d_law_501 : decode code 501 = .ok (.if_icmp .eq 28, 3) := by decide +kernel
theorem d_law_504 : decode code 504 = .ok (.iconst 0, 1) := by decide +kernel
theorem d_law_505 : decode code 505 = .ok (.ireturn, 1) := by decide +kernel
theorem d_law_506 : decode code 506 = .ok (.aload_n 1, 1) := by decide +kernel
theorem d_law_507 : decode code 507 = .ok (.aload_n 0, 1) := by decide +kernel
theorem d_law_508 : decode code 508 = .ok (.iload_n 3, 1) := by decide +kernel
theorem d_law_509 : decode code 509 = .ok (.iconst 1, 1) := by decide +kernel
theorem d_law_510 : decode code 510 = .ok (.iadd, 1) := by decide +kernel
theorem d_law_511 : decode code 511 = .ok (.iaload, 1) := by decide +kernel
theorem d_law_512 : decode code 512 = .ok (.invokevirtual 67, 3) := by decide +kernel
theorem d_law_515 : decode code 515 = .ok (.aload_n 2, 1) := by decide +kernel
theorem d_law_516 : decode code 516 = .ok (.aload_n 0, 1) := by decide +kernel
theorem d_law_517 : decode code 517 = .ok (.iload_n 3, 1) := by decide +kernel
theorem d_law_518 : decode code 518 = .ok (.iconst 1, 1) := by decide +kernel
theorem d_law_519 : decode code 519 = .ok (.iadd, 1) := by decide +kernel
theorem d_law_520 : decode code 520 = .ok (.iaload, 1) := by decide +kernel
theorem d_law_521 : decode code 521 = .ok (.invokevirtual 70, 3) := by decide +kernel
theorem d_law_524 : decode code 524 = .ok (.if_icmp .eq 5, 3) := by decide +kernel
theorem d_law_527 : decode code 527 = .ok (.iconst 0, 1) := by decide +kernel
theorem d_law_528 : decode code 528 = .ok (.ireturn, 1) := by decide +kernel
theorem d_law_529 : decode code 529 = .ok (.iinc 3 5, 3) := by decide +kernel
theorem d_law_532 : decode code 532 = .ok (.goto (-514), 3) := by decide +kernel
theorem d_law_535 : decode code 535 = .ok (.iconst 1, 1) := by decide +kernel
theorem d_law_536 : decode code 536 = .ok (.ireturn, 1) := by decide +kernel
end
section
/-! Values are read as Int: zI n is the int32 of n. A world's state is a function st : Nat → Int → Int (array number, place). G st pc lv stk: the machine at pc with the locals lv, the operand stack stk and the world of st comes to its end. RB, RH, RC: what G is closed under. -/
abbrev zM : Type := Nat → Int → Int
abbrev zL : Type := List (Nat × Value)
def zI (n : Int) : Int32 := Int32.ofInt n
theorem zI_add (a b : Int) : zI a + zI b = zI (a + b) := (Int32.ofInt_add a b).symm
theorem zI_sub (a b : Int) : zI a - zI b = zI (a - b) := (Int32.ofInt_sub a b).symm
theorem zI_mul (a b : Int) : zI a * zI b = zI (a * b) := (Int32.ofInt_mul a b).symm
theorem zI_toInt {n : Int} (h : -2147483648 ≤ n ∧ n ≤ 2147483647) : (zI n).toInt = n := Int32.toInt_ofInt_of_le (by omega) (by omega)
theorem zI_of (x : Int32) : zI x.toInt = x := Int32.ofInt_toInt x
theorem zI_rng (x : Int32) : -2147483648 ≤ x.toInt ∧ x.toInt ≤ 2147483647 := by
  have h1 := Int32.le_toInt x
  have h2 := Int32.toInt_lt x
  omega
theorem zI_lt {a b : Int} (ha : -2147483648 ≤ a ∧ a ≤ 2147483647) (hb : -2147483648 ≤ b ∧ b ≤ 2147483647) : zI a < zI b ↔ a < b := by
  rw [Int32.lt_iff_toInt_lt, zI_toInt ha, zI_toInt hb]
theorem zI_le {a b : Int} (ha : -2147483648 ≤ a ∧ a ≤ 2147483647) (hb : -2147483648 ≤ b ∧ b ≤ 2147483647) : zI a ≤ zI b ↔ a ≤ b := by
  rw [Int32.le_iff_toInt_le, zI_toInt ha, zI_toInt hb]
theorem zI_eq {a b : Int} (ha : -2147483648 ≤ a ∧ a ≤ 2147483647) (hb : -2147483648 ≤ b ∧ b ≤ 2147483647) : zI a = zI b ↔ a = b := by
  rw [← Int32.toInt_inj, zI_toInt ha, zI_toInt hb]
theorem zI_0 : zI 0 = 0 := by decide
theorem zI_nat (n : Nat) : zI (n : Int) = nI n := by
  show Int32.ofInt (n : Int) = Int32.ofNat n
  exact Int32.ofInt_eq_ofNat
theorem zI_pos {a : Int} (h : 0 ≤ a) : zI a = nI a.toNat := by
  rw [← zI_nat, Int.toNat_of_nonneg h]
theorem zI_clamp {a : Int} (h : 0 ≤ a) (h2 : a ≤ 2147483647) : (zI a).toNatClampNeg = a.toNat := by
  rw [zI_pos h]
  exact nI_clamp (by omega)
theorem zI_in {a : Int} {n : Nat} (h : 0 ≤ a) (h1 : a < (n : Int)) (h2 : (n : Int) ≤ 2147483647) : vp_in (zI a) n := by
  rw [zI_pos h]
  exact vp_in_nI (by omega) (by omega)
theorem zI_shr2 {x : Int} (h : 0 ≤ x) (h2 : x ≤ 2147483647) : zI x >>> (zI 2 &&& 31) = zI (x / 4) := by
  rw [zI_pos h, zI_pos (show 0 ≤ x / 4 by omega), pk_shrN (by omega) _ 2 (by decide)]
  congr 1
  omega
theorem zI_and3 {x : Int} (h : 0 ≤ x) (h2 : x ≤ 2147483647) : zI x &&& zI 3 = zI (x % 4) := by
  rw [zI_pos h, zI_pos (show 0 ≤ x % 4 by omega), pk_andN (by omega) 2 (by decide)]
  congr 1
  omega
theorem zI_xor4 {x : Int} (h : 0 ≤ x) (h2 : x < 8) : zI x ^^^ zI 4 = zI (if x < 4 then x + 4 else x - 4) := by
  rcases (show x = 0 ∨ x = 1 ∨ x = 2 ∨ x = 3 ∨ x = 4 ∨ x = 5 ∨ x = 6 ∨ x = 7 by omega) with e | e | e | e | e | e | e | e <;> subst e <;> decide
theorem zI_nar {v : Int} (h : 0 ≤ v ∧ v ≤ 1) : narrow .boolean (.int (zI v)) = .int (zI v) := by
  rcases (show v = 0 ∨ v = 1 by omega) with e | e <;> subst e <;> decide
theorem zI_vnar {v : Int} (h : 0 ≤ v ∧ v ≤ 1) : vp_nar .boolean (zI v) = zI v := by
  rcases (show v = 0 ∨ v = 1 by omega) with e | e <;> subst e <;> decide
/-- a place of an array is written -/
def up (st : zM) (j : Nat) (i v : Int) : zM := fun j' => if j' = j then (fun i' => if i' = i then v else st j i') else st j'
theorem up_s (st : zM) (j : Nat) (i v : Int) : up st j i v j i = v := by simp [up]
theorem up_n (st : zM) (j : Nat) (i v : Int) {i' : Int} (h : i' ≠ i) : up st j i v j i' = st j i' := by simp [up, h]
theorem up_j (st : zM) (j : Nat) (i v : Int) {j' : Nat} (h : j' ≠ j) : up st j i v j' = st j' := by simp [up, h]
theorem up_e (st : zM) (j j' : Nat) (i v i' : Int) : up st j i v j' i' = if j' = j ∧ i' = i then v else st j' i' := by
  unfold up
  by_cases h : j' = j
  · subst h
    by_cases h2 : i' = i <;> simp [h2]
  · simp [h]
theorem up_arr {st : zM} {j : Nat} {i v : Int} (h : 0 ≤ i) : (fun q : Nat => zI (up st j i v j (q : Int))) = upd (fun q : Nat => zI (st j (q : Int))) i.toNat (zI v) := by
  funext q
  simp only [up, upd, if_pos rfl]
  by_cases hq : q = i.toNat
  · have : (q : Int) = i := by omega
    simp [hq, this, Int.toNat_of_nonneg h]
  · have : ¬ (q : Int) = i := by omega
    simp [hq, this]
/-- a local is stored, the list kept in the order of the places -/
def zst (lv : zL) (i : Nat) (v : Value) : zL := lv.filter (fun q => decide (q.1 < i) && !(q.1 + 1 == i && q.2.category == 2)) ++ (i, v) :: lv.filter (fun q => decide (i < q.1))
theorem zst_of {ls : Array Slot} {nL i : Nat} {lv : zL} {v : Value} (h : lv_has ls nL ((i, v) :: lv.filter (fun q => !(q.1 == i) && !(q.1 + 1 == i && q.2.category == 2)))) : lv_has ls nL (zst lv i v) := by
  refine ⟨h.1, h.2.1, fun q hq => h.2.2 q ?_⟩
  unfold zst at hq
  rcases List.mem_append.mp hq with h1 | h1
  · obtain ⟨a, b⟩ := List.mem_filter.mp h1
    refine List.mem_cons_of_mem _ (List.mem_filter.mpr ⟨a, ?_⟩)
    rw [Bool.and_eq_true] at b ⊢
    refine ⟨?_, b.2⟩
    have h3 : q.1 < i := of_decide_eq_true b.1
    have h4 : ¬ q.1 = i := by omega
    simp [h4]
  · rcases List.mem_cons.mp h1 with h2 | h2
    · rw [h2]; exact List.mem_cons_self
    · obtain ⟨a, b⟩ := List.mem_filter.mp h2
      refine List.mem_cons_of_mem _ (List.mem_filter.mpr ⟨a, ?_⟩)
      have h5 : i < q.1 := of_decide_eq_true b
      have h3 : ¬ q.1 = i := by omega
      have h4 : ¬ q.1 + 1 = i := by omega
      simp [h3, h4]
/-- the judgement -/
def GW (p : Program) (l : Launch) (e : Env) (R : Room) (s : State) (m : MethodId) (args : Array Value) (below : List Frame) (meth : Method) (c : Code) (cells slots : Nat) (Q : State → Prop) (D : va_G) (A : Nat → Prop) (H0 : Heap) (nL : Nat) {σ : Type} (wf : σ → va_W) (st : σ) (pc : Nat) (lv : zL) (stk : List Value) : Prop :=
  ∀ (H : Heap) (locs : List Loc) (ls : Array Slot), va_P D classes (wf st) H → va_D A (wf st) → va_S A H0 H locs → lv_has ls nL lv → W p l e R s m args below meth c H locs cells slots Q (F0 m pc ls stk)
abbrev zG (σ : Type) : Type := σ → Nat → zL → List Value → Prop
def RB {σ : Type} (b : ByteArray) (nL : Nat) (G : zG σ) : Prop :=
  (∀ (st : σ) (pc : Nat) (lv : zL) (stk : List Value) (n : Int), (decode b pc = .ok (.iconst n, 1)) → (G st (pc + 1) lv (.int (zI n) :: stk)) → G st pc lv stk) ∧
  (∀ (st : σ) (pc : Nat) (lv : zL) (stk : List Value) (n : Int), (decode b pc = .ok (.bipush n, 2)) → ((Int8.ofInt n).toInt32 = zI n) → (G st (pc + 2) lv (.int (zI n) :: stk)) → G st pc lv stk) ∧
  (∀ (st : σ) (pc : Nat) (lv : zL) (stk : List Value) (n : Int), (decode b pc = .ok (.sipush n, 3)) → ((Int16.ofInt n).toInt32 = zI n) → (G st (pc + 3) lv (.int (zI n) :: stk)) → G st pc lv stk) ∧
  (∀ (st : σ) (pc : Nat) (lv : zL) (stk : List Value) (f : Fin 4) (j : Nat) (x : Int), (decode b pc = .ok (.iload_n f, 1)) → (lv[j]? = some (f.val, Value.int (zI x))) → (G st (pc + 1) lv (.int (zI x) :: stk)) → G st pc lv stk) ∧
  (∀ (st : σ) (pc : Nat) (lv : zL) (stk : List Value) (i j : Nat) (x : Int), (decode b pc = .ok (.iload i, 2)) → (lv[j]? = some (i, Value.int (zI x))) → (G st (pc + 2) lv (.int (zI x) :: stk)) → G st pc lv stk) ∧
  (∀ (st : σ) (pc : Nat) (lv : zL) (stk : List Value) (f : Fin 4) (j x : Nat), (decode b pc = .ok (.aload_n f, 1)) → (lv[j]? = some (f.val, Value.ref x)) → (G st (pc + 1) lv (.ref x :: stk)) → G st pc lv stk) ∧
  (∀ (st : σ) (pc : Nat) (lv : zL) (stk : List Value) (f : Fin 4) (x : Int) (lv1 : zL), (decode b pc = .ok (.istore_n f, 1)) → (f.val < nL) → (zst lv f.val (.int (zI x)) = lv1) → (G st (pc + 1) lv1 stk) → G st pc lv (.int (zI x) :: stk)) ∧
  (∀ (st : σ) (pc : Nat) (lv : zL) (stk : List Value) (i : Nat) (x : Int) (lv1 : zL), (decode b pc = .ok (.istore i, 2)) → (i < nL) → (zst lv i (.int (zI x)) = lv1) → (G st (pc + 2) lv1 stk) → G st pc lv (.int (zI x) :: stk)) ∧
  (∀ (st : σ) (pc : Nat) (lv : zL) (stk : List Value) (i j : Nat) (n x : Int) (lv1 : zL), (decode b pc = .ok (.iinc i n, 3)) → (lv[j]? = some (i, Value.int (zI x))) → (i < nL) → (zst lv i (.int (zI (x + n))) = lv1) → (G st (pc + 3) lv1 stk) → G st pc lv stk) ∧
  (∀ (st : σ) (pc : Nat) (lv : zL) (stk : List Value) (x y : Int), (decode b pc = .ok (.iadd, 1)) → (G st (pc + 1) lv (.int (zI (x + y)) :: stk)) → G st pc lv (.int (zI y) :: .int (zI x) :: stk)) ∧
  (∀ (st : σ) (pc : Nat) (lv : zL) (stk : List Value) (x y : Int), (decode b pc = .ok (.isub, 1)) → (G st (pc + 1) lv (.int (zI (x - y)) :: stk)) → G st pc lv (.int (zI y) :: .int (zI x) :: stk)) ∧
  (∀ (st : σ) (pc : Nat) (lv : zL) (stk : List Value) (x y : Int), (decode b pc = .ok (.imul, 1)) → (G st (pc + 1) lv (.int (zI (x * y)) :: stk)) → G st pc lv (.int (zI y) :: .int (zI x) :: stk)) ∧
  (∀ (st : σ) (pc : Nat) (lv : zL) (stk : List Value) (x : Int), (decode b pc = .ok (.ishr, 1)) → (0 ≤ x ∧ x ≤ 2147483647) → (G st (pc + 1) lv (.int (zI (x / 4)) :: stk)) → G st pc lv (.int (zI 2) :: .int (zI x) :: stk)) ∧
  (∀ (st : σ) (pc : Nat) (lv : zL) (stk : List Value) (x : Int), (decode b pc = .ok (.iand, 1)) → (0 ≤ x ∧ x ≤ 2147483647) → (G st (pc + 1) lv (.int (zI (x % 4)) :: stk)) → G st pc lv (.int (zI 3) :: .int (zI x) :: stk)) ∧
  (∀ (st : σ) (pc : Nat) (lv : zL) (stk : List Value) (x : Int), (decode b pc = .ok (.ixor, 1)) → (0 ≤ x ∧ x < 8) → (G st (pc + 1) lv (.int (zI (if x < 4 then x + 4 else x - 4)) :: stk)) → G st pc lv (.int (zI 4) :: .int (zI x) :: stk)) ∧
  (∀ (st : σ) (pc : Nat) (lv : zL) (stk : List Value) (x : Int), (decode b pc = .ok (.pop, 1)) → (G st (pc + 1) lv stk) → G st pc lv (.int (zI x) :: stk)) ∧
  (∀ (st : σ) (pc : Nat) (lv : zL) (stk : List Value) (ks : List Nat) (lv1 : zL), (lv_pick lv ks = lv1) → (G st pc lv1 stk) → G st pc lv stk) ∧
  (∀ (st : σ) (pc : Nat) (lv : zL) (stk : List Value) (x : Nat), (decode b pc = .ok (.dup, 1)) → (G st (pc + 1) lv (.ref x :: .ref x :: stk)) → G st pc lv (.ref x :: stk)) ∧
  (∀ (st : σ) (pc : Nat) (lv : zL) (stk : List Value) (off : Int) (tgt : Nat), (decode b pc = .ok (.goto off, 3)) → ((pc : Int) + off = (tgt : Int)) → (G st tgt lv stk) → G st pc lv stk) ∧
  (∀ (st : σ) (pc : Nat) (lv : zL) (stk : List Value) (x off : Int) (tgt : Nat), (decode b pc = .ok (.ifCond .eq off, 3)) → ((-2147483648 ≤ x ∧ x ≤ 2147483647)) → ((pc : Int) + off = (tgt : Int)) → (x = 0 → G st tgt lv stk) → (x ≠ 0 → G st (pc + 3) lv stk) → G st pc lv (.int (zI x) :: stk)) ∧
  (∀ (st : σ) (pc : Nat) (lv : zL) (stk : List Value) (x y off : Int) (tgt : Nat), (decode b pc = .ok (.if_icmp .eq off, 3)) → ((-2147483648 ≤ x ∧ x ≤ 2147483647)) → ((-2147483648 ≤ y ∧ y ≤ 2147483647)) → ((pc : Int) + off = (tgt : Int)) → (x = y → G st tgt lv stk) → (x ≠ y → G st (pc + 3) lv stk) → G st pc lv (.int (zI y) :: .int (zI x) :: stk)) ∧
  (∀ (st : σ) (pc : Nat) (lv : zL) (stk : List Value) (x off : Int) (tgt : Nat), (decode b pc = .ok (.ifCond .ne off, 3)) → ((-2147483648 ≤ x ∧ x ≤ 2147483647)) → ((pc : Int) + off = (tgt : Int)) → (x ≠ 0 → G st tgt lv stk) → (x = 0 → G st (pc + 3) lv stk) → G st pc lv (.int (zI x) :: stk)) ∧
  (∀ (st : σ) (pc : Nat) (lv : zL) (stk : List Value) (x y off : Int) (tgt : Nat), (decode b pc = .ok (.if_icmp .ne off, 3)) → ((-2147483648 ≤ x ∧ x ≤ 2147483647)) → ((-2147483648 ≤ y ∧ y ≤ 2147483647)) → ((pc : Int) + off = (tgt : Int)) → (x ≠ y → G st tgt lv stk) → (x = y → G st (pc + 3) lv stk) → G st pc lv (.int (zI y) :: .int (zI x) :: stk)) ∧
  (∀ (st : σ) (pc : Nat) (lv : zL) (stk : List Value) (x off : Int) (tgt : Nat), (decode b pc = .ok (.ifCond .lt off, 3)) → ((-2147483648 ≤ x ∧ x ≤ 2147483647)) → ((pc : Int) + off = (tgt : Int)) → (x < 0 → G st tgt lv stk) → (0 ≤ x → G st (pc + 3) lv stk) → G st pc lv (.int (zI x) :: stk)) ∧
  (∀ (st : σ) (pc : Nat) (lv : zL) (stk : List Value) (x y off : Int) (tgt : Nat), (decode b pc = .ok (.if_icmp .lt off, 3)) → ((-2147483648 ≤ x ∧ x ≤ 2147483647)) → ((-2147483648 ≤ y ∧ y ≤ 2147483647)) → ((pc : Int) + off = (tgt : Int)) → (x < y → G st tgt lv stk) → (y ≤ x → G st (pc + 3) lv stk) → G st pc lv (.int (zI y) :: .int (zI x) :: stk)) ∧
  (∀ (st : σ) (pc : Nat) (lv : zL) (stk : List Value) (x off : Int) (tgt : Nat), (decode b pc = .ok (.ifCond .ge off, 3)) → ((-2147483648 ≤ x ∧ x ≤ 2147483647)) → ((pc : Int) + off = (tgt : Int)) → (0 ≤ x → G st tgt lv stk) → (x < 0 → G st (pc + 3) lv stk) → G st pc lv (.int (zI x) :: stk)) ∧
  (∀ (st : σ) (pc : Nat) (lv : zL) (stk : List Value) (x y off : Int) (tgt : Nat), (decode b pc = .ok (.if_icmp .ge off, 3)) → ((-2147483648 ≤ x ∧ x ≤ 2147483647)) → ((-2147483648 ≤ y ∧ y ≤ 2147483647)) → ((pc : Int) + off = (tgt : Int)) → (y ≤ x → G st tgt lv stk) → (x < y → G st (pc + 3) lv stk) → G st pc lv (.int (zI y) :: .int (zI x) :: stk)) ∧
  (∀ (st : σ) (pc : Nat) (lv : zL) (stk : List Value) (x off : Int) (tgt : Nat), (decode b pc = .ok (.ifCond .gt off, 3)) → ((-2147483648 ≤ x ∧ x ≤ 2147483647)) → ((pc : Int) + off = (tgt : Int)) → (0 < x → G st tgt lv stk) → (x ≤ 0 → G st (pc + 3) lv stk) → G st pc lv (.int (zI x) :: stk)) ∧
  (∀ (st : σ) (pc : Nat) (lv : zL) (stk : List Value) (x y off : Int) (tgt : Nat), (decode b pc = .ok (.if_icmp .gt off, 3)) → ((-2147483648 ≤ x ∧ x ≤ 2147483647)) → ((-2147483648 ≤ y ∧ y ≤ 2147483647)) → ((pc : Int) + off = (tgt : Int)) → (y < x → G st tgt lv stk) → (x ≤ y → G st (pc + 3) lv stk) → G st pc lv (.int (zI y) :: .int (zI x) :: stk)) ∧
  (∀ (st : σ) (pc : Nat) (lv : zL) (stk : List Value) (x off : Int) (tgt : Nat), (decode b pc = .ok (.ifCond .le off, 3)) → ((-2147483648 ≤ x ∧ x ≤ 2147483647)) → ((pc : Int) + off = (tgt : Int)) → (x ≤ 0 → G st tgt lv stk) → (0 < x → G st (pc + 3) lv stk) → G st pc lv (.int (zI x) :: stk)) ∧
  (∀ (st : σ) (pc : Nat) (lv : zL) (stk : List Value) (x y off : Int) (tgt : Nat), (decode b pc = .ok (.if_icmp .le off, 3)) → ((-2147483648 ≤ x ∧ x ≤ 2147483647)) → ((-2147483648 ≤ y ∧ y ≤ 2147483647)) → ((pc : Int) + off = (tgt : Int)) → (x ≤ y → G st tgt lv stk) → (y < x → G st (pc + 3) lv stk) → G st pc lv (.int (zI y) :: .int (zI x) :: stk)) ∧
  (∀ (st : σ) (pc : Nat) (lv : zL) (stk : List Value) (x y off : Int) (tgt : Nat), (decode b pc = .ok (.if_icmp .ge off, 3)) → ((pc : Int) + off = (tgt : Int)) → (G st tgt lv stk) → (G st (pc + 3) lv stk) → G st pc lv (.int (zI y) :: .int (zI x) :: stk)) ∧
  (∀ (st : σ) (pc : Nat) (lv : zL) (stk : List Value) (x y off : Int) (tgt : Nat), (decode b pc = .ok (.if_icmp .eq off, 3)) → (x = y) → ((pc : Int) + off = (tgt : Int)) → (G st tgt lv stk) → G st pc lv (.int (zI y) :: .int (zI x) :: stk))
theorem rb_iconst {σ : Type} {b : ByteArray} {nL : Nat} {G : zG σ} (h0 : RB b nL G) {st : σ} {pc : Nat} {lv : zL} {stk : List Value} {n : Int} (d : decode b pc = .ok (.iconst n, 1)) (k : G st (pc + 1) lv (.int (zI n) :: stk)) : G st pc lv stk := h0.1 st pc lv stk n d k
theorem rb_bipush {σ : Type} {b : ByteArray} {nL : Nat} {G : zG σ} (h0 : RB b nL G) {st : σ} {pc : Nat} {lv : zL} {stk : List Value} {n : Int} (d : decode b pc = .ok (.bipush n, 2)) (hn : (Int8.ofInt n).toInt32 = zI n) (k : G st (pc + 2) lv (.int (zI n) :: stk)) : G st pc lv stk := h0.2.1 st pc lv stk n d hn k
theorem rb_sipush {σ : Type} {b : ByteArray} {nL : Nat} {G : zG σ} (h0 : RB b nL G) {st : σ} {pc : Nat} {lv : zL} {stk : List Value} {n : Int} (d : decode b pc = .ok (.sipush n, 3)) (hn : (Int16.ofInt n).toInt32 = zI n) (k : G st (pc + 3) lv (.int (zI n) :: stk)) : G st pc lv stk := h0.2.2.1 st pc lv stk n d hn k
theorem rb_iload_n {σ : Type} {b : ByteArray} {nL : Nat} {G : zG σ} (h0 : RB b nL G) {st : σ} {pc : Nat} {lv : zL} {stk : List Value} {f : Fin 4} {j : Nat} {x : Int} (d : decode b pc = .ok (.iload_n f, 1)) (hj : lv[j]? = some (f.val, Value.int (zI x))) (k : G st (pc + 1) lv (.int (zI x) :: stk)) : G st pc lv stk := h0.2.2.2.1 st pc lv stk f j x d hj k
theorem rb_iload {σ : Type} {b : ByteArray} {nL : Nat} {G : zG σ} (h0 : RB b nL G) {st : σ} {pc : Nat} {lv : zL} {stk : List Value} {i j : Nat} {x : Int} (d : decode b pc = .ok (.iload i, 2)) (hj : lv[j]? = some (i, Value.int (zI x))) (k : G st (pc + 2) lv (.int (zI x) :: stk)) : G st pc lv stk := h0.2.2.2.2.1 st pc lv stk i j x d hj k
theorem rb_aload_n {σ : Type} {b : ByteArray} {nL : Nat} {G : zG σ} (h0 : RB b nL G) {st : σ} {pc : Nat} {lv : zL} {stk : List Value} {f : Fin 4} {j x : Nat} (d : decode b pc = .ok (.aload_n f, 1)) (hj : lv[j]? = some (f.val, Value.ref x)) (k : G st (pc + 1) lv (.ref x :: stk)) : G st pc lv stk := h0.2.2.2.2.2.1 st pc lv stk f j x d hj k
theorem rb_istore_n {σ : Type} {b : ByteArray} {nL : Nat} {G : zG σ} (h0 : RB b nL G) {st : σ} {pc : Nat} {lv : zL} {stk : List Value} {f : Fin 4} {x : Int} {lv1 : zL} (d : decode b pc = .ok (.istore_n f, 1)) (hn : f.val < nL) (he : zst lv f.val (.int (zI x)) = lv1) (k : G st (pc + 1) lv1 stk) : G st pc lv (.int (zI x) :: stk) := h0.2.2.2.2.2.2.1 st pc lv stk f x lv1 d hn he k
theorem rb_istore {σ : Type} {b : ByteArray} {nL : Nat} {G : zG σ} (h0 : RB b nL G) {st : σ} {pc : Nat} {lv : zL} {stk : List Value} {i : Nat} {x : Int} {lv1 : zL} (d : decode b pc = .ok (.istore i, 2)) (hn : i < nL) (he : zst lv i (.int (zI x)) = lv1) (k : G st (pc + 2) lv1 stk) : G st pc lv (.int (zI x) :: stk) := h0.2.2.2.2.2.2.2.1 st pc lv stk i x lv1 d hn he k
theorem rb_iinc {σ : Type} {b : ByteArray} {nL : Nat} {G : zG σ} (h0 : RB b nL G) {st : σ} {pc : Nat} {lv : zL} {stk : List Value} {i j : Nat} {n x : Int} {lv1 : zL} (d : decode b pc = .ok (.iinc i n, 3)) (hj : lv[j]? = some (i, Value.int (zI x))) (hn : i < nL) (he : zst lv i (.int (zI (x + n))) = lv1) (k : G st (pc + 3) lv1 stk) : G st pc lv stk := h0.2.2.2.2.2.2.2.2.1 st pc lv stk i j n x lv1 d hj hn he k
theorem rb_iadd {σ : Type} {b : ByteArray} {nL : Nat} {G : zG σ} (h0 : RB b nL G) {st : σ} {pc : Nat} {lv : zL} {stk : List Value} {x y : Int} (d : decode b pc = .ok (.iadd, 1)) (k : G st (pc + 1) lv (.int (zI (x + y)) :: stk)) : G st pc lv (.int (zI y) :: .int (zI x) :: stk) := h0.2.2.2.2.2.2.2.2.2.1 st pc lv stk x y d k
theorem rb_isub {σ : Type} {b : ByteArray} {nL : Nat} {G : zG σ} (h0 : RB b nL G) {st : σ} {pc : Nat} {lv : zL} {stk : List Value} {x y : Int} (d : decode b pc = .ok (.isub, 1)) (k : G st (pc + 1) lv (.int (zI (x - y)) :: stk)) : G st pc lv (.int (zI y) :: .int (zI x) :: stk) := h0.2.2.2.2.2.2.2.2.2.2.1 st pc lv stk x y d k
theorem rb_imul {σ : Type} {b : ByteArray} {nL : Nat} {G : zG σ} (h0 : RB b nL G) {st : σ} {pc : Nat} {lv : zL} {stk : List Value} {x y : Int} (d : decode b pc = .ok (.imul, 1)) (k : G st (pc + 1) lv (.int (zI (x * y)) :: stk)) : G st pc lv (.int (zI y) :: .int (zI x) :: stk) := h0.2.2.2.2.2.2.2.2.2.2.2.1 st pc lv stk x y d k
theorem rb_shr2 {σ : Type} {b : ByteArray} {nL : Nat} {G : zG σ} (h0 : RB b nL G) {st : σ} {pc : Nat} {lv : zL} {stk : List Value} {x : Int} (d : decode b pc = .ok (.ishr, 1)) (h : 0 ≤ x ∧ x ≤ 2147483647) (k : G st (pc + 1) lv (.int (zI (x / 4)) :: stk)) : G st pc lv (.int (zI 2) :: .int (zI x) :: stk) := h0.2.2.2.2.2.2.2.2.2.2.2.2.1 st pc lv stk x d h k
theorem rb_and3 {σ : Type} {b : ByteArray} {nL : Nat} {G : zG σ} (h0 : RB b nL G) {st : σ} {pc : Nat} {lv : zL} {stk : List Value} {x : Int} (d : decode b pc = .ok (.iand, 1)) (h : 0 ≤ x ∧ x ≤ 2147483647) (k : G st (pc + 1) lv (.int (zI (x % 4)) :: stk)) : G st pc lv (.int (zI 3) :: .int (zI x) :: stk) := h0.2.2.2.2.2.2.2.2.2.2.2.2.2.1 st pc lv stk x d h k
theorem rb_xor4 {σ : Type} {b : ByteArray} {nL : Nat} {G : zG σ} (h0 : RB b nL G) {st : σ} {pc : Nat} {lv : zL} {stk : List Value} {x : Int} (d : decode b pc = .ok (.ixor, 1)) (h : 0 ≤ x ∧ x < 8) (k : G st (pc + 1) lv (.int (zI (if x < 4 then x + 4 else x - 4)) :: stk)) : G st pc lv (.int (zI 4) :: .int (zI x) :: stk) := h0.2.2.2.2.2.2.2.2.2.2.2.2.2.2.1 st pc lv stk x d h k
theorem rb_pop {σ : Type} {b : ByteArray} {nL : Nat} {G : zG σ} (h0 : RB b nL G) {st : σ} {pc : Nat} {lv : zL} {stk : List Value} {x : Int} (d : decode b pc = .ok (.pop, 1)) (k : G st (pc + 1) lv stk) : G st pc lv (.int (zI x) :: stk) := h0.2.2.2.2.2.2.2.2.2.2.2.2.2.2.2.1 st pc lv stk x d k
theorem rb_sub {σ : Type} {b : ByteArray} {nL : Nat} {G : zG σ} (h0 : RB b nL G) {st : σ} {pc : Nat} {lv : zL} {stk : List Value} {ks : List Nat} {lv1 : zL} (he : lv_pick lv ks = lv1) (k : G st pc lv1 stk) : G st pc lv stk := h0.2.2.2.2.2.2.2.2.2.2.2.2.2.2.2.2.1 st pc lv stk ks lv1 he k
theorem rb_dup {σ : Type} {b : ByteArray} {nL : Nat} {G : zG σ} (h0 : RB b nL G) {st : σ} {pc : Nat} {lv : zL} {stk : List Value} {x : Nat} (d : decode b pc = .ok (.dup, 1)) (k : G st (pc + 1) lv (.ref x :: .ref x :: stk)) : G st pc lv (.ref x :: stk) := h0.2.2.2.2.2.2.2.2.2.2.2.2.2.2.2.2.2.1 st pc lv stk x d k
theorem rb_goto {σ : Type} {b : ByteArray} {nL : Nat} {G : zG σ} (h0 : RB b nL G) {st : σ} {pc : Nat} {lv : zL} {stk : List Value} {off : Int} {tgt : Nat} (d : decode b pc = .ok (.goto off, 3)) (ht : (pc : Int) + off = (tgt : Int)) (k : G st tgt lv stk) : G st pc lv stk := h0.2.2.2.2.2.2.2.2.2.2.2.2.2.2.2.2.2.2.1 st pc lv stk off tgt d ht k
theorem rb_if_eq {σ : Type} {b : ByteArray} {nL : Nat} {G : zG σ} (h0 : RB b nL G) {st : σ} {pc : Nat} {lv : zL} {stk : List Value} {x off : Int} {tgt : Nat} (d : decode b pc = .ok (.ifCond .eq off, 3)) (h : (-2147483648 ≤ x ∧ x ≤ 2147483647)) (ht : (pc : Int) + off = (tgt : Int)) (kt : x = 0 → G st tgt lv stk) (kf : x ≠ 0 → G st (pc + 3) lv stk) : G st pc lv (.int (zI x) :: stk) := h0.2.2.2.2.2.2.2.2.2.2.2.2.2.2.2.2.2.2.2.1 st pc lv stk x off tgt d h ht kt kf
theorem rb_icmp_eq {σ : Type} {b : ByteArray} {nL : Nat} {G : zG σ} (h0 : RB b nL G) {st : σ} {pc : Nat} {lv : zL} {stk : List Value} {x y off : Int} {tgt : Nat} (d : decode b pc = .ok (.if_icmp .eq off, 3)) (h : (-2147483648 ≤ x ∧ x ≤ 2147483647)) (h2 : (-2147483648 ≤ y ∧ y ≤ 2147483647)) (ht : (pc : Int) + off = (tgt : Int)) (kt : x = y → G st tgt lv stk) (kf : x ≠ y → G st (pc + 3) lv stk) : G st pc lv (.int (zI y) :: .int (zI x) :: stk) := h0.2.2.2.2.2.2.2.2.2.2.2.2.2.2.2.2.2.2.2.2.1 st pc lv stk x y off tgt d h h2 ht kt kf
theorem rb_if_ne {σ : Type} {b : ByteArray} {nL : Nat} {G : zG σ} (h0 : RB b nL G) {st : σ} {pc : Nat} {lv : zL} {stk : List Value} {x off : Int} {tgt : Nat} (d : decode b pc = .ok (.ifCond .ne off, 3)) (h : (-2147483648 ≤ x ∧ x ≤ 2147483647)) (ht : (pc : Int) + off = (tgt : Int)) (kt : x ≠ 0 → G st tgt lv stk) (kf : x = 0 → G st (pc + 3) lv stk) : G st pc lv (.int (zI x) :: stk) := h0.2.2.2.2.2.2.2.2.2.2.2.2.2.2.2.2.2.2.2.2.2.1 st pc lv stk x off tgt d h ht kt kf
theorem rb_icmp_ne {σ : Type} {b : ByteArray} {nL : Nat} {G : zG σ} (h0 : RB b nL G) {st : σ} {pc : Nat} {lv : zL} {stk : List Value} {x y off : Int} {tgt : Nat} (d : decode b pc = .ok (.if_icmp .ne off, 3)) (h : (-2147483648 ≤ x ∧ x ≤ 2147483647)) (h2 : (-2147483648 ≤ y ∧ y ≤ 2147483647)) (ht : (pc : Int) + off = (tgt : Int)) (kt : x ≠ y → G st tgt lv stk) (kf : x = y → G st (pc + 3) lv stk) : G st pc lv (.int (zI y) :: .int (zI x) :: stk) := h0.2.2.2.2.2.2.2.2.2.2.2.2.2.2.2.2.2.2.2.2.2.2.1 st pc lv stk x y off tgt d h h2 ht kt kf
theorem rb_if_lt {σ : Type} {b : ByteArray} {nL : Nat} {G : zG σ} (h0 : RB b nL G) {st : σ} {pc : Nat} {lv : zL} {stk : List Value} {x off : Int} {tgt : Nat} (d : decode b pc = .ok (.ifCond .lt off, 3)) (h : (-2147483648 ≤ x ∧ x ≤ 2147483647)) (ht : (pc : Int) + off = (tgt : Int)) (kt : x < 0 → G st tgt lv stk) (kf : 0 ≤ x → G st (pc + 3) lv stk) : G st pc lv (.int (zI x) :: stk) := h0.2.2.2.2.2.2.2.2.2.2.2.2.2.2.2.2.2.2.2.2.2.2.2.1 st pc lv stk x off tgt d h ht kt kf
theorem rb_icmp_lt {σ : Type} {b : ByteArray} {nL : Nat} {G : zG σ} (h0 : RB b nL G) {st : σ} {pc : Nat} {lv : zL} {stk : List Value} {x y off : Int} {tgt : Nat} (d : decode b pc = .ok (.if_icmp .lt off, 3)) (h : (-2147483648 ≤ x ∧ x ≤ 2147483647)) (h2 : (-2147483648 ≤ y ∧ y ≤ 2147483647)) (ht : (pc : Int) + off = (tgt : Int)) (kt : x < y → G st tgt lv stk) (kf : y ≤ x → G st (pc + 3) lv stk) : G st pc lv (.int (zI y) :: .int (zI x) :: stk) := h0.2.2.2.2.2.2.2.2.2.2.2.2.2.2.2.2.2.2.2.2.2.2.2.2.1 st pc lv stk x y off tgt d h h2 ht kt kf
theorem rb_if_ge {σ : Type} {b : ByteArray} {nL : Nat} {G : zG σ} (h0 : RB b nL G) {st : σ} {pc : Nat} {lv : zL} {stk : List Value} {x off : Int} {tgt : Nat} (d : decode b pc = .ok (.ifCond .ge off, 3)) (h : (-2147483648 ≤ x ∧ x ≤ 2147483647)) (ht : (pc : Int) + off = (tgt : Int)) (kt : 0 ≤ x → G st tgt lv stk) (kf : x < 0 → G st (pc + 3) lv stk) : G st pc lv (.int (zI x) :: stk) := h0.2.2.2.2.2.2.2.2.2.2.2.2.2.2.2.2.2.2.2.2.2.2.2.2.2.1 st pc lv stk x off tgt d h ht kt kf
theorem rb_icmp_ge {σ : Type} {b : ByteArray} {nL : Nat} {G : zG σ} (h0 : RB b nL G) {st : σ} {pc : Nat} {lv : zL} {stk : List Value} {x y off : Int} {tgt : Nat} (d : decode b pc = .ok (.if_icmp .ge off, 3)) (h : (-2147483648 ≤ x ∧ x ≤ 2147483647)) (h2 : (-2147483648 ≤ y ∧ y ≤ 2147483647)) (ht : (pc : Int) + off = (tgt : Int)) (kt : y ≤ x → G st tgt lv stk) (kf : x < y → G st (pc + 3) lv stk) : G st pc lv (.int (zI y) :: .int (zI x) :: stk) := h0.2.2.2.2.2.2.2.2.2.2.2.2.2.2.2.2.2.2.2.2.2.2.2.2.2.2.1 st pc lv stk x y off tgt d h h2 ht kt kf
theorem rb_if_gt {σ : Type} {b : ByteArray} {nL : Nat} {G : zG σ} (h0 : RB b nL G) {st : σ} {pc : Nat} {lv : zL} {stk : List Value} {x off : Int} {tgt : Nat} (d : decode b pc = .ok (.ifCond .gt off, 3)) (h : (-2147483648 ≤ x ∧ x ≤ 2147483647)) (ht : (pc : Int) + off = (tgt : Int)) (kt : 0 < x → G st tgt lv stk) (kf : x ≤ 0 → G st (pc + 3) lv stk) : G st pc lv (.int (zI x) :: stk) := h0.2.2.2.2.2.2.2.2.2.2.2.2.2.2.2.2.2.2.2.2.2.2.2.2.2.2.2.1 st pc lv stk x off tgt d h ht kt kf
theorem rb_icmp_gt {σ : Type} {b : ByteArray} {nL : Nat} {G : zG σ} (h0 : RB b nL G) {st : σ} {pc : Nat} {lv : zL} {stk : List Value} {x y off : Int} {tgt : Nat} (d : decode b pc = .ok (.if_icmp .gt off, 3)) (h : (-2147483648 ≤ x ∧ x ≤ 2147483647)) (h2 : (-2147483648 ≤ y ∧ y ≤ 2147483647)) (ht : (pc : Int) + off = (tgt : Int)) (kt : y < x → G st tgt lv stk) (kf : x ≤ y → G st (pc + 3) lv stk) : G st pc lv (.int (zI y) :: .int (zI x) :: stk) := h0.2.2.2.2.2.2.2.2.2.2.2.2.2.2.2.2.2.2.2.2.2.2.2.2.2.2.2.2.1 st pc lv stk x y off tgt d h h2 ht kt kf
theorem rb_if_le {σ : Type} {b : ByteArray} {nL : Nat} {G : zG σ} (h0 : RB b nL G) {st : σ} {pc : Nat} {lv : zL} {stk : List Value} {x off : Int} {tgt : Nat} (d : decode b pc = .ok (.ifCond .le off, 3)) (h : (-2147483648 ≤ x ∧ x ≤ 2147483647)) (ht : (pc : Int) + off = (tgt : Int)) (kt : x ≤ 0 → G st tgt lv stk) (kf : 0 < x → G st (pc + 3) lv stk) : G st pc lv (.int (zI x) :: stk) := h0.2.2.2.2.2.2.2.2.2.2.2.2.2.2.2.2.2.2.2.2.2.2.2.2.2.2.2.2.2.1 st pc lv stk x off tgt d h ht kt kf
theorem rb_icmp_le {σ : Type} {b : ByteArray} {nL : Nat} {G : zG σ} (h0 : RB b nL G) {st : σ} {pc : Nat} {lv : zL} {stk : List Value} {x y off : Int} {tgt : Nat} (d : decode b pc = .ok (.if_icmp .le off, 3)) (h : (-2147483648 ≤ x ∧ x ≤ 2147483647)) (h2 : (-2147483648 ≤ y ∧ y ≤ 2147483647)) (ht : (pc : Int) + off = (tgt : Int)) (kt : x ≤ y → G st tgt lv stk) (kf : y < x → G st (pc + 3) lv stk) : G st pc lv (.int (zI y) :: .int (zI x) :: stk) := h0.2.2.2.2.2.2.2.2.2.2.2.2.2.2.2.2.2.2.2.2.2.2.2.2.2.2.2.2.2.2.1 st pc lv stk x y off tgt d h h2 ht kt kf
theorem rb_icmp_ge_any {σ : Type} {b : ByteArray} {nL : Nat} {G : zG σ} (h0 : RB b nL G) {st : σ} {pc : Nat} {lv : zL} {stk : List Value} {x y off : Int} {tgt : Nat} (d : decode b pc = .ok (.if_icmp .ge off, 3)) (ht : (pc : Int) + off = (tgt : Int)) (kt : G st tgt lv stk) (kf : G st (pc + 3) lv stk) : G st pc lv (.int (zI y) :: .int (zI x) :: stk) := h0.2.2.2.2.2.2.2.2.2.2.2.2.2.2.2.2.2.2.2.2.2.2.2.2.2.2.2.2.2.2.2.1 st pc lv stk x y off tgt d ht kt kf
theorem rb_icmp_eq_same {σ : Type} {b : ByteArray} {nL : Nat} {G : zG σ} (h0 : RB b nL G) {st : σ} {pc : Nat} {lv : zL} {stk : List Value} {x y off : Int} {tgt : Nat} (d : decode b pc = .ok (.if_icmp .eq off, 3)) (h : x = y) (ht : (pc : Int) + off = (tgt : Int)) (kt : G st tgt lv stk) : G st pc lv (.int (zI y) :: .int (zI x) :: stk) := h0.2.2.2.2.2.2.2.2.2.2.2.2.2.2.2.2.2.2.2.2.2.2.2.2.2.2.2.2.2.2.2.2 st pc lv stk x y off tgt d h ht kt
section RBW
variable {p : Program} {l : Launch} {e : Env} {R : Room} {s : State} {m : MethodId} {args : Array Value} {below : List Frame} {meth : Method} {c : Code} {cells slots : Nat} {Q : State → Prop} {D : va_G} {A : Nat → Prop} {H0 : Heap} {nL : Nat} {σ : Type} {wf : σ → va_W} {b : ByteArray}
theorem gw_iconst (hx : p.tables.exec = Jvm.exec) (hb : c.code = b) (st : σ) (pc : Nat) (lv : zL) (stk : List Value) (n : Int) (d : decode b pc = .ok (.iconst n, 1)) (k : GW p l e R s m args below meth c cells slots Q D A H0 nL wf st (pc + 1) lv (.int (zI n) :: stk)) : GW p l e R s m args below meth c cells slots Q D A H0 nL wf st pc lv stk := fun H locs ls hP hD hS hl => lv_iconst hx hb d rfl (k H locs ls hP hD hS hl)
theorem gw_bipush (hx : p.tables.exec = Jvm.exec) (hb : c.code = b) (st : σ) (pc : Nat) (lv : zL) (stk : List Value) (n : Int) (d : decode b pc = .ok (.bipush n, 2)) (hn : (Int8.ofInt n).toInt32 = zI n) (k : GW p l e R s m args below meth c cells slots Q D A H0 nL wf st (pc + 2) lv (.int (zI n) :: stk)) : GW p l e R s m args below meth c cells slots Q D A H0 nL wf st pc lv stk := fun H locs ls hP hD hS hl => lv_bipush hx hb d hn (k H locs ls hP hD hS hl)
theorem gw_sipush (hx : p.tables.exec = Jvm.exec) (hb : c.code = b) (st : σ) (pc : Nat) (lv : zL) (stk : List Value) (n : Int) (d : decode b pc = .ok (.sipush n, 3)) (hn : (Int16.ofInt n).toInt32 = zI n) (k : GW p l e R s m args below meth c cells slots Q D A H0 nL wf st (pc + 3) lv (.int (zI n) :: stk)) : GW p l e R s m args below meth c cells slots Q D A H0 nL wf st pc lv stk := fun H locs ls hP hD hS hl => lv_sipush hx hb d hn (k H locs ls hP hD hS hl)
theorem gw_iload_n (hx : p.tables.exec = Jvm.exec) (hb : c.code = b) (st : σ) (pc : Nat) (lv : zL) (stk : List Value) (f : Fin 4) (j : Nat) (x : Int) (d : decode b pc = .ok (.iload_n f, 1)) (hj : lv[j]? = some (f.val, Value.int (zI x))) (k : GW p l e R s m args below meth c cells slots Q D A H0 nL wf st (pc + 1) lv (.int (zI x) :: stk)) : GW p l e R s m args below meth c cells slots Q D A H0 nL wf st pc lv stk := fun H locs ls hP hD hS hl => lv_iload_n hx hb d rfl (lv_at hl j hj) (k H locs ls hP hD hS hl)
theorem gw_iload (hx : p.tables.exec = Jvm.exec) (hb : c.code = b) (st : σ) (pc : Nat) (lv : zL) (stk : List Value) (i j : Nat) (x : Int) (d : decode b pc = .ok (.iload i, 2)) (hj : lv[j]? = some (i, Value.int (zI x))) (k : GW p l e R s m args below meth c cells slots Q D A H0 nL wf st (pc + 2) lv (.int (zI x) :: stk)) : GW p l e R s m args below meth c cells slots Q D A H0 nL wf st pc lv stk := fun H locs ls hP hD hS hl => lv_iload hx hb d (lv_at hl j hj) (k H locs ls hP hD hS hl)
theorem gw_aload_n (hx : p.tables.exec = Jvm.exec) (hb : c.code = b) (st : σ) (pc : Nat) (lv : zL) (stk : List Value) (f : Fin 4) (j x : Nat) (d : decode b pc = .ok (.aload_n f, 1)) (hj : lv[j]? = some (f.val, Value.ref x)) (k : GW p l e R s m args below meth c cells slots Q D A H0 nL wf st (pc + 1) lv (.ref x :: stk)) : GW p l e R s m args below meth c cells slots Q D A H0 nL wf st pc lv stk := fun H locs ls hP hD hS hl => lv_aload_n hx hb d rfl (lv_at hl j hj) (k H locs ls hP hD hS hl)
theorem gw_istore_n (hx : p.tables.exec = Jvm.exec) (hb : c.code = b) (st : σ) (pc : Nat) (lv : zL) (stk : List Value) (f : Fin 4) (x : Int) (lv1 : zL) (d : decode b pc = .ok (.istore_n f, 1)) (hn : f.val < nL) (he : zst lv f.val (.int (zI x)) = lv1) (k : GW p l e R s m args below meth c cells slots Q D A H0 nL wf st (pc + 1) lv1 stk) : GW p l e R s m args below meth c cells slots Q D A H0 nL wf st pc lv (.int (zI x) :: stk) := fun H locs ls hP hD hS hl => lv_istore_n hx hb d rfl hl hn rfl (fun ls1 hl1 => k H locs ls1 hP hD hS (he ▸ zst_of hl1))
theorem gw_istore (hx : p.tables.exec = Jvm.exec) (hb : c.code = b) (st : σ) (pc : Nat) (lv : zL) (stk : List Value) (i : Nat) (x : Int) (lv1 : zL) (d : decode b pc = .ok (.istore i, 2)) (hn : i < nL) (he : zst lv i (.int (zI x)) = lv1) (k : GW p l e R s m args below meth c cells slots Q D A H0 nL wf st (pc + 2) lv1 stk) : GW p l e R s m args below meth c cells slots Q D A H0 nL wf st pc lv (.int (zI x) :: stk) := fun H locs ls hP hD hS hl => lv_istore hx hb d hl hn rfl (fun ls1 hl1 => k H locs ls1 hP hD hS (he ▸ zst_of hl1))
theorem gw_iinc (hx : p.tables.exec = Jvm.exec) (hb : c.code = b) (st : σ) (pc : Nat) (lv : zL) (stk : List Value) (i j : Nat) (n x : Int) (lv1 : zL) (d : decode b pc = .ok (.iinc i n, 3)) (hj : lv[j]? = some (i, Value.int (zI x))) (hn : i < nL) (he : zst lv i (.int (zI (x + n))) = lv1) (k : GW p l e R s m args below meth c cells slots Q D A H0 nL wf st (pc + 3) lv1 stk) : GW p l e R s m args below meth c cells slots Q D A H0 nL wf st pc lv stk := fun H locs ls hP hD hS hl => lv_iinc hx hb d hl hj (zI_add x n) hn rfl (fun ls1 hl1 => k H locs ls1 hP hD hS (he ▸ zst_of hl1))
theorem gw_iadd (hx : p.tables.exec = Jvm.exec) (hb : c.code = b) (st : σ) (pc : Nat) (lv : zL) (stk : List Value) (x y : Int) (d : decode b pc = .ok (.iadd, 1)) (k : GW p l e R s m args below meth c cells slots Q D A H0 nL wf st (pc + 1) lv (.int (zI (x + y)) :: stk)) : GW p l e R s m args below meth c cells slots Q D A H0 nL wf st pc lv (.int (zI y) :: .int (zI x) :: stk) := fun H locs ls hP hD hS hl => lv_iadd hx hb d (zI_add x y ▸ k H locs ls hP hD hS hl)
theorem gw_isub (hx : p.tables.exec = Jvm.exec) (hb : c.code = b) (st : σ) (pc : Nat) (lv : zL) (stk : List Value) (x y : Int) (d : decode b pc = .ok (.isub, 1)) (k : GW p l e R s m args below meth c cells slots Q D A H0 nL wf st (pc + 1) lv (.int (zI (x - y)) :: stk)) : GW p l e R s m args below meth c cells slots Q D A H0 nL wf st pc lv (.int (zI y) :: .int (zI x) :: stk) := fun H locs ls hP hD hS hl => lv_isub hx hb d (zI_sub x y ▸ k H locs ls hP hD hS hl)
theorem gw_imul (hx : p.tables.exec = Jvm.exec) (hb : c.code = b) (st : σ) (pc : Nat) (lv : zL) (stk : List Value) (x y : Int) (d : decode b pc = .ok (.imul, 1)) (k : GW p l e R s m args below meth c cells slots Q D A H0 nL wf st (pc + 1) lv (.int (zI (x * y)) :: stk)) : GW p l e R s m args below meth c cells slots Q D A H0 nL wf st pc lv (.int (zI y) :: .int (zI x) :: stk) := fun H locs ls hP hD hS hl => lv_imul hx hb d (zI_mul x y ▸ k H locs ls hP hD hS hl)
theorem gw_shr2 (hx : p.tables.exec = Jvm.exec) (hb : c.code = b) (st : σ) (pc : Nat) (lv : zL) (stk : List Value) (x : Int) (d : decode b pc = .ok (.ishr, 1)) (h : 0 ≤ x ∧ x ≤ 2147483647) (k : GW p l e R s m args below meth c cells slots Q D A H0 nL wf st (pc + 1) lv (.int (zI (x / 4)) :: stk)) : GW p l e R s m args below meth c cells slots Q D A H0 nL wf st pc lv (.int (zI 2) :: .int (zI x) :: stk) := fun H locs ls hP hD hS hl => lv_ishr hx hb d ((zI_shr2 h.1 h.2).symm ▸ k H locs ls hP hD hS hl)
theorem gw_and3 (hx : p.tables.exec = Jvm.exec) (hb : c.code = b) (st : σ) (pc : Nat) (lv : zL) (stk : List Value) (x : Int) (d : decode b pc = .ok (.iand, 1)) (h : 0 ≤ x ∧ x ≤ 2147483647) (k : GW p l e R s m args below meth c cells slots Q D A H0 nL wf st (pc + 1) lv (.int (zI (x % 4)) :: stk)) : GW p l e R s m args below meth c cells slots Q D A H0 nL wf st pc lv (.int (zI 3) :: .int (zI x) :: stk) := fun H locs ls hP hD hS hl => lv_iand hx hb d ((zI_and3 h.1 h.2).symm ▸ k H locs ls hP hD hS hl)
theorem gw_xor4 (hx : p.tables.exec = Jvm.exec) (hb : c.code = b) (st : σ) (pc : Nat) (lv : zL) (stk : List Value) (x : Int) (d : decode b pc = .ok (.ixor, 1)) (h : 0 ≤ x ∧ x < 8) (k : GW p l e R s m args below meth c cells slots Q D A H0 nL wf st (pc + 1) lv (.int (zI (if x < 4 then x + 4 else x - 4)) :: stk)) : GW p l e R s m args below meth c cells slots Q D A H0 nL wf st pc lv (.int (zI 4) :: .int (zI x) :: stk) := fun H locs ls hP hD hS hl => lv_ixor hx hb d ((zI_xor4 h.1 h.2).symm ▸ k H locs ls hP hD hS hl)
theorem gw_pop (hx : p.tables.exec = Jvm.exec) (hb : c.code = b) (st : σ) (pc : Nat) (lv : zL) (stk : List Value) (x : Int) (d : decode b pc = .ok (.pop, 1)) (k : GW p l e R s m args below meth c cells slots Q D A H0 nL wf st (pc + 1) lv stk) : GW p l e R s m args below meth c cells slots Q D A H0 nL wf st pc lv (.int (zI x) :: stk) := fun H locs ls hP hD hS hl => lv_pop hx hb d rfl (k H locs ls hP hD hS hl)
theorem gw_sub (hx : p.tables.exec = Jvm.exec) (hb : c.code = b) (st : σ) (pc : Nat) (lv : zL) (stk : List Value) (ks : List Nat) (lv1 : zL) (he : lv_pick lv ks = lv1) (k : GW p l e R s m args below meth c cells slots Q D A H0 nL wf st pc lv1 stk) : GW p l e R s m args below meth c cells slots Q D A H0 nL wf st pc lv stk := fun H locs ls hP hD hS hl => k H locs ls hP hD hS (lv_sub hl ks he)
theorem gw_dup (hx : p.tables.exec = Jvm.exec) (hb : c.code = b) (st : σ) (pc : Nat) (lv : zL) (stk : List Value) (x : Nat) (d : decode b pc = .ok (.dup, 1)) (k : GW p l e R s m args below meth c cells slots Q D A H0 nL wf st (pc + 1) lv (.ref x :: .ref x :: stk)) : GW p l e R s m args below meth c cells slots Q D A H0 nL wf st pc lv (.ref x :: stk) := fun H locs ls hP hD hS hl => lv_dup hx hb d rfl (k H locs ls hP hD hS hl)
theorem gw_goto (hx : p.tables.exec = Jvm.exec) (hb : c.code = b) (st : σ) (pc : Nat) (lv : zL) (stk : List Value) (off : Int) (tgt : Nat) (d : decode b pc = .ok (.goto off, 3)) (ht : (pc : Int) + off = (tgt : Int)) (k : GW p l e R s m args below meth c cells slots Q D A H0 nL wf st tgt lv stk) : GW p l e R s m args below meth c cells slots Q D A H0 nL wf st pc lv stk := fun H locs ls hP hD hS hl => lv_goto hx hb d ht (k H locs ls hP hD hS hl)
theorem gw_if_eq (hx : p.tables.exec = Jvm.exec) (hb : c.code = b) (st : σ) (pc : Nat) (lv : zL) (stk : List Value) (x off : Int) (tgt : Nat) (d : decode b pc = .ok (.ifCond .eq off, 3)) (h : (-2147483648 ≤ x ∧ x ≤ 2147483647)) (ht : (pc : Int) + off = (tgt : Int)) (kt : x = 0 → GW p l e R s m args below meth c cells slots Q D A H0 nL wf st tgt lv stk) (kf : x ≠ 0 → GW p l e R s m args below meth c cells slots Q D A H0 nL wf st (pc + 3) lv stk) : GW p l e R s m args below meth c cells slots Q D A H0 nL wf st pc lv (.int (zI x) :: stk) := fun H locs ls hP hD hS hl => lv_if_eq (x := zI x) hx hb d ht (fun c => kt ((zI_eq h (by decide)).mp c) H locs ls hP hD hS hl) (fun c => kf (fun z => c ((zI_eq h (by decide)).mpr z)) H locs ls hP hD hS hl)
theorem gw_icmp_eq (hx : p.tables.exec = Jvm.exec) (hb : c.code = b) (st : σ) (pc : Nat) (lv : zL) (stk : List Value) (x y off : Int) (tgt : Nat) (d : decode b pc = .ok (.if_icmp .eq off, 3)) (h : (-2147483648 ≤ x ∧ x ≤ 2147483647)) (h2 : (-2147483648 ≤ y ∧ y ≤ 2147483647)) (ht : (pc : Int) + off = (tgt : Int)) (kt : x = y → GW p l e R s m args below meth c cells slots Q D A H0 nL wf st tgt lv stk) (kf : x ≠ y → GW p l e R s m args below meth c cells slots Q D A H0 nL wf st (pc + 3) lv stk) : GW p l e R s m args below meth c cells slots Q D A H0 nL wf st pc lv (.int (zI y) :: .int (zI x) :: stk) := fun H locs ls hP hD hS hl => lv_icmp_eq (x := zI x) (y := zI y) hx hb d ht (fun c => kt ((zI_eq h h2).mp c) H locs ls hP hD hS hl) (fun c => kf (fun z => c ((zI_eq h h2).mpr z)) H locs ls hP hD hS hl)
theorem gw_if_ne (hx : p.tables.exec = Jvm.exec) (hb : c.code = b) (st : σ) (pc : Nat) (lv : zL) (stk : List Value) (x off : Int) (tgt : Nat) (d : decode b pc = .ok (.ifCond .ne off, 3)) (h : (-2147483648 ≤ x ∧ x ≤ 2147483647)) (ht : (pc : Int) + off = (tgt : Int)) (kt : x ≠ 0 → GW p l e R s m args below meth c cells slots Q D A H0 nL wf st tgt lv stk) (kf : x = 0 → GW p l e R s m args below meth c cells slots Q D A H0 nL wf st (pc + 3) lv stk) : GW p l e R s m args below meth c cells slots Q D A H0 nL wf st pc lv (.int (zI x) :: stk) := fun H locs ls hP hD hS hl => lv_if_ne (x := zI x) hx hb d ht (fun c => kt (fun z => c ((zI_eq h (by decide)).mpr z)) H locs ls hP hD hS hl) (fun c => kf ((zI_eq h (by decide)).mp c) H locs ls hP hD hS hl)
theorem gw_icmp_ne (hx : p.tables.exec = Jvm.exec) (hb : c.code = b) (st : σ) (pc : Nat) (lv : zL) (stk : List Value) (x y off : Int) (tgt : Nat) (d : decode b pc = .ok (.if_icmp .ne off, 3)) (h : (-2147483648 ≤ x ∧ x ≤ 2147483647)) (h2 : (-2147483648 ≤ y ∧ y ≤ 2147483647)) (ht : (pc : Int) + off = (tgt : Int)) (kt : x ≠ y → GW p l e R s m args below meth c cells slots Q D A H0 nL wf st tgt lv stk) (kf : x = y → GW p l e R s m args below meth c cells slots Q D A H0 nL wf st (pc + 3) lv stk) : GW p l e R s m args below meth c cells slots Q D A H0 nL wf st pc lv (.int (zI y) :: .int (zI x) :: stk) := fun H locs ls hP hD hS hl => lv_icmp_ne (x := zI x) (y := zI y) hx hb d ht (fun c => kt (fun z => c ((zI_eq h h2).mpr z)) H locs ls hP hD hS hl) (fun c => kf ((zI_eq h h2).mp c) H locs ls hP hD hS hl)
theorem gw_if_lt (hx : p.tables.exec = Jvm.exec) (hb : c.code = b) (st : σ) (pc : Nat) (lv : zL) (stk : List Value) (x off : Int) (tgt : Nat) (d : decode b pc = .ok (.ifCond .lt off, 3)) (h : (-2147483648 ≤ x ∧ x ≤ 2147483647)) (ht : (pc : Int) + off = (tgt : Int)) (kt : x < 0 → GW p l e R s m args below meth c cells slots Q D A H0 nL wf st tgt lv stk) (kf : 0 ≤ x → GW p l e R s m args below meth c cells slots Q D A H0 nL wf st (pc + 3) lv stk) : GW p l e R s m args below meth c cells slots Q D A H0 nL wf st pc lv (.int (zI x) :: stk) := fun H locs ls hP hD hS hl => lv_if_lt (x := zI x) hx hb d ht (fun c => kt ((zI_lt h (by decide)).mp c) H locs ls hP hD hS hl) (fun c => kf (Int.not_lt.mp (fun z => c ((zI_lt h (by decide)).mpr z))) H locs ls hP hD hS hl)
theorem gw_icmp_lt (hx : p.tables.exec = Jvm.exec) (hb : c.code = b) (st : σ) (pc : Nat) (lv : zL) (stk : List Value) (x y off : Int) (tgt : Nat) (d : decode b pc = .ok (.if_icmp .lt off, 3)) (h : (-2147483648 ≤ x ∧ x ≤ 2147483647)) (h2 : (-2147483648 ≤ y ∧ y ≤ 2147483647)) (ht : (pc : Int) + off = (tgt : Int)) (kt : x < y → GW p l e R s m args below meth c cells slots Q D A H0 nL wf st tgt lv stk) (kf : y ≤ x → GW p l e R s m args below meth c cells slots Q D A H0 nL wf st (pc + 3) lv stk) : GW p l e R s m args below meth c cells slots Q D A H0 nL wf st pc lv (.int (zI y) :: .int (zI x) :: stk) := fun H locs ls hP hD hS hl => lv_icmp_lt (x := zI x) (y := zI y) hx hb d ht (fun c => kt ((zI_lt h h2).mp c) H locs ls hP hD hS hl) (fun c => kf (Int.not_lt.mp (fun z => c ((zI_lt h h2).mpr z))) H locs ls hP hD hS hl)
theorem gw_if_ge (hx : p.tables.exec = Jvm.exec) (hb : c.code = b) (st : σ) (pc : Nat) (lv : zL) (stk : List Value) (x off : Int) (tgt : Nat) (d : decode b pc = .ok (.ifCond .ge off, 3)) (h : (-2147483648 ≤ x ∧ x ≤ 2147483647)) (ht : (pc : Int) + off = (tgt : Int)) (kt : 0 ≤ x → GW p l e R s m args below meth c cells slots Q D A H0 nL wf st tgt lv stk) (kf : x < 0 → GW p l e R s m args below meth c cells slots Q D A H0 nL wf st (pc + 3) lv stk) : GW p l e R s m args below meth c cells slots Q D A H0 nL wf st pc lv (.int (zI x) :: stk) := fun H locs ls hP hD hS hl => lv_if_ge (x := zI x) hx hb d ht (fun c => kt ((zI_le (by decide) h).mp c) H locs ls hP hD hS hl) (fun c => kf (Int.not_le.mp (fun z => c ((zI_le (by decide) h).mpr z))) H locs ls hP hD hS hl)
theorem gw_icmp_ge (hx : p.tables.exec = Jvm.exec) (hb : c.code = b) (st : σ) (pc : Nat) (lv : zL) (stk : List Value) (x y off : Int) (tgt : Nat) (d : decode b pc = .ok (.if_icmp .ge off, 3)) (h : (-2147483648 ≤ x ∧ x ≤ 2147483647)) (h2 : (-2147483648 ≤ y ∧ y ≤ 2147483647)) (ht : (pc : Int) + off = (tgt : Int)) (kt : y ≤ x → GW p l e R s m args below meth c cells slots Q D A H0 nL wf st tgt lv stk) (kf : x < y → GW p l e R s m args below meth c cells slots Q D A H0 nL wf st (pc + 3) lv stk) : GW p l e R s m args below meth c cells slots Q D A H0 nL wf st pc lv (.int (zI y) :: .int (zI x) :: stk) := fun H locs ls hP hD hS hl => lv_icmp_ge (x := zI x) (y := zI y) hx hb d ht (fun c => kt ((zI_le h2 h).mp c) H locs ls hP hD hS hl) (fun c => kf (Int.not_le.mp (fun z => c ((zI_le h2 h).mpr z))) H locs ls hP hD hS hl)
theorem gw_if_gt (hx : p.tables.exec = Jvm.exec) (hb : c.code = b) (st : σ) (pc : Nat) (lv : zL) (stk : List Value) (x off : Int) (tgt : Nat) (d : decode b pc = .ok (.ifCond .gt off, 3)) (h : (-2147483648 ≤ x ∧ x ≤ 2147483647)) (ht : (pc : Int) + off = (tgt : Int)) (kt : 0 < x → GW p l e R s m args below meth c cells slots Q D A H0 nL wf st tgt lv stk) (kf : x ≤ 0 → GW p l e R s m args below meth c cells slots Q D A H0 nL wf st (pc + 3) lv stk) : GW p l e R s m args below meth c cells slots Q D A H0 nL wf st pc lv (.int (zI x) :: stk) := fun H locs ls hP hD hS hl => lv_if_gt (x := zI x) hx hb d ht (fun c => kt ((zI_lt (by decide) h).mp c) H locs ls hP hD hS hl) (fun c => kf (Int.not_lt.mp (fun z => c ((zI_lt (by decide) h).mpr z))) H locs ls hP hD hS hl)
theorem gw_icmp_gt (hx : p.tables.exec = Jvm.exec) (hb : c.code = b) (st : σ) (pc : Nat) (lv : zL) (stk : List Value) (x y off : Int) (tgt : Nat) (d : decode b pc = .ok (.if_icmp .gt off, 3)) (h : (-2147483648 ≤ x ∧ x ≤ 2147483647)) (h2 : (-2147483648 ≤ y ∧ y ≤ 2147483647)) (ht : (pc : Int) + off = (tgt : Int)) (kt : y < x → GW p l e R s m args below meth c cells slots Q D A H0 nL wf st tgt lv stk) (kf : x ≤ y → GW p l e R s m args below meth c cells slots Q D A H0 nL wf st (pc + 3) lv stk) : GW p l e R s m args below meth c cells slots Q D A H0 nL wf st pc lv (.int (zI y) :: .int (zI x) :: stk) := fun H locs ls hP hD hS hl => lv_icmp_gt (x := zI x) (y := zI y) hx hb d ht (fun c => kt ((zI_lt h2 h).mp c) H locs ls hP hD hS hl) (fun c => kf (Int.not_lt.mp (fun z => c ((zI_lt h2 h).mpr z))) H locs ls hP hD hS hl)
theorem gw_if_le (hx : p.tables.exec = Jvm.exec) (hb : c.code = b) (st : σ) (pc : Nat) (lv : zL) (stk : List Value) (x off : Int) (tgt : Nat) (d : decode b pc = .ok (.ifCond .le off, 3)) (h : (-2147483648 ≤ x ∧ x ≤ 2147483647)) (ht : (pc : Int) + off = (tgt : Int)) (kt : x ≤ 0 → GW p l e R s m args below meth c cells slots Q D A H0 nL wf st tgt lv stk) (kf : 0 < x → GW p l e R s m args below meth c cells slots Q D A H0 nL wf st (pc + 3) lv stk) : GW p l e R s m args below meth c cells slots Q D A H0 nL wf st pc lv (.int (zI x) :: stk) := fun H locs ls hP hD hS hl => lv_if_le (x := zI x) hx hb d ht (fun c => kt ((zI_le h (by decide)).mp c) H locs ls hP hD hS hl) (fun c => kf (Int.not_le.mp (fun z => c ((zI_le h (by decide)).mpr z))) H locs ls hP hD hS hl)
theorem gw_icmp_le (hx : p.tables.exec = Jvm.exec) (hb : c.code = b) (st : σ) (pc : Nat) (lv : zL) (stk : List Value) (x y off : Int) (tgt : Nat) (d : decode b pc = .ok (.if_icmp .le off, 3)) (h : (-2147483648 ≤ x ∧ x ≤ 2147483647)) (h2 : (-2147483648 ≤ y ∧ y ≤ 2147483647)) (ht : (pc : Int) + off = (tgt : Int)) (kt : x ≤ y → GW p l e R s m args below meth c cells slots Q D A H0 nL wf st tgt lv stk) (kf : y < x → GW p l e R s m args below meth c cells slots Q D A H0 nL wf st (pc + 3) lv stk) : GW p l e R s m args below meth c cells slots Q D A H0 nL wf st pc lv (.int (zI y) :: .int (zI x) :: stk) := fun H locs ls hP hD hS hl => lv_icmp_le (x := zI x) (y := zI y) hx hb d ht (fun c => kt ((zI_le h h2).mp c) H locs ls hP hD hS hl) (fun c => kf (Int.not_le.mp (fun z => c ((zI_le h h2).mpr z))) H locs ls hP hD hS hl)
theorem gw_icmp_ge_any (hx : p.tables.exec = Jvm.exec) (hb : c.code = b) (st : σ) (pc : Nat) (lv : zL) (stk : List Value) (x y off : Int) (tgt : Nat) (d : decode b pc = .ok (.if_icmp .ge off, 3)) (ht : (pc : Int) + off = (tgt : Int)) (kt : GW p l e R s m args below meth c cells slots Q D A H0 nL wf st tgt lv stk) (kf : GW p l e R s m args below meth c cells slots Q D A H0 nL wf st (pc + 3) lv stk) : GW p l e R s m args below meth c cells slots Q D A H0 nL wf st pc lv (.int (zI y) :: .int (zI x) :: stk) := fun H locs ls hP hD hS hl => lv_icmp_ge hx hb d ht (fun _ => kt H locs ls hP hD hS hl) (fun _ => kf H locs ls hP hD hS hl)
theorem gw_icmp_eq_same (hx : p.tables.exec = Jvm.exec) (hb : c.code = b) (st : σ) (pc : Nat) (lv : zL) (stk : List Value) (x y off : Int) (tgt : Nat) (d : decode b pc = .ok (.if_icmp .eq off, 3)) (h : x = y) (ht : (pc : Int) + off = (tgt : Int)) (kt : GW p l e R s m args below meth c cells slots Q D A H0 nL wf st tgt lv stk) : GW p l e R s m args below meth c cells slots Q D A H0 nL wf st pc lv (.int (zI y) :: .int (zI x) :: stk) := fun H locs ls hP hD hS hl => lv_icmp_eq hx hb d ht (fun _ => kt H locs ls hP hD hS hl) (fun c => absurd (by rw [h]) c)
theorem RB_GW (hx : p.tables.exec = Jvm.exec) (hb : c.code = b) : RB b nL (GW p l e R s m args below meth c cells slots Q D A H0 nL wf) :=
  ⟨gw_iconst hx hb, gw_bipush hx hb, gw_sipush hx hb, gw_iload_n hx hb, gw_iload hx hb, gw_aload_n hx hb, gw_istore_n hx hb, gw_istore hx hb, gw_iinc hx hb, gw_iadd hx hb, gw_isub hx hb, gw_imul hx hb, gw_shr2 hx hb, gw_and3 hx hb, gw_xor4 hx hb, gw_pop hx hb, gw_sub hx hb, gw_dup hx hb, gw_goto hx hb, gw_if_eq hx hb, gw_icmp_eq hx hb, gw_if_ne hx hb, gw_icmp_ne hx hb, gw_if_lt hx hb, gw_icmp_lt hx hb, gw_if_ge hx hb, gw_icmp_ge hx hb, gw_if_gt hx hb, gw_icmp_gt hx hb, gw_if_le hx hb, gw_icmp_le hx hb, gw_icmp_ge_any hx hb, gw_icmp_eq_same hx hb⟩
end RBW
/-- stores that name what they store -/
theorem rn_istore_n {σ : Type} {b : ByteArray} {nL : Nat} {G : zG σ} (h0 : RB b nL G) {st : σ} {pc : Nat} {lv : zL} {stk : List Value} {f : Fin 4} {x : Int} (lv1 : Int → zL) (d : decode b pc = .ok (.istore_n f, 1)) (hn : f.val < nL) (he : ∀ y, zst lv f.val (.int (zI y)) = lv1 y) (k : ∀ y, y = x → G st (pc + 1) (lv1 y) stk) : G st pc lv (.int (zI x) :: stk) := rb_istore_n h0 d hn (he x) (k x rfl)
theorem rn_istore {σ : Type} {b : ByteArray} {nL : Nat} {G : zG σ} (h0 : RB b nL G) {st : σ} {pc : Nat} {lv : zL} {stk : List Value} {i : Nat} {x : Int} (lv1 : Int → zL) (d : decode b pc = .ok (.istore i, 2)) (hn : i < nL) (he : ∀ y, zst lv i (.int (zI y)) = lv1 y) (k : ∀ y, y = x → G st (pc + 2) (lv1 y) stk) : G st pc lv (.int (zI x) :: stk) := rb_istore h0 d hn (he x) (k x rfl)
theorem rn_iinc {σ : Type} {b : ByteArray} {nL : Nat} {G : zG σ} (h0 : RB b nL G) {st : σ} {pc : Nat} {lv : zL} {stk : List Value} {i : Nat} (j : Nat) {n x : Int} (lv1 : Int → zL) (d : decode b pc = .ok (.iinc i n, 3)) (hj : lv[j]? = some (i, Value.int (zI x))) (hn : i < nL) (he : ∀ y, zst lv i (.int (zI y)) = lv1 y) (k : ∀ y, y = x + n → G st (pc + 3) (lv1 y) stk) : G st pc lv stk := rb_iinc h0 d hj hn (he (x + n)) (k (x + n) rfl)
/-- the top of the stack gets a name -/
theorem rn_top {σ : Type} {G : zG σ} {st : σ} {pc : Nat} {lv : zL} {stk : List Value} {x : Int} (k : ∀ y, y = x → G st pc lv (.int (zI y) :: stk)) : G st pc lv (.int (zI x) :: stk) := k x rfl
end
section
/-- getfield, loads and stores of a class' arrays: array j lies at ad j, has nx j places; its field's link is fx j -/
def RH (b : ByteArray) (G : zG zM) (oo : Nat) (ad : Nat → Nat) (fx : Nat → Nat) (nx : Nat → Int) (ints bools : List Nat) : Prop :=
  (∀ (st : zM) (pc : Nat) (lv : zL) (stk : List Value) (j : Nat), j ∈ ints ++ bools → decode b pc = .ok (.getfield (fx j), 3) → G st (pc + 3) lv (.ref (ad j) :: stk) → G st pc lv (.ref oo :: stk)) ∧
  (∀ (st : zM) (pc : Nat) (lv : zL) (stk : List Value) (j : Nat) (i : Int), j ∈ ints → decode b pc = .ok (.iaload, 1) → (0 ≤ i ∧ i < nx j) → G st (pc + 1) lv (.int (zI (st j i)) :: stk) → G st pc lv (.int (zI i) :: .ref (ad j) :: stk)) ∧
  (∀ (st : zM) (pc : Nat) (lv : zL) (stk : List Value) (j : Nat) (i : Int), j ∈ bools → decode b pc = .ok (.baload, 1) → (0 ≤ i ∧ i < nx j) → G st (pc + 1) lv (.int (zI (st j i)) :: stk) → G st pc lv (.int (zI i) :: .ref (ad j) :: stk)) ∧
  (∀ (st : zM) (pc : Nat) (lv : zL) (stk : List Value) (j : Nat) (i v : Int), j ∈ ints → decode b pc = .ok (.iastore, 1) → (0 ≤ i ∧ i < nx j) → G (up st j i v) (pc + 1) lv stk → G st pc lv (.int (zI v) :: .int (zI i) :: .ref (ad j) :: stk)) ∧
  (∀ (st : zM) (pc : Nat) (lv : zL) (stk : List Value) (j : Nat) (i v : Int), j ∈ bools → decode b pc = .ok (.bastore, 1) → (0 ≤ i ∧ i < nx j) → (0 ≤ v ∧ v ≤ 1) → G (up st j i v) (pc + 1) lv stk → G st pc lv (.int (zI v) :: .int (zI i) :: .ref (ad j) :: stk))
def RK (b : ByteArray) (G : zG zM) (oo : Nat) : Prop :=
  (∀ (st : zM) (pc : Nat) (lv : zL) (stk : List Value), decode b pc = .ok (.getfield 56, 3) → G st (pc + 3) lv (.int (zI (st 7 0)) :: stk) → G st pc lv (.ref oo :: stk)) ∧
  (∀ (st : zM) (pc : Nat) (lv : zL) (stk : List Value) (v : Int), decode b pc = .ok (.putfield 56, 3) → G (up st 7 0 v) (pc + 3) lv stk → G st pc lv (.int (zI v) :: .ref oo :: stk))
section RHU
variable {b : ByteArray} {G : zG zM} {oo : Nat} {ad : Nat → Nat} {fx : Nat → Nat} {nx : Nat → Int} {ints bools : List Nat}
theorem rh_get (h : RH b G oo ad fx nx ints bools) (j : Nat) {x a : Nat} {st : zM} {pc : Nat} {lv : zL} {stk : List Value} (hj : j ∈ ints ++ bools) (d : decode b pc = .ok (.getfield x, 3)) (hf : fx j = x) (ha : ad j = a) (k : G st (pc + 3) lv (.ref a :: stk)) : G st pc lv (.ref oo :: stk) := by
  subst hf; subst ha
  exact h.1 st pc lv stk j hj d k
theorem rh_ild (h : RH b G oo ad fx nx ints bools) (j : Nat) (n : Int) {a : Nat} {st : zM} {pc : Nat} {lv : zL} {stk : List Value} {i : Int} (hj : j ∈ ints) (d : decode b pc = .ok (.iaload, 1)) (ha : ad j = a) (hn : nx j = n) (hi : 0 ≤ i ∧ i < n) (k : G st (pc + 1) lv (.int (zI (st j i)) :: stk)) : G st pc lv (.int (zI i) :: .ref a :: stk) := by
  subst hn; subst ha
  exact h.2.1 st pc lv stk j i hj d hi k
theorem rh_bld (h : RH b G oo ad fx nx ints bools) (j : Nat) (n : Int) {a : Nat} {st : zM} {pc : Nat} {lv : zL} {stk : List Value} {i : Int} (hj : j ∈ bools) (d : decode b pc = .ok (.baload, 1)) (ha : ad j = a) (hn : nx j = n) (hi : 0 ≤ i ∧ i < n) (k : G st (pc + 1) lv (.int (zI (st j i)) :: stk)) : G st pc lv (.int (zI i) :: .ref a :: stk) := by
  subst hn; subst ha
  exact h.2.2.1 st pc lv stk j i hj d hi k
theorem rh_ist (h : RH b G oo ad fx nx ints bools) (j : Nat) (n : Int) {a : Nat} {st : zM} {pc : Nat} {lv : zL} {stk : List Value} {i v : Int} (hj : j ∈ ints) (d : decode b pc = .ok (.iastore, 1)) (ha : ad j = a) (hn : nx j = n) (hi : 0 ≤ i ∧ i < n) (k : G (up st j i v) (pc + 1) lv stk) : G st pc lv (.int (zI v) :: .int (zI i) :: .ref a :: stk) := by
  subst hn; subst ha
  exact h.2.2.2.1 st pc lv stk j i v hj d hi k
theorem rh_bst (h : RH b G oo ad fx nx ints bools) (j : Nat) (n : Int) {a : Nat} {st : zM} {pc : Nat} {lv : zL} {stk : List Value} {i v : Int} (hj : j ∈ bools) (d : decode b pc = .ok (.bastore, 1)) (ha : ad j = a) (hn : nx j = n) (hi : 0 ≤ i ∧ i < n) (hv : 0 ≤ v ∧ v ≤ 1) (k : G (up st j i v) (pc + 1) lv stk) : G st pc lv (.int (zI v) :: .int (zI i) :: .ref a :: stk) := by
  subst hn; subst ha
  exact h.2.2.2.2 st pc lv stk j i v hj d hi hv k
end RHU
/-- what a world's params are: the addresses, the array classes -/
abbrev zW : Type := (Nat → Nat) × (Nat → ClassId)
def rmK (k : Nat) : Room := { frames := k, cells := 0, slots := 0, locals := 40 * k }
def zPU {σ : Type} (D : va_G) (tys : List (ClassId × FieldType)) (wf : σ → va_W) (st : σ) (sz : Nat) : State → Prop := fun U => U.heap.size = sz ∧ va_P D classes (wf st) U.heap ∧ va_K D classes tys U ∧ va_D (fun _ => True) (wf st)
def zBU {σ : Type} (D : va_G) (tys : List (ClassId × FieldType)) (wf : σ → va_W) (A : Nat → Prop) (u : σ) (t : State) : Prop := va_P D classes (wf u) t.heap ∧ va_K D classes tys t ∧ va_D A (wf u)
/-- contracts: the method y from the world of st, with the arguments av, answers z and leaves the world of u, with post z u -/
def CI {σ : Type} (l : Launch) (D : va_G) (tys : List (ClassId × FieldType)) (wf : σ → va_W) (y : MethodName) (b : ByteArray) (mL : Nat) (rt : FieldType) (k : Nat) (av : List Value) (st : σ) (post : Int → σ → Prop) : Prop :=
  ∀ sz : Nat, Met l y (Cond.code y b mL (some rt) :: wT) (rmK k) (va_Pc av (zPU D tys wf st sz)) (va_Qi (fun (r : Int32) (u : σ) => ∃ z : Int, r = zI z ∧ post z u) (zBU D tys wf (va_A (wf st) sz)) (va_A (wf st) sz)) 0 0 (va_A (wf st) sz)
def CV {σ : Type} (l : Launch) (D : va_G) (tys : List (ClassId × FieldType)) (wf : σ → va_W) (y : MethodName) (b : ByteArray) (mL : Nat) (k : Nat) (av : List Value) (st : σ) (post : σ → Prop) : Prop :=
  ∀ sz : Nat, Met l y (Cond.code y b mL none :: wT) (rmK k) (va_Pc av (zPU D tys wf st sz)) (va_Qv (fun (u : σ) => post u) (zBU D tys wf (va_A (wf st) sz)) (va_A (wf st) sz)) 0 0 (va_A (wf st) sz)
theorem zgood {big : List Cond} {own C : String} {idx : Nat} {y : MethodName} {b : ByteArray} {mL : Nat} {ret : Option FieldType} {n : Nat} (hbig : ∀ w ∈ wT, w ∈ big) (h : Lk own C idx y b mL ret n) : GoodIn big (wsV own idx C y (Cond.code y b mL ret :: wT)) := by
  obtain ⟨h1, h2, h3, h4, h5, -⟩ := h
  have all : ∀ w, w ∈ wT → w ∈ big ∧ ((w.onTables && w.keeps) = true ∨ ∃ ty, w = .arrayClass ty) := fun w hw => ⟨hbig w hw, good_of_word (wT_good w hw)⟩
  intro w hw
  unfold wsV at hw
  rcases List.mem_append.mp hw with hw | hw
  · simp only [List.mem_cons, List.not_mem_nil, or_false] at hw
    rcases hw with rfl | rfl | rfl | rfl
    · exact all _ h1
    · exact all _ h2
    · exact all _ h3
    · exact all _ h4
  · rcases List.mem_cons.mp hw with rfl | hw
    · exact all _ h5
    · exact all _ hw
/-- the free cells of a call of the whole world -/
theorem zfree {A : Nat → Prop} {ws : va_W} {H0 H : Heap} {locs : List Loc} (hD : va_D A ws) (hS : va_S A H0 H locs) (hA : ∀ q, H0.size ≤ q → A q) : ∀ q, va_A ws H.size q → A q := by
  intro q h
  rcases h with ⟨k, e, h⟩ | h
  · exact hD.2 k (q, e) h
  · exact hA q (Nat.le_trans hS.1 h)
/-- calls of own methods: everything that the receiver's world holds goes along -/
def RC (l : Launch) (D : va_G) (tys : List (ClassId × FieldType)) (wf : zM → va_W) (own : String) (R : Room) (b : ByteArray) (G : zG zM) (oo : Nat) : Prop :=
  (∀ (st : zM) (pc : Nat) (lv : zL) (stk : List Value) (idx : Nat) (y : MethodName) (b1 : ByteArray) (mL : Nat) (rt : FieldType) (n k : Nat) (As : List Value) (post : Int → zM → Prop), Lk own own idx y b1 mL (some rt) n → As.length = n → (k + 1 ≤ R.frames ∧ 8 + (mL + 11) + 40 * k ≤ R.locals) → CI l D tys wf y b1 mL rt k (.ref oo :: As) st post → decode b pc = .ok (.invokevirtual idx, 3) → (stk.map fun v => v.category).sum ≤ 8 → (∀ z u, post z u → G u (pc + 3) lv (.int (zI z) :: stk)) → G st pc lv (As.reverse ++ .ref oo :: stk)) ∧
  (∀ (st : zM) (pc : Nat) (lv : zL) (stk : List Value) (idx : Nat) (y : MethodName) (b1 : ByteArray) (mL : Nat) (n k : Nat) (As : List Value) (post : zM → Prop), Lk own own idx y b1 mL none n → As.length = n → (k + 1 ≤ R.frames ∧ 8 + (mL + 11) + 40 * k ≤ R.locals) → CV l D tys wf y b1 mL k (.ref oo :: As) st post → decode b pc = .ok (.invokevirtual idx, 3) → (stk.map fun v => v.category).sum ≤ 8 → (∀ u, post u → G u (pc + 3) lv stk) → G st pc lv (As.reverse ++ .ref oo :: stk))
section RCU
variable {l : Launch} {D : va_G} {tys : List (ClassId × FieldType)} {wf : zM → va_W} {own : String} {R : Room} {b : ByteArray} {G : zG zM} {oo : Nat}
variable {st : zM} {pc : Nat} {lv : zL} {stk : List Value} {idx : Nat} {y : MethodName} {b1 : ByteArray} {mL : Nat} {rt : FieldType} {n k : Nat} {post : Int → zM → Prop} {postv : zM → Prop}
theorem rc_i0 (h : RC l D tys wf own R b G oo) (hk : Lk own own idx y b1 mL (some rt) 0) (hc : CI l D tys wf y b1 mL rt k (.ref oo :: []) st post) (d : decode b pc = .ok (.invokevirtual idx, 3)) (hr : k + 1 ≤ R.frames ∧ 8 + (mL + 11) + 40 * k ≤ R.locals) (hs : (stk.map fun v => v.category).sum ≤ 8) (kk : ∀ z u, post z u → G u (pc + 3) lv (.int (zI z) :: stk)) : G st pc lv (.ref oo :: stk) := h.1 st pc lv stk idx y b1 mL rt 0 k [] post hk rfl hr hc d hs kk
theorem rc_v0 (h : RC l D tys wf own R b G oo) (hk : Lk own own idx y b1 mL none 0) (hc : CV l D tys wf y b1 mL k (.ref oo :: []) st postv) (d : decode b pc = .ok (.invokevirtual idx, 3)) (hr : k + 1 ≤ R.frames ∧ 8 + (mL + 11) + 40 * k ≤ R.locals) (hs : (stk.map fun v => v.category).sum ≤ 8) (kk : ∀ u, postv u → G u (pc + 3) lv stk) : G st pc lv (.ref oo :: stk) := h.2 st pc lv stk idx y b1 mL 0 k [] postv hk rfl hr hc d hs kk
theorem rc_i1 (h : RC l D tys wf own R b G oo) {x0 : Int} (hk : Lk own own idx y b1 mL (some rt) 1) (hc : CI l D tys wf y b1 mL rt k (.ref oo :: [.int (zI x0)]) st post) (d : decode b pc = .ok (.invokevirtual idx, 3)) (hr : k + 1 ≤ R.frames ∧ 8 + (mL + 11) + 40 * k ≤ R.locals) (hs : (stk.map fun v => v.category).sum ≤ 8) (kk : ∀ z u, post z u → G u (pc + 3) lv (.int (zI z) :: stk)) : G st pc lv (.int (zI x0) :: .ref oo :: stk) := h.1 st pc lv stk idx y b1 mL rt 1 k [.int (zI x0)] post hk rfl hr hc d hs kk
theorem rc_v1 (h : RC l D tys wf own R b G oo) {x0 : Int} (hk : Lk own own idx y b1 mL none 1) (hc : CV l D tys wf y b1 mL k (.ref oo :: [.int (zI x0)]) st postv) (d : decode b pc = .ok (.invokevirtual idx, 3)) (hr : k + 1 ≤ R.frames ∧ 8 + (mL + 11) + 40 * k ≤ R.locals) (hs : (stk.map fun v => v.category).sum ≤ 8) (kk : ∀ u, postv u → G u (pc + 3) lv stk) : G st pc lv (.int (zI x0) :: .ref oo :: stk) := h.2 st pc lv stk idx y b1 mL 1 k [.int (zI x0)] postv hk rfl hr hc d hs kk
theorem rc_i2 (h : RC l D tys wf own R b G oo) {x0 x1 : Int} (hk : Lk own own idx y b1 mL (some rt) 2) (hc : CI l D tys wf y b1 mL rt k (.ref oo :: [.int (zI x0), .int (zI x1)]) st post) (d : decode b pc = .ok (.invokevirtual idx, 3)) (hr : k + 1 ≤ R.frames ∧ 8 + (mL + 11) + 40 * k ≤ R.locals) (hs : (stk.map fun v => v.category).sum ≤ 8) (kk : ∀ z u, post z u → G u (pc + 3) lv (.int (zI z) :: stk)) : G st pc lv (.int (zI x1) :: .int (zI x0) :: .ref oo :: stk) := h.1 st pc lv stk idx y b1 mL rt 2 k [.int (zI x0), .int (zI x1)] post hk rfl hr hc d hs kk
theorem rc_v2 (h : RC l D tys wf own R b G oo) {x0 x1 : Int} (hk : Lk own own idx y b1 mL none 2) (hc : CV l D tys wf y b1 mL k (.ref oo :: [.int (zI x0), .int (zI x1)]) st postv) (d : decode b pc = .ok (.invokevirtual idx, 3)) (hr : k + 1 ≤ R.frames ∧ 8 + (mL + 11) + 40 * k ≤ R.locals) (hs : (stk.map fun v => v.category).sum ≤ 8) (kk : ∀ u, postv u → G u (pc + 3) lv stk) : G st pc lv (.int (zI x1) :: .int (zI x0) :: .ref oo :: stk) := h.2 st pc lv stk idx y b1 mL 2 k [.int (zI x0), .int (zI x1)] postv hk rfl hr hc d hs kk
theorem rc_i3 (h : RC l D tys wf own R b G oo) {x0 x1 x2 : Int} (hk : Lk own own idx y b1 mL (some rt) 3) (hc : CI l D tys wf y b1 mL rt k (.ref oo :: [.int (zI x0), .int (zI x1), .int (zI x2)]) st post) (d : decode b pc = .ok (.invokevirtual idx, 3)) (hr : k + 1 ≤ R.frames ∧ 8 + (mL + 11) + 40 * k ≤ R.locals) (hs : (stk.map fun v => v.category).sum ≤ 8) (kk : ∀ z u, post z u → G u (pc + 3) lv (.int (zI z) :: stk)) : G st pc lv (.int (zI x2) :: .int (zI x1) :: .int (zI x0) :: .ref oo :: stk) := h.1 st pc lv stk idx y b1 mL rt 3 k [.int (zI x0), .int (zI x1), .int (zI x2)] post hk rfl hr hc d hs kk
theorem rc_v3 (h : RC l D tys wf own R b G oo) {x0 x1 x2 : Int} (hk : Lk own own idx y b1 mL none 3) (hc : CV l D tys wf y b1 mL k (.ref oo :: [.int (zI x0), .int (zI x1), .int (zI x2)]) st postv) (d : decode b pc = .ok (.invokevirtual idx, 3)) (hr : k + 1 ≤ R.frames ∧ 8 + (mL + 11) + 40 * k ≤ R.locals) (hs : (stk.map fun v => v.category).sum ≤ 8) (kk : ∀ u, postv u → G u (pc + 3) lv stk) : G st pc lv (.int (zI x2) :: .int (zI x1) :: .int (zI x0) :: .ref oo :: stk) := h.2 st pc lv stk idx y b1 mL 3 k [.int (zI x0), .int (zI x1), .int (zI x2)] postv hk rfl hr hc d hs kk
theorem rc_i4 (h : RC l D tys wf own R b G oo) {x0 x1 x2 x3 : Int} (hk : Lk own own idx y b1 mL (some rt) 4) (hc : CI l D tys wf y b1 mL rt k (.ref oo :: [.int (zI x0), .int (zI x1), .int (zI x2), .int (zI x3)]) st post) (d : decode b pc = .ok (.invokevirtual idx, 3)) (hr : k + 1 ≤ R.frames ∧ 8 + (mL + 11) + 40 * k ≤ R.locals) (hs : (stk.map fun v => v.category).sum ≤ 8) (kk : ∀ z u, post z u → G u (pc + 3) lv (.int (zI z) :: stk)) : G st pc lv (.int (zI x3) :: .int (zI x2) :: .int (zI x1) :: .int (zI x0) :: .ref oo :: stk) := h.1 st pc lv stk idx y b1 mL rt 4 k [.int (zI x0), .int (zI x1), .int (zI x2), .int (zI x3)] post hk rfl hr hc d hs kk
theorem rc_v4 (h : RC l D tys wf own R b G oo) {x0 x1 x2 x3 : Int} (hk : Lk own own idx y b1 mL none 4) (hc : CV l D tys wf y b1 mL k (.ref oo :: [.int (zI x0), .int (zI x1), .int (zI x2), .int (zI x3)]) st postv) (d : decode b pc = .ok (.invokevirtual idx, 3)) (hr : k + 1 ≤ R.frames ∧ 8 + (mL + 11) + 40 * k ≤ R.locals) (hs : (stk.map fun v => v.category).sum ≤ 8) (kk : ∀ u, postv u → G u (pc + 3) lv stk) : G st pc lv (.int (zI x3) :: .int (zI x2) :: .int (zI x1) :: .int (zI x0) :: .ref oo :: stk) := h.2 st pc lv stk idx y b1 mL 4 k [.int (zI x0), .int (zI x1), .int (zI x2), .int (zI x3)] postv hk rfl hr hc d hs kk
end RCU
def wX (w : zW) (st : zM) : va_W := [(w.1 0, .inr (0, [.ref (w.1 1), .ref (w.1 2), .ref (w.1 3), .ref (w.1 4), .ref (w.1 5), .ref (w.1 6), .ref (w.1 7), .int (zI (st 7 0)), .ref (w.1 8)])), (w.1 1, .inl (w.2 1, 64, .inl (fun q : Nat => zI (st 0 (q : Int))))), (w.1 2, .inl (w.2 2, 16, .inl (fun q : Nat => zI (st 1 (q : Int))))), (w.1 3, .inl (w.2 3, 32, .inl (fun q : Nat => zI (st 2 (q : Int))))), (w.1 4, .inl (w.2 4, 32, .inl (fun q : Nat => zI (st 3 (q : Int))))), (w.1 5, .inl (w.2 5, 8, .inl (fun q : Nat => zI (st 4 (q : Int))))), (w.1 6, .inl (w.2 6, 4, .inl (fun q : Nat => zI (st 5 (q : Int))))), (w.1 7, .inl (w.2 7, 4, .inl (fun q : Nat => zI (st 6 (q : Int))))), (w.1 8, .inl (w.2 8, 4, .inl (fun q : Nat => zI (st 8 (q : Int)))))]
def tysX (w : zW) : List (ClassId × FieldType) := [(w.2 1, .int), (w.2 2, .int), (w.2 3, .int), (w.2 4, .boolean), (w.2 5, .int), (w.2 6, .int), (w.2 7, .int), (w.2 8, .int)]
def adX (w : zW) : Nat → Nat := fun j => w.1 (if j = 8 then 8 else j + 1)
def fxX : Nat → Nat := fun j => match j with
  | 0 => 7
  | 1 => 13
  | 2 => 16
  | 3 => 19
  | 4 => 23
  | 5 => 26
  | 6 => 29
  | 7 => 56
  | _ => 32
def nxX : Nat → Int := fun j => match j with
  | 0 => 64
  | 1 => 16
  | 2 => 32
  | 3 => 32
  | 4 => 8
  | 5 => 4
  | 6 => 4
  | 7 => 0
  | _ => 4
abbrev intsX : List Nat := [0, 1, 2, 4, 5, 6, 8]
abbrev boolsX : List Nat := [3]
theorem stX_0 {w : zW} {st : zM} {i v : Int} (h : 0 ≤ i) : wX w (up st 0 i v) = (wX w st).set 1 (w.1 1, .inl (w.2 1, 64, .inl (upd (fun q : Nat => zI (st 0 (q : Int))) i.toNat (zI v)))) := by
  rw [← up_arr h]
  rfl
theorem stX_1 {w : zW} {st : zM} {i v : Int} (h : 0 ≤ i) : wX w (up st 1 i v) = (wX w st).set 2 (w.1 2, .inl (w.2 2, 16, .inl (upd (fun q : Nat => zI (st 1 (q : Int))) i.toNat (zI v)))) := by
  rw [← up_arr h]
  rfl
theorem stX_2 {w : zW} {st : zM} {i v : Int} (h : 0 ≤ i) : wX w (up st 2 i v) = (wX w st).set 3 (w.1 3, .inl (w.2 3, 32, .inl (upd (fun q : Nat => zI (st 2 (q : Int))) i.toNat (zI v)))) := by
  rw [← up_arr h]
  rfl
theorem stX_3 {w : zW} {st : zM} {i v : Int} (h : 0 ≤ i) : wX w (up st 3 i v) = (wX w st).set 4 (w.1 4, .inl (w.2 4, 32, .inl (upd (fun q : Nat => zI (st 3 (q : Int))) i.toNat (zI v)))) := by
  rw [← up_arr h]
  rfl
theorem stX_4 {w : zW} {st : zM} {i v : Int} (h : 0 ≤ i) : wX w (up st 4 i v) = (wX w st).set 5 (w.1 5, .inl (w.2 5, 8, .inl (upd (fun q : Nat => zI (st 4 (q : Int))) i.toNat (zI v)))) := by
  rw [← up_arr h]
  rfl
theorem stX_5 {w : zW} {st : zM} {i v : Int} (h : 0 ≤ i) : wX w (up st 5 i v) = (wX w st).set 6 (w.1 6, .inl (w.2 6, 4, .inl (upd (fun q : Nat => zI (st 5 (q : Int))) i.toNat (zI v)))) := by
  rw [← up_arr h]
  rfl
theorem stX_6 {w : zW} {st : zM} {i v : Int} (h : 0 ≤ i) : wX w (up st 6 i v) = (wX w st).set 7 (w.1 7, .inl (w.2 7, 4, .inl (upd (fun q : Nat => zI (st 6 (q : Int))) i.toNat (zI v)))) := by
  rw [← up_arr h]
  rfl
theorem stX_8 {w : zW} {st : zM} {i v : Int} (h : 0 ≤ i) : wX w (up st 8 i v) = (wX w st).set 8 (w.1 8, .inl (w.2 8, 4, .inl (upd (fun q : Nat => zI (st 8 (q : Int))) i.toNat (zI v)))) := by
  rw [← up_arr h]
  rfl
section HWX
variable {p : Program} {l : Launch} {e : Env} {R : Room} {s : State} {m : MethodId} {args : Array Value} {below : List Frame} {meth : Method} {c : Code} {cells slots : Nat} {Q : State → Prop} {D : va_G} {A : Nat → Prop} {H0 : Heap} {nL : Nat} {b : ByteArray} {w : zW}
theorem hgX_0 (hx : p.tables.exec = Jvm.exec) (hb : c.code = b) (hown : s.vm.findClass R_X = some m.cls) (hts : ∀ w ∈ wT, w.before args s = true) (hK : va_K D classes (tysX w) s) (st : zM) (pc : Nat) (lv : zL) (stk : List Value) (d : decode b pc = .ok (.getfield 7, 3)) (k : GW p l e R s m args below meth c cells slots Q D A H0 nL (wX w) st (pc + 3) lv (.ref (w.1 1) :: stk)) : GW p l e R s m args below meth c cells slots Q D A H0 nL (wX w) st pc lv (.ref (w.1 0) :: stk) := fun H locs ls hP hD hS hl => va_get (D := D) (ci := 0) (v := .ref (w.1 1)) (C := R_X) (T := F_X) (N := 9) hx hb hts i_X hown hK hP 0 rfl rfl 0 (by decide) (hts _ m_fXwords) (fun _ h9 => h9) rfl d (k H locs ls hP hD hS hl)
theorem hlX_0 (hx : p.tables.exec = Jvm.exec) (hb : c.code = b) (hown : s.vm.findClass R_X = some m.cls) (hts : ∀ w ∈ wT, w.before args s = true) (hK : va_K D classes (tysX w) s) (st : zM) (pc : Nat) (lv : zL) (stk : List Value) (i : Int) (d : decode b pc = .ok (.iaload, 1)) (hi : 0 ≤ i ∧ i < 64) (k : GW p l e R s m args below meth c cells slots Q D A H0 nL (wX w) st (pc + 1) lv (.int (zI (st 0 i)) :: stk)) : GW p l e R s m args below meth c cells slots Q D A H0 nL (wX w) st pc lv (.int (zI i) :: .ref (w.1 1) :: stk) := fun H locs ls hP hD hS hl => by
  refine va_iald hx hb hK hP 1 0 rfl rfl (zI_in hi.1 hi.2 (by decide)) d ?_
  rw [zI_clamp hi.1 (by omega), Int.toNat_of_nonneg hi.1]
  exact k H locs ls hP hD hS hl
theorem hsX_0 (hx : p.tables.exec = Jvm.exec) (hb : c.code = b) (hown : s.vm.findClass R_X = some m.cls) (hts : ∀ w ∈ wT, w.before args s = true) (hK : va_K D classes (tysX w) s) (st : zM) (pc : Nat) (lv : zL) (stk : List Value) (i v : Int) (d : decode b pc = .ok (.iastore, 1)) (hi : 0 ≤ i ∧ i < 64) (k : GW p l e R s m args below meth c cells slots Q D A H0 nL (wX w) (up st 0 i v) (pc + 1) lv stk) : GW p l e R s m args below meth c cells slots Q D A H0 nL (wX w) st pc lv (.int (zI v) :: .int (zI i) :: .ref (w.1 1) :: stk) := fun H locs ls hP hD hS hl => by
  refine va_iast hx hb hK hP hD hS 1 0 rfl rfl (zI_in hi.1 hi.2 (by decide)) d (fun H1 locs1 hP1 hD1 hS1 => ?_)
  rw [zI_clamp hi.1 (by omega)] at hP1 hD1
  exact k H1 locs1 ls (by rw [stX_0 hi.1]; exact hP1) (by rw [stX_0 hi.1]; exact hD1) hS1 hl
theorem hgX_1 (hx : p.tables.exec = Jvm.exec) (hb : c.code = b) (hown : s.vm.findClass R_X = some m.cls) (hts : ∀ w ∈ wT, w.before args s = true) (hK : va_K D classes (tysX w) s) (st : zM) (pc : Nat) (lv : zL) (stk : List Value) (d : decode b pc = .ok (.getfield 13, 3)) (k : GW p l e R s m args below meth c cells slots Q D A H0 nL (wX w) st (pc + 3) lv (.ref (w.1 2) :: stk)) : GW p l e R s m args below meth c cells slots Q D A H0 nL (wX w) st pc lv (.ref (w.1 0) :: stk) := fun H locs ls hP hD hS hl => va_get (D := D) (ci := 0) (v := .ref (w.1 2)) (C := R_X) (T := F_X) (N := 9) hx hb hts i_X hown hK hP 0 rfl rfl 1 (by decide) (hts _ m_fXusers) (fun _ h9 => h9) rfl d (k H locs ls hP hD hS hl)
theorem hlX_1 (hx : p.tables.exec = Jvm.exec) (hb : c.code = b) (hown : s.vm.findClass R_X = some m.cls) (hts : ∀ w ∈ wT, w.before args s = true) (hK : va_K D classes (tysX w) s) (st : zM) (pc : Nat) (lv : zL) (stk : List Value) (i : Int) (d : decode b pc = .ok (.iaload, 1)) (hi : 0 ≤ i ∧ i < 16) (k : GW p l e R s m args below meth c cells slots Q D A H0 nL (wX w) st (pc + 1) lv (.int (zI (st 1 i)) :: stk)) : GW p l e R s m args below meth c cells slots Q D A H0 nL (wX w) st pc lv (.int (zI i) :: .ref (w.1 2) :: stk) := fun H locs ls hP hD hS hl => by
  refine va_iald hx hb hK hP 2 1 rfl rfl (zI_in hi.1 hi.2 (by decide)) d ?_
  rw [zI_clamp hi.1 (by omega), Int.toNat_of_nonneg hi.1]
  exact k H locs ls hP hD hS hl
theorem hsX_1 (hx : p.tables.exec = Jvm.exec) (hb : c.code = b) (hown : s.vm.findClass R_X = some m.cls) (hts : ∀ w ∈ wT, w.before args s = true) (hK : va_K D classes (tysX w) s) (st : zM) (pc : Nat) (lv : zL) (stk : List Value) (i v : Int) (d : decode b pc = .ok (.iastore, 1)) (hi : 0 ≤ i ∧ i < 16) (k : GW p l e R s m args below meth c cells slots Q D A H0 nL (wX w) (up st 1 i v) (pc + 1) lv stk) : GW p l e R s m args below meth c cells slots Q D A H0 nL (wX w) st pc lv (.int (zI v) :: .int (zI i) :: .ref (w.1 2) :: stk) := fun H locs ls hP hD hS hl => by
  refine va_iast hx hb hK hP hD hS 2 1 rfl rfl (zI_in hi.1 hi.2 (by decide)) d (fun H1 locs1 hP1 hD1 hS1 => ?_)
  rw [zI_clamp hi.1 (by omega)] at hP1 hD1
  exact k H1 locs1 ls (by rw [stX_1 hi.1]; exact hP1) (by rw [stX_1 hi.1]; exact hD1) hS1 hl
theorem hgX_2 (hx : p.tables.exec = Jvm.exec) (hb : c.code = b) (hown : s.vm.findClass R_X = some m.cls) (hts : ∀ w ∈ wT, w.before args s = true) (hK : va_K D classes (tysX w) s) (st : zM) (pc : Nat) (lv : zL) (stk : List Value) (d : decode b pc = .ok (.getfield 16, 3)) (k : GW p l e R s m args below meth c cells slots Q D A H0 nL (wX w) st (pc + 3) lv (.ref (w.1 3) :: stk)) : GW p l e R s m args below meth c cells slots Q D A H0 nL (wX w) st pc lv (.ref (w.1 0) :: stk) := fun H locs ls hP hD hS hl => va_get (D := D) (ci := 0) (v := .ref (w.1 3)) (C := R_X) (T := F_X) (N := 9) hx hb hts i_X hown hK hP 0 rfl rfl 2 (by decide) (hts _ m_fXbase) (fun _ h9 => h9) rfl d (k H locs ls hP hD hS hl)
theorem hlX_2 (hx : p.tables.exec = Jvm.exec) (hb : c.code = b) (hown : s.vm.findClass R_X = some m.cls) (hts : ∀ w ∈ wT, w.before args s = true) (hK : va_K D classes (tysX w) s) (st : zM) (pc : Nat) (lv : zL) (stk : List Value) (i : Int) (d : decode b pc = .ok (.iaload, 1)) (hi : 0 ≤ i ∧ i < 32) (k : GW p l e R s m args below meth c cells slots Q D A H0 nL (wX w) st (pc + 1) lv (.int (zI (st 2 i)) :: stk)) : GW p l e R s m args below meth c cells slots Q D A H0 nL (wX w) st pc lv (.int (zI i) :: .ref (w.1 3) :: stk) := fun H locs ls hP hD hS hl => by
  refine va_iald hx hb hK hP 3 2 rfl rfl (zI_in hi.1 hi.2 (by decide)) d ?_
  rw [zI_clamp hi.1 (by omega), Int.toNat_of_nonneg hi.1]
  exact k H locs ls hP hD hS hl
theorem hsX_2 (hx : p.tables.exec = Jvm.exec) (hb : c.code = b) (hown : s.vm.findClass R_X = some m.cls) (hts : ∀ w ∈ wT, w.before args s = true) (hK : va_K D classes (tysX w) s) (st : zM) (pc : Nat) (lv : zL) (stk : List Value) (i v : Int) (d : decode b pc = .ok (.iastore, 1)) (hi : 0 ≤ i ∧ i < 32) (k : GW p l e R s m args below meth c cells slots Q D A H0 nL (wX w) (up st 2 i v) (pc + 1) lv stk) : GW p l e R s m args below meth c cells slots Q D A H0 nL (wX w) st pc lv (.int (zI v) :: .int (zI i) :: .ref (w.1 3) :: stk) := fun H locs ls hP hD hS hl => by
  refine va_iast hx hb hK hP hD hS 3 2 rfl rfl (zI_in hi.1 hi.2 (by decide)) d (fun H1 locs1 hP1 hD1 hS1 => ?_)
  rw [zI_clamp hi.1 (by omega)] at hP1 hD1
  exact k H1 locs1 ls (by rw [stX_2 hi.1]; exact hP1) (by rw [stX_2 hi.1]; exact hD1) hS1 hl
theorem hgX_3 (hx : p.tables.exec = Jvm.exec) (hb : c.code = b) (hown : s.vm.findClass R_X = some m.cls) (hts : ∀ w ∈ wT, w.before args s = true) (hK : va_K D classes (tysX w) s) (st : zM) (pc : Nat) (lv : zL) (stk : List Value) (d : decode b pc = .ok (.getfield 19, 3)) (k : GW p l e R s m args below meth c cells slots Q D A H0 nL (wX w) st (pc + 3) lv (.ref (w.1 4) :: stk)) : GW p l e R s m args below meth c cells slots Q D A H0 nL (wX w) st pc lv (.ref (w.1 0) :: stk) := fun H locs ls hP hD hS hl => va_get (D := D) (ci := 0) (v := .ref (w.1 4)) (C := R_X) (T := F_X) (N := 9) hx hb hts i_X hown hK hP 0 rfl rfl 3 (by decide) (hts _ m_fXlocked) (fun _ h9 => h9) rfl d (k H locs ls hP hD hS hl)
theorem hlX_3 (hx : p.tables.exec = Jvm.exec) (hb : c.code = b) (hown : s.vm.findClass R_X = some m.cls) (hts : ∀ w ∈ wT, w.before args s = true) (hK : va_K D classes (tysX w) s) (st : zM) (pc : Nat) (lv : zL) (stk : List Value) (i : Int) (d : decode b pc = .ok (.baload, 1)) (hi : 0 ≤ i ∧ i < 32) (k : GW p l e R s m args below meth c cells slots Q D A H0 nL (wX w) st (pc + 1) lv (.int (zI (st 3 i)) :: stk)) : GW p l e R s m args below meth c cells slots Q D A H0 nL (wX w) st pc lv (.int (zI i) :: .ref (w.1 4) :: stk) := fun H locs ls hP hD hS hl => by
  refine va_zald hx hb hK hP 4 3 rfl rfl (zI_in hi.1 hi.2 (by decide)) d ?_
  rw [zI_clamp hi.1 (by omega), Int.toNat_of_nonneg hi.1]
  exact k H locs ls hP hD hS hl
theorem hsX_3 (hx : p.tables.exec = Jvm.exec) (hb : c.code = b) (hown : s.vm.findClass R_X = some m.cls) (hts : ∀ w ∈ wT, w.before args s = true) (hK : va_K D classes (tysX w) s) (st : zM) (pc : Nat) (lv : zL) (stk : List Value) (i v : Int) (d : decode b pc = .ok (.bastore, 1)) (hi : 0 ≤ i ∧ i < 32) (hv : 0 ≤ v ∧ v ≤ 1) (k : GW p l e R s m args below meth c cells slots Q D A H0 nL (wX w) (up st 3 i v) (pc + 1) lv stk) : GW p l e R s m args below meth c cells slots Q D A H0 nL (wX w) st pc lv (.int (zI v) :: .int (zI i) :: .ref (w.1 4) :: stk) := fun H locs ls hP hD hS hl => by
  refine va_zast hx hb hK hP hD hS 4 3 rfl rfl (zI_in hi.1 hi.2 (by decide)) d (fun H1 locs1 hP1 hD1 hS1 => ?_)
  rw [zI_clamp hi.1 (by omega), zI_vnar hv] at hP1 hD1
  exact k H1 locs1 ls (by rw [stX_3 hi.1]; exact hP1) (by rw [stX_3 hi.1]; exact hD1) hS1 hl
theorem hgX_4 (hx : p.tables.exec = Jvm.exec) (hb : c.code = b) (hown : s.vm.findClass R_X = some m.cls) (hts : ∀ w ∈ wT, w.before args s = true) (hK : va_K D classes (tysX w) s) (st : zM) (pc : Nat) (lv : zL) (stk : List Value) (d : decode b pc = .ok (.getfield 23, 3)) (k : GW p l e R s m args below meth c cells slots Q D A H0 nL (wX w) st (pc + 3) lv (.ref (w.1 5) :: stk)) : GW p l e R s m args below meth c cells slots Q D A H0 nL (wX w) st pc lv (.ref (w.1 0) :: stk) := fun H locs ls hP hD hS hl => va_get (D := D) (ci := 0) (v := .ref (w.1 5)) (C := R_X) (T := F_X) (N := 9) hx hb hts i_X hown hK hP 0 rfl rfl 4 (by decide) (hts _ m_fXlarge) (fun _ h9 => h9) rfl d (k H locs ls hP hD hS hl)
theorem hlX_4 (hx : p.tables.exec = Jvm.exec) (hb : c.code = b) (hown : s.vm.findClass R_X = some m.cls) (hts : ∀ w ∈ wT, w.before args s = true) (hK : va_K D classes (tysX w) s) (st : zM) (pc : Nat) (lv : zL) (stk : List Value) (i : Int) (d : decode b pc = .ok (.iaload, 1)) (hi : 0 ≤ i ∧ i < 8) (k : GW p l e R s m args below meth c cells slots Q D A H0 nL (wX w) st (pc + 1) lv (.int (zI (st 4 i)) :: stk)) : GW p l e R s m args below meth c cells slots Q D A H0 nL (wX w) st pc lv (.int (zI i) :: .ref (w.1 5) :: stk) := fun H locs ls hP hD hS hl => by
  refine va_iald hx hb hK hP 5 4 rfl rfl (zI_in hi.1 hi.2 (by decide)) d ?_
  rw [zI_clamp hi.1 (by omega), Int.toNat_of_nonneg hi.1]
  exact k H locs ls hP hD hS hl
theorem hsX_4 (hx : p.tables.exec = Jvm.exec) (hb : c.code = b) (hown : s.vm.findClass R_X = some m.cls) (hts : ∀ w ∈ wT, w.before args s = true) (hK : va_K D classes (tysX w) s) (st : zM) (pc : Nat) (lv : zL) (stk : List Value) (i v : Int) (d : decode b pc = .ok (.iastore, 1)) (hi : 0 ≤ i ∧ i < 8) (k : GW p l e R s m args below meth c cells slots Q D A H0 nL (wX w) (up st 4 i v) (pc + 1) lv stk) : GW p l e R s m args below meth c cells slots Q D A H0 nL (wX w) st pc lv (.int (zI v) :: .int (zI i) :: .ref (w.1 5) :: stk) := fun H locs ls hP hD hS hl => by
  refine va_iast hx hb hK hP hD hS 5 4 rfl rfl (zI_in hi.1 hi.2 (by decide)) d (fun H1 locs1 hP1 hD1 hS1 => ?_)
  rw [zI_clamp hi.1 (by omega)] at hP1 hD1
  exact k H1 locs1 ls (by rw [stX_4 hi.1]; exact hP1) (by rw [stX_4 hi.1]; exact hD1) hS1 hl
theorem hgX_5 (hx : p.tables.exec = Jvm.exec) (hb : c.code = b) (hown : s.vm.findClass R_X = some m.cls) (hts : ∀ w ∈ wT, w.before args s = true) (hK : va_K D classes (tysX w) s) (st : zM) (pc : Nat) (lv : zL) (stk : List Value) (d : decode b pc = .ok (.getfield 26, 3)) (k : GW p l e R s m args below meth c cells slots Q D A H0 nL (wX w) st (pc + 3) lv (.ref (w.1 6) :: stk)) : GW p l e R s m args below meth c cells slots Q D A H0 nL (wX w) st pc lv (.ref (w.1 0) :: stk) := fun H locs ls hP hD hS hl => va_get (D := D) (ci := 0) (v := .ref (w.1 6)) (C := R_X) (T := F_X) (N := 9) hx hb hts i_X hown hK hP 0 rfl rfl 5 (by decide) (hts _ m_fXholder) (fun _ h9 => h9) rfl d (k H locs ls hP hD hS hl)
theorem hlX_5 (hx : p.tables.exec = Jvm.exec) (hb : c.code = b) (hown : s.vm.findClass R_X = some m.cls) (hts : ∀ w ∈ wT, w.before args s = true) (hK : va_K D classes (tysX w) s) (st : zM) (pc : Nat) (lv : zL) (stk : List Value) (i : Int) (d : decode b pc = .ok (.iaload, 1)) (hi : 0 ≤ i ∧ i < 4) (k : GW p l e R s m args below meth c cells slots Q D A H0 nL (wX w) st (pc + 1) lv (.int (zI (st 5 i)) :: stk)) : GW p l e R s m args below meth c cells slots Q D A H0 nL (wX w) st pc lv (.int (zI i) :: .ref (w.1 6) :: stk) := fun H locs ls hP hD hS hl => by
  refine va_iald hx hb hK hP 6 5 rfl rfl (zI_in hi.1 hi.2 (by decide)) d ?_
  rw [zI_clamp hi.1 (by omega), Int.toNat_of_nonneg hi.1]
  exact k H locs ls hP hD hS hl
theorem hsX_5 (hx : p.tables.exec = Jvm.exec) (hb : c.code = b) (hown : s.vm.findClass R_X = some m.cls) (hts : ∀ w ∈ wT, w.before args s = true) (hK : va_K D classes (tysX w) s) (st : zM) (pc : Nat) (lv : zL) (stk : List Value) (i v : Int) (d : decode b pc = .ok (.iastore, 1)) (hi : 0 ≤ i ∧ i < 4) (k : GW p l e R s m args below meth c cells slots Q D A H0 nL (wX w) (up st 5 i v) (pc + 1) lv stk) : GW p l e R s m args below meth c cells slots Q D A H0 nL (wX w) st pc lv (.int (zI v) :: .int (zI i) :: .ref (w.1 6) :: stk) := fun H locs ls hP hD hS hl => by
  refine va_iast hx hb hK hP hD hS 6 5 rfl rfl (zI_in hi.1 hi.2 (by decide)) d (fun H1 locs1 hP1 hD1 hS1 => ?_)
  rw [zI_clamp hi.1 (by omega)] at hP1 hD1
  exact k H1 locs1 ls (by rw [stX_5 hi.1]; exact hP1) (by rw [stX_5 hi.1]; exact hD1) hS1 hl
theorem hgX_6 (hx : p.tables.exec = Jvm.exec) (hb : c.code = b) (hown : s.vm.findClass R_X = some m.cls) (hts : ∀ w ∈ wT, w.before args s = true) (hK : va_K D classes (tysX w) s) (st : zM) (pc : Nat) (lv : zL) (stk : List Value) (d : decode b pc = .ok (.getfield 29, 3)) (k : GW p l e R s m args below meth c cells slots Q D A H0 nL (wX w) st (pc + 3) lv (.ref (w.1 7) :: stk)) : GW p l e R s m args below meth c cells slots Q D A H0 nL (wX w) st pc lv (.ref (w.1 0) :: stk) := fun H locs ls hP hD hS hl => va_get (D := D) (ci := 0) (v := .ref (w.1 7)) (C := R_X) (T := F_X) (N := 9) hx hb hts i_X hown hK hP 0 rfl rfl 6 (by decide) (hts _ m_fXstamp) (fun _ h9 => h9) rfl d (k H locs ls hP hD hS hl)
theorem hlX_6 (hx : p.tables.exec = Jvm.exec) (hb : c.code = b) (hown : s.vm.findClass R_X = some m.cls) (hts : ∀ w ∈ wT, w.before args s = true) (hK : va_K D classes (tysX w) s) (st : zM) (pc : Nat) (lv : zL) (stk : List Value) (i : Int) (d : decode b pc = .ok (.iaload, 1)) (hi : 0 ≤ i ∧ i < 4) (k : GW p l e R s m args below meth c cells slots Q D A H0 nL (wX w) st (pc + 1) lv (.int (zI (st 6 i)) :: stk)) : GW p l e R s m args below meth c cells slots Q D A H0 nL (wX w) st pc lv (.int (zI i) :: .ref (w.1 7) :: stk) := fun H locs ls hP hD hS hl => by
  refine va_iald hx hb hK hP 7 6 rfl rfl (zI_in hi.1 hi.2 (by decide)) d ?_
  rw [zI_clamp hi.1 (by omega), Int.toNat_of_nonneg hi.1]
  exact k H locs ls hP hD hS hl
theorem hsX_6 (hx : p.tables.exec = Jvm.exec) (hb : c.code = b) (hown : s.vm.findClass R_X = some m.cls) (hts : ∀ w ∈ wT, w.before args s = true) (hK : va_K D classes (tysX w) s) (st : zM) (pc : Nat) (lv : zL) (stk : List Value) (i v : Int) (d : decode b pc = .ok (.iastore, 1)) (hi : 0 ≤ i ∧ i < 4) (k : GW p l e R s m args below meth c cells slots Q D A H0 nL (wX w) (up st 6 i v) (pc + 1) lv stk) : GW p l e R s m args below meth c cells slots Q D A H0 nL (wX w) st pc lv (.int (zI v) :: .int (zI i) :: .ref (w.1 7) :: stk) := fun H locs ls hP hD hS hl => by
  refine va_iast hx hb hK hP hD hS 7 6 rfl rfl (zI_in hi.1 hi.2 (by decide)) d (fun H1 locs1 hP1 hD1 hS1 => ?_)
  rw [zI_clamp hi.1 (by omega)] at hP1 hD1
  exact k H1 locs1 ls (by rw [stX_6 hi.1]; exact hP1) (by rw [stX_6 hi.1]; exact hD1) hS1 hl
theorem hgX_8 (hx : p.tables.exec = Jvm.exec) (hb : c.code = b) (hown : s.vm.findClass R_X = some m.cls) (hts : ∀ w ∈ wT, w.before args s = true) (hK : va_K D classes (tysX w) s) (st : zM) (pc : Nat) (lv : zL) (stk : List Value) (d : decode b pc = .ok (.getfield 32, 3)) (k : GW p l e R s m args below meth c cells slots Q D A H0 nL (wX w) st (pc + 3) lv (.ref (w.1 8) :: stk)) : GW p l e R s m args below meth c cells slots Q D A H0 nL (wX w) st pc lv (.ref (w.1 0) :: stk) := fun H locs ls hP hD hS hl => va_get (D := D) (ci := 0) (v := .ref (w.1 8)) (C := R_X) (T := F_X) (N := 9) hx hb hts i_X hown hK hP 0 rfl rfl 8 (by decide) (hts _ m_fXcarried) (fun _ h9 => h9) rfl d (k H locs ls hP hD hS hl)
theorem hlX_8 (hx : p.tables.exec = Jvm.exec) (hb : c.code = b) (hown : s.vm.findClass R_X = some m.cls) (hts : ∀ w ∈ wT, w.before args s = true) (hK : va_K D classes (tysX w) s) (st : zM) (pc : Nat) (lv : zL) (stk : List Value) (i : Int) (d : decode b pc = .ok (.iaload, 1)) (hi : 0 ≤ i ∧ i < 4) (k : GW p l e R s m args below meth c cells slots Q D A H0 nL (wX w) st (pc + 1) lv (.int (zI (st 8 i)) :: stk)) : GW p l e R s m args below meth c cells slots Q D A H0 nL (wX w) st pc lv (.int (zI i) :: .ref (w.1 8) :: stk) := fun H locs ls hP hD hS hl => by
  refine va_iald hx hb hK hP 8 7 rfl rfl (zI_in hi.1 hi.2 (by decide)) d ?_
  rw [zI_clamp hi.1 (by omega), Int.toNat_of_nonneg hi.1]
  exact k H locs ls hP hD hS hl
theorem hsX_8 (hx : p.tables.exec = Jvm.exec) (hb : c.code = b) (hown : s.vm.findClass R_X = some m.cls) (hts : ∀ w ∈ wT, w.before args s = true) (hK : va_K D classes (tysX w) s) (st : zM) (pc : Nat) (lv : zL) (stk : List Value) (i v : Int) (d : decode b pc = .ok (.iastore, 1)) (hi : 0 ≤ i ∧ i < 4) (k : GW p l e R s m args below meth c cells slots Q D A H0 nL (wX w) (up st 8 i v) (pc + 1) lv stk) : GW p l e R s m args below meth c cells slots Q D A H0 nL (wX w) st pc lv (.int (zI v) :: .int (zI i) :: .ref (w.1 8) :: stk) := fun H locs ls hP hD hS hl => by
  refine va_iast hx hb hK hP hD hS 8 7 rfl rfl (zI_in hi.1 hi.2 (by decide)) d (fun H1 locs1 hP1 hD1 hS1 => ?_)
  rw [zI_clamp hi.1 (by omega)] at hP1 hD1
  exact k H1 locs1 ls (by rw [stX_8 hi.1]; exact hP1) (by rw [stX_8 hi.1]; exact hD1) hS1 hl
theorem hgX_7 (hx : p.tables.exec = Jvm.exec) (hb : c.code = b) (hown : s.vm.findClass R_X = some m.cls) (hts : ∀ w ∈ wT, w.before args s = true) (hK : va_K D classes (tysX w) s) (st : zM) (pc : Nat) (lv : zL) (stk : List Value) (d : decode b pc = .ok (.getfield 56, 3)) (k : GW p l e R s m args below meth c cells slots Q D A H0 nL (wX w) st (pc + 3) lv (.int (zI (st 7 0)) :: stk)) : GW p l e R s m args below meth c cells slots Q D A H0 nL (wX w) st pc lv (.ref (w.1 0) :: stk) := fun H locs ls hP hD hS hl => va_get (D := D) (ci := 0) (v := .int (zI (st 7 0))) (C := R_X) (T := F_X) (N := 9) hx hb hts i_X hown hK hP 0 rfl rfl 7 (by decide) (hts _ m_fXclock) (fun _ h9 => h9) rfl d (k H locs ls hP hD hS hl)
theorem hpX_7 (hx : p.tables.exec = Jvm.exec) (hb : c.code = b) (hown : s.vm.findClass R_X = some m.cls) (hts : ∀ w ∈ wT, w.before args s = true) (hK : va_K D classes (tysX w) s) (st : zM) (pc : Nat) (lv : zL) (stk : List Value) (v : Int) (d : decode b pc = .ok (.putfield 56, 3)) (k : GW p l e R s m args below meth c cells slots Q D A H0 nL (wX w) (up st 7 0 v) (pc + 3) lv stk) : GW p l e R s m args below meth c cells slots Q D A H0 nL (wX w) st pc lv (.int (zI v) :: .ref (w.1 0) :: stk) := fun H locs ls hP hD hS hl =>
  va_put (D := D) (ci := 0) (v := .int (zI v)) (ty := .int) (C := R_X) (T := F_X) (N := 9) hx hb hts i_X t_X t_X_ok n_X hown hK hP hD hS 0 rfl rfl 7 (by decide) (hts _ m_fXclock) (fun _ h9 => h9) rfl (by decide +kernel) rfl rfl (Nat.le_of_ble_eq_true rfl) d (fun H1 locs1 hP1 hD1 hS1 => k H1 locs1 ls hP1 hD1 hS1 hl)
theorem RK_X (hx : p.tables.exec = Jvm.exec) (hb : c.code = b) (hown : s.vm.findClass R_X = some m.cls) (hts : ∀ w ∈ wT, w.before args s = true) (hK : va_K D classes (tysX w) s) : RK b (GW p l e R s m args below meth c cells slots Q D A H0 nL (wX w)) (w.1 0) := ⟨hgX_7 hx hb hown hts hK, hpX_7 hx hb hown hts hK⟩
theorem RH_X (hx : p.tables.exec = Jvm.exec) (hb : c.code = b) (hown : s.vm.findClass R_X = some m.cls) (hts : ∀ w ∈ wT, w.before args s = true) (hK : va_K D classes (tysX w) s) : RH b (GW p l e R s m args below meth c cells slots Q D A H0 nL (wX w)) (w.1 0) (adX w) fxX nxX intsX boolsX := by
  refine ⟨?_, ?_, ?_, ?_, ?_⟩
  · intro st pc lv stk j hj d k
    rcases (show j = 0 ∨ j = 1 ∨ j = 2 ∨ j = 4 ∨ j = 5 ∨ j = 6 ∨ j = 8 ∨ j = 3 by simpa using hj) with rfl | rfl | rfl | rfl | rfl | rfl | rfl | rfl
    · exact hgX_0 hx hb hown hts hK st pc lv stk d k
    · exact hgX_1 hx hb hown hts hK st pc lv stk d k
    · exact hgX_2 hx hb hown hts hK st pc lv stk d k
    · exact hgX_4 hx hb hown hts hK st pc lv stk d k
    · exact hgX_5 hx hb hown hts hK st pc lv stk d k
    · exact hgX_6 hx hb hown hts hK st pc lv stk d k
    · exact hgX_8 hx hb hown hts hK st pc lv stk d k
    · exact hgX_3 hx hb hown hts hK st pc lv stk d k
  · intro st pc lv stk j i hj d hi k
    rcases (show j = 0 ∨ j = 1 ∨ j = 2 ∨ j = 4 ∨ j = 5 ∨ j = 6 ∨ j = 8 by simpa using hj) with rfl | rfl | rfl | rfl | rfl | rfl | rfl
    · exact hlX_0 hx hb hown hts hK st pc lv stk i d hi k
    · exact hlX_1 hx hb hown hts hK st pc lv stk i d hi k
    · exact hlX_2 hx hb hown hts hK st pc lv stk i d hi k
    · exact hlX_4 hx hb hown hts hK st pc lv stk i d hi k
    · exact hlX_5 hx hb hown hts hK st pc lv stk i d hi k
    · exact hlX_6 hx hb hown hts hK st pc lv stk i d hi k
    · exact hlX_8 hx hb hown hts hK st pc lv stk i d hi k
  · intro st pc lv stk j i hj d hi k
    obtain rfl : j = 3 := by simpa using hj
    exact hlX_3 hx hb hown hts hK st pc lv stk i d hi k
  · intro st pc lv stk j i v hj d hi k
    rcases (show j = 0 ∨ j = 1 ∨ j = 2 ∨ j = 4 ∨ j = 5 ∨ j = 6 ∨ j = 8 by simpa using hj) with rfl | rfl | rfl | rfl | rfl | rfl | rfl
    · exact hsX_0 hx hb hown hts hK st pc lv stk i v d hi k
    · exact hsX_1 hx hb hown hts hK st pc lv stk i v d hi k
    · exact hsX_2 hx hb hown hts hK st pc lv stk i v d hi k
    · exact hsX_4 hx hb hown hts hK st pc lv stk i v d hi k
    · exact hsX_5 hx hb hown hts hK st pc lv stk i v d hi k
    · exact hsX_6 hx hb hown hts hK st pc lv stk i v d hi k
    · exact hsX_8 hx hb hown hts hK st pc lv stk i v d hi k
  · intro st pc lv stk j i v hj d hi hv k
    obtain rfl : j = 3 := by simpa using hj
    exact hsX_3 hx hb hown hts hK st pc lv stk i v d hi hv k
theorem callX_i (hx : p.tables.exec = Jvm.exec) (hb : c.code = b) (hown : s.vm.findClass R_X = some m.cls) (hts : ∀ w ∈ wT, w.before args s = true) (hK : va_K D classes (tysX w) s) (hml : c.maxLocals = nL) (hA : ∀ q, H0.size ≤ q → A q) (hR : cells ≤ R.cells ∧ slots ≤ R.slots) (st : zM) (pc : Nat) (lv : zL) (stk : List Value) (idx : Nat) (y : MethodName) (b1 : ByteArray) (mL : Nat) (rt : FieldType) (n k : Nat) (As : List Value) (post : Int → zM → Prop) (hk : Lk R_X R_X idx y b1 mL (some rt) n) (hn : As.length = n) (hr : k + 1 ≤ R.frames ∧ 8 + (mL + 11) + 40 * k ≤ R.locals) (hc : CI l D (tysX w) (wX w) y b1 mL rt k (.ref (w.1 0) :: As) st post) (d : decode b pc = .ok (.invokevirtual idx, 3)) (hs : (stk.map fun v => v.category).sum ≤ 8) (kk : ∀ z u, post z u → GW p l e R s m args below meth c cells slots Q D A H0 nL (wX w) u (pc + 3) lv (.int (zI z) :: stk)) : GW p l e R s m args below meth c cells slots Q D A H0 nL (wX w) st pc lv (As.reverse ++ .ref (w.1 0) :: stk) := fun H locs ls hP hD hS hl => by
  have hF := zfree hD hS hA
  refine va_calli (va_runV (As := As) (rest := stk) ⟨hx, hb, hml, hown, hts⟩ (hc H.size) (cwV n hts (zgood (fun _ h => h) hk) rfl rfl rfl hk.2.2.2.2.2 hr) ⟨fun a U g mk q => by obtain ⟨q0, q1, qP, qK, qD⟩ := q; exact ⟨q0, q1, qP, va_K.moved (u := U) (U := U.calling g mk a) (Vm.Alike.refl U.vm) qK, qD⟩, va_recv hK hP (ci := 0) (q0 := 0) rfl rfl, fun U hU hW => ⟨rfl, by rw [hU], by rw [hU]; exact hP, va_K.moved hW.alike hK, hD.weaken (fun _ _ _ _ => trivial)⟩⟩ rfl hn hl.1 rfl (lv_room hs) d hR) hS (fun q _ h => hF q h) hF (fun r u t H1 locs1 ht hvm hw hB hz1 hk1 hS1 => ?_)
  obtain ⟨hP1, hK1, hD1⟩ := hB
  rw [ht] at hP1
  obtain ⟨z, hr9, hp⟩ := hw
  subst hr9
  exact kk z u hp H1 locs1 ls hP1 (hD1.weaken (fun _ q _ h => hF q.1 h)) hS1 hl
theorem callX_v (hx : p.tables.exec = Jvm.exec) (hb : c.code = b) (hown : s.vm.findClass R_X = some m.cls) (hts : ∀ w ∈ wT, w.before args s = true) (hK : va_K D classes (tysX w) s) (hml : c.maxLocals = nL) (hA : ∀ q, H0.size ≤ q → A q) (hR : cells ≤ R.cells ∧ slots ≤ R.slots) (st : zM) (pc : Nat) (lv : zL) (stk : List Value) (idx : Nat) (y : MethodName) (b1 : ByteArray) (mL : Nat) (n k : Nat) (As : List Value) (post : zM → Prop) (hk : Lk R_X R_X idx y b1 mL none n) (hn : As.length = n) (hr : k + 1 ≤ R.frames ∧ 8 + (mL + 11) + 40 * k ≤ R.locals) (hc : CV l D (tysX w) (wX w) y b1 mL k (.ref (w.1 0) :: As) st post) (d : decode b pc = .ok (.invokevirtual idx, 3)) (hs : (stk.map fun v => v.category).sum ≤ 8) (kk : ∀ u, post u → GW p l e R s m args below meth c cells slots Q D A H0 nL (wX w) u (pc + 3) lv (stk)) : GW p l e R s m args below meth c cells slots Q D A H0 nL (wX w) st pc lv (As.reverse ++ .ref (w.1 0) :: stk) := fun H locs ls hP hD hS hl => by
  have hF := zfree hD hS hA
  refine va_callv (va_runV (As := As) (rest := stk) ⟨hx, hb, hml, hown, hts⟩ (hc H.size) (cwV n hts (zgood (fun _ h => h) hk) rfl rfl rfl hk.2.2.2.2.2 hr) ⟨fun a U g mk q => by obtain ⟨q0, q1, qP, qK, qD⟩ := q; exact ⟨q0, q1, qP, va_K.moved (u := U) (U := U.calling g mk a) (Vm.Alike.refl U.vm) qK, qD⟩, va_recv hK hP (ci := 0) (q0 := 0) rfl rfl, fun U hU hW => ⟨rfl, by rw [hU], by rw [hU]; exact hP, va_K.moved hW.alike hK, hD.weaken (fun _ _ _ _ => trivial)⟩⟩ rfl hn hl.1 rfl (lv_room hs) d hR) hS (fun q _ h => hF q h) hF (fun u t H1 locs1 ht hvm hw hB hz1 hk1 hS1 => ?_)
  obtain ⟨hP1, hK1, hD1⟩ := hB
  rw [ht] at hP1
  exact kk u hw H1 locs1 ls hP1 (hD1.weaken (fun _ q _ h => hF q.1 h)) hS1 hl
theorem RC_X (hx : p.tables.exec = Jvm.exec) (hb : c.code = b) (hown : s.vm.findClass R_X = some m.cls) (hts : ∀ w ∈ wT, w.before args s = true) (hK : va_K D classes (tysX w) s) (hml : c.maxLocals = nL) (hA : ∀ q, H0.size ≤ q → A q) (hR : cells ≤ R.cells ∧ slots ≤ R.slots) : RC l D (tysX w) (wX w) R_X R b (GW p l e R s m args below meth c cells slots Q D A H0 nL (wX w)) (w.1 0) :=
  ⟨fun st pc lv stk idx y b1 mL rt n k As post hk hn hr hc d hs kk => callX_i hx hb hown hts hK hml hA hR st pc lv stk idx y b1 mL rt n k As post hk hn hr hc d hs kk, fun st pc lv stk idx y b1 mL n k As post hk hn hr hc d hs kk => callX_v hx hb hown hts hK hml hA hR st pc lv stk idx y b1 mL n k As post hk hn hr hc d hs kk⟩
end HWX
theorem conX_i {l : Launch} {D : va_G} {w : zW} {y : MethodName} {b : ByteArray} {mL : Nat} {rt : FieldType} {k : Nat} {av : List Value} {st : zM} {post : Int → zM → Prop} (lv0 : zL) (hy : y.cls = R_X) (hlen : (lg_sl av).length ≤ mL) (hlv : lv_args 0 av = lv0)
    (walk : ∀ G : zG zM, RB b mL G → RH b G (w.1 0) (adX w) fxX nxX intsX boolsX → RC l D (tysX w) (wX w) R_X (rmK k) b G (w.1 0) → RK b G (w.1 0) → (∀ (u : zM) (pc : Nat) (lv : zL) (z : Int), decode b pc = .ok (.ireturn, 1) → narrow rt (.int (zI z)) = .int (zI z) → post z u → G u pc lv [.int (zI z)]) → G st 0 lv0 []) : CI l D (tysX w) (wX w) y b mL rt k av st post := by
  intro sz
  refine Met.ofW (cc := b) (maxL := mL) (ret := (some rt)) (by rw [hy]; decide) rfl ?_
  intro p e s m args below meth c s₁ B hml hv
  obtain ⟨hav, hsz, hP0, hK, hD0⟩ := hv
  subst hav
  have hx := B.exec
  have hb := B.bytes
  have hr := B.returns
  have hts1 := atoms_spec (ws := Cond.code y b mL (some rt) :: wT) B.pre
  have hts : ∀ w ∈ wT, w.before av.toArray s = true := fun w h => hts1 w (List.mem_cons_of_mem _ h)
  have hown : s.vm.findClass R_X = some m.cls := by rw [← hy]; exact findClass_of_methodNamed B.named
  have hlocks := B.notSynchronized
  subst hsz
  have hD1 := hD0.self (sz := s.heap.size)
  have hA : ∀ q : Nat, s.heap.size ≤ q → va_A (wX w st) s.heap.size q := fun q h => Or.inr h
  have hl0 := lv_entry av (n := mL) hlen
  rw [hlv] at hl0
  rw [lg_entry_eq]
  exact walk (GW p l e (rmK k) s m av.toArray below meth c 0 0 (MQ below (va_Qi (fun (r : Int32) (u : zM) => ∃ z : Int, r = zI z ∧ post z u) (zBU D (tysX w) (wX w) (va_A (wX w st) s.heap.size)) (va_A (wX w st) s.heap.size)) av.toArray s 0 0 (va_A (wX w st) s.heap.size)) D (va_A (wX w st) s.heap.size) s.heap mL (wX w)) (RB_GW hx hb) (RH_X hx hb hown hts hK) (RC_X hx hb hown hts hK hml hA ⟨Nat.zero_le _, Nat.zero_le _⟩) (RK_X hx hb hown hts hK) (fun u pc lv z d hz hp H locs ls hP hD hS hl => W.zret hx hb hr hz (fun t ht hW => ⟨⟨zI z, u, rfl, ⟨z, rfl, hp⟩, by rw [ht]; exact hP, va_K.moved hW.alike hK, hD⟩, hS.F ht⟩) hS.2.2 d) s.heap [] _ hP0 hD1 va_S.rf hl0
theorem conX_v {l : Launch} {D : va_G} {w : zW} {y : MethodName} {b : ByteArray} {mL : Nat} {k : Nat} {av : List Value} {st : zM} {post : zM → Prop} (lv0 : zL) (hy : y.cls = R_X) (hlen : (lg_sl av).length ≤ mL) (hlv : lv_args 0 av = lv0)
    (walk : ∀ G : zG zM, RB b mL G → RH b G (w.1 0) (adX w) fxX nxX intsX boolsX → RC l D (tysX w) (wX w) R_X (rmK k) b G (w.1 0) → RK b G (w.1 0) → (∀ (u : zM) (pc : Nat) (lv : zL), decode b pc = .ok (.return_, 1) → post u → G u pc lv []) → G st 0 lv0 []) : CV l D (tysX w) (wX w) y b mL k av st post := by
  intro sz
  refine Met.ofW (cc := b) (maxL := mL) (ret := none) (by rw [hy]; decide) rfl ?_
  intro p e s m args below meth c s₁ B hml hv
  obtain ⟨hav, hsz, hP0, hK, hD0⟩ := hv
  subst hav
  have hx := B.exec
  have hb := B.bytes
  have hr := B.returns
  have hts1 := atoms_spec (ws := Cond.code y b mL none :: wT) B.pre
  have hts : ∀ w ∈ wT, w.before av.toArray s = true := fun w h => hts1 w (List.mem_cons_of_mem _ h)
  have hown : s.vm.findClass R_X = some m.cls := by rw [← hy]; exact findClass_of_methodNamed B.named
  have hlocks := B.notSynchronized
  subst hsz
  have hD1 := hD0.self (sz := s.heap.size)
  have hA : ∀ q : Nat, s.heap.size ≤ q → va_A (wX w st) s.heap.size q := fun q h => Or.inr h
  have hl0 := lv_entry av (n := mL) hlen
  rw [hlv] at hl0
  rw [lg_entry_eq]
  exact walk (GW p l e (rmK k) s m av.toArray below meth c 0 0 (MQ below (va_Qv (fun (u : zM) => post u) (zBU D (tysX w) (wX w) (va_A (wX w st) s.heap.size)) (va_A (wX w st) s.heap.size)) av.toArray s 0 0 (va_A (wX w st) s.heap.size)) D (va_A (wX w st) s.heap.size) s.heap mL (wX w)) (RB_GW hx hb) (RH_X hx hb hown hts hK) (RC_X hx hb hown hts hK hml hA ⟨Nat.zero_le _, Nat.zero_le _⟩) (RK_X hx hb hown hts hK) (fun u pc lv d hp H locs ls hP hD hS hl => W.vret hx hb hr (fun t ht hW => ⟨⟨u, rfl, hp, by rw [ht]; exact hP, va_K.moved hW.alike hK, hD⟩, hS.F ht⟩) hS.2.2 d) s.heap [] _ hP0 hD1 va_S.rf hl0
def wM (w : zW) (st : zM) : va_W := [(w.1 0, .inr (1, [.ref (w.1 1), .ref (w.1 2), .ref (w.1 3)])), (w.1 1, .inl (w.2 1, 32, .inl (fun q : Nat => zI (st 0 (q : Int))))), (w.1 2, .inl (w.2 2, 128, .inl (fun q : Nat => zI (st 1 (q : Int))))), (w.1 3, .inl (w.2 3, 16, .inl (fun q : Nat => zI (st 2 (q : Int)))))]
def tysM (w : zW) : List (ClassId × FieldType) := [(w.2 1, .int), (w.2 2, .int), (w.2 3, .boolean)]
def adM (w : zW) : Nat → Nat := fun j => w.1 (j + 1)
def fxM : Nat → Nat := fun j => match j with
  | 0 => 7
  | 1 => 13
  | _ => 16
def nxM : Nat → Int := fun j => match j with
  | 0 => 32
  | 1 => 128
  | _ => 16
abbrev intsM : List Nat := [0, 1]
abbrev boolsM : List Nat := [2]
theorem stM_0 {w : zW} {st : zM} {i v : Int} (h : 0 ≤ i) : wM w (up st 0 i v) = (wM w st).set 1 (w.1 1, .inl (w.2 1, 32, .inl (upd (fun q : Nat => zI (st 0 (q : Int))) i.toNat (zI v)))) := by
  rw [← up_arr h]
  rfl
theorem stM_1 {w : zW} {st : zM} {i v : Int} (h : 0 ≤ i) : wM w (up st 1 i v) = (wM w st).set 2 (w.1 2, .inl (w.2 2, 128, .inl (upd (fun q : Nat => zI (st 1 (q : Int))) i.toNat (zI v)))) := by
  rw [← up_arr h]
  rfl
theorem stM_2 {w : zW} {st : zM} {i v : Int} (h : 0 ≤ i) : wM w (up st 2 i v) = (wM w st).set 3 (w.1 3, .inl (w.2 3, 16, .inl (upd (fun q : Nat => zI (st 2 (q : Int))) i.toNat (zI v)))) := by
  rw [← up_arr h]
  rfl
section HWM
variable {p : Program} {l : Launch} {e : Env} {R : Room} {s : State} {m : MethodId} {args : Array Value} {below : List Frame} {meth : Method} {c : Code} {cells slots : Nat} {Q : State → Prop} {D : va_G} {A : Nat → Prop} {H0 : Heap} {nL : Nat} {b : ByteArray} {w : zW}
theorem hgM_0 (hx : p.tables.exec = Jvm.exec) (hb : c.code = b) (hown : s.vm.findClass R_M = some m.cls) (hts : ∀ w ∈ wT, w.before args s = true) (hK : va_K D classes (tysM w) s) (st : zM) (pc : Nat) (lv : zL) (stk : List Value) (d : decode b pc = .ok (.getfield 7, 3)) (k : GW p l e R s m args below meth c cells slots Q D A H0 nL (wM w) st (pc + 3) lv (.ref (w.1 1) :: stk)) : GW p l e R s m args below meth c cells slots Q D A H0 nL (wM w) st pc lv (.ref (w.1 0) :: stk) := fun H locs ls hP hD hS hl => va_get (D := D) (ci := 1) (v := .ref (w.1 1)) (C := R_M) (T := F_M) (N := 3) hx hb hts i_M hown hK hP 0 rfl rfl 0 (by decide) (hts _ m_fMstate) (fun _ h9 => h9) rfl d (k H locs ls hP hD hS hl)
theorem hlM_0 (hx : p.tables.exec = Jvm.exec) (hb : c.code = b) (hown : s.vm.findClass R_M = some m.cls) (hts : ∀ w ∈ wT, w.before args s = true) (hK : va_K D classes (tysM w) s) (st : zM) (pc : Nat) (lv : zL) (stk : List Value) (i : Int) (d : decode b pc = .ok (.iaload, 1)) (hi : 0 ≤ i ∧ i < 32) (k : GW p l e R s m args below meth c cells slots Q D A H0 nL (wM w) st (pc + 1) lv (.int (zI (st 0 i)) :: stk)) : GW p l e R s m args below meth c cells slots Q D A H0 nL (wM w) st pc lv (.int (zI i) :: .ref (w.1 1) :: stk) := fun H locs ls hP hD hS hl => by
  refine va_iald hx hb hK hP 1 0 rfl rfl (zI_in hi.1 hi.2 (by decide)) d ?_
  rw [zI_clamp hi.1 (by omega), Int.toNat_of_nonneg hi.1]
  exact k H locs ls hP hD hS hl
theorem hsM_0 (hx : p.tables.exec = Jvm.exec) (hb : c.code = b) (hown : s.vm.findClass R_M = some m.cls) (hts : ∀ w ∈ wT, w.before args s = true) (hK : va_K D classes (tysM w) s) (st : zM) (pc : Nat) (lv : zL) (stk : List Value) (i v : Int) (d : decode b pc = .ok (.iastore, 1)) (hi : 0 ≤ i ∧ i < 32) (k : GW p l e R s m args below meth c cells slots Q D A H0 nL (wM w) (up st 0 i v) (pc + 1) lv stk) : GW p l e R s m args below meth c cells slots Q D A H0 nL (wM w) st pc lv (.int (zI v) :: .int (zI i) :: .ref (w.1 1) :: stk) := fun H locs ls hP hD hS hl => by
  refine va_iast hx hb hK hP hD hS 1 0 rfl rfl (zI_in hi.1 hi.2 (by decide)) d (fun H1 locs1 hP1 hD1 hS1 => ?_)
  rw [zI_clamp hi.1 (by omega)] at hP1 hD1
  exact k H1 locs1 ls (by rw [stM_0 hi.1]; exact hP1) (by rw [stM_0 hi.1]; exact hD1) hS1 hl
theorem hgM_1 (hx : p.tables.exec = Jvm.exec) (hb : c.code = b) (hown : s.vm.findClass R_M = some m.cls) (hts : ∀ w ∈ wT, w.before args s = true) (hK : va_K D classes (tysM w) s) (st : zM) (pc : Nat) (lv : zL) (stk : List Value) (d : decode b pc = .ok (.getfield 13, 3)) (k : GW p l e R s m args below meth c cells slots Q D A H0 nL (wM w) st (pc + 3) lv (.ref (w.1 2) :: stk)) : GW p l e R s m args below meth c cells slots Q D A H0 nL (wM w) st pc lv (.ref (w.1 0) :: stk) := fun H locs ls hP hD hS hl => va_get (D := D) (ci := 1) (v := .ref (w.1 2)) (C := R_M) (T := F_M) (N := 3) hx hb hts i_M hown hK hP 0 rfl rfl 1 (by decide) (hts _ m_fMwords) (fun _ h9 => h9) rfl d (k H locs ls hP hD hS hl)
theorem hlM_1 (hx : p.tables.exec = Jvm.exec) (hb : c.code = b) (hown : s.vm.findClass R_M = some m.cls) (hts : ∀ w ∈ wT, w.before args s = true) (hK : va_K D classes (tysM w) s) (st : zM) (pc : Nat) (lv : zL) (stk : List Value) (i : Int) (d : decode b pc = .ok (.iaload, 1)) (hi : 0 ≤ i ∧ i < 128) (k : GW p l e R s m args below meth c cells slots Q D A H0 nL (wM w) st (pc + 1) lv (.int (zI (st 1 i)) :: stk)) : GW p l e R s m args below meth c cells slots Q D A H0 nL (wM w) st pc lv (.int (zI i) :: .ref (w.1 2) :: stk) := fun H locs ls hP hD hS hl => by
  refine va_iald hx hb hK hP 2 1 rfl rfl (zI_in hi.1 hi.2 (by decide)) d ?_
  rw [zI_clamp hi.1 (by omega), Int.toNat_of_nonneg hi.1]
  exact k H locs ls hP hD hS hl
theorem hsM_1 (hx : p.tables.exec = Jvm.exec) (hb : c.code = b) (hown : s.vm.findClass R_M = some m.cls) (hts : ∀ w ∈ wT, w.before args s = true) (hK : va_K D classes (tysM w) s) (st : zM) (pc : Nat) (lv : zL) (stk : List Value) (i v : Int) (d : decode b pc = .ok (.iastore, 1)) (hi : 0 ≤ i ∧ i < 128) (k : GW p l e R s m args below meth c cells slots Q D A H0 nL (wM w) (up st 1 i v) (pc + 1) lv stk) : GW p l e R s m args below meth c cells slots Q D A H0 nL (wM w) st pc lv (.int (zI v) :: .int (zI i) :: .ref (w.1 2) :: stk) := fun H locs ls hP hD hS hl => by
  refine va_iast hx hb hK hP hD hS 2 1 rfl rfl (zI_in hi.1 hi.2 (by decide)) d (fun H1 locs1 hP1 hD1 hS1 => ?_)
  rw [zI_clamp hi.1 (by omega)] at hP1 hD1
  exact k H1 locs1 ls (by rw [stM_1 hi.1]; exact hP1) (by rw [stM_1 hi.1]; exact hD1) hS1 hl
theorem hgM_2 (hx : p.tables.exec = Jvm.exec) (hb : c.code = b) (hown : s.vm.findClass R_M = some m.cls) (hts : ∀ w ∈ wT, w.before args s = true) (hK : va_K D classes (tysM w) s) (st : zM) (pc : Nat) (lv : zL) (stk : List Value) (d : decode b pc = .ok (.getfield 16, 3)) (k : GW p l e R s m args below meth c cells slots Q D A H0 nL (wM w) st (pc + 3) lv (.ref (w.1 3) :: stk)) : GW p l e R s m args below meth c cells slots Q D A H0 nL (wM w) st pc lv (.ref (w.1 0) :: stk) := fun H locs ls hP hD hS hl => va_get (D := D) (ci := 1) (v := .ref (w.1 3)) (C := R_M) (T := F_M) (N := 3) hx hb hts i_M hown hK hP 0 rfl rfl 2 (by decide) (hts _ m_fMcommon) (fun _ h9 => h9) rfl d (k H locs ls hP hD hS hl)
theorem hlM_2 (hx : p.tables.exec = Jvm.exec) (hb : c.code = b) (hown : s.vm.findClass R_M = some m.cls) (hts : ∀ w ∈ wT, w.before args s = true) (hK : va_K D classes (tysM w) s) (st : zM) (pc : Nat) (lv : zL) (stk : List Value) (i : Int) (d : decode b pc = .ok (.baload, 1)) (hi : 0 ≤ i ∧ i < 16) (k : GW p l e R s m args below meth c cells slots Q D A H0 nL (wM w) st (pc + 1) lv (.int (zI (st 2 i)) :: stk)) : GW p l e R s m args below meth c cells slots Q D A H0 nL (wM w) st pc lv (.int (zI i) :: .ref (w.1 3) :: stk) := fun H locs ls hP hD hS hl => by
  refine va_zald hx hb hK hP 3 2 rfl rfl (zI_in hi.1 hi.2 (by decide)) d ?_
  rw [zI_clamp hi.1 (by omega), Int.toNat_of_nonneg hi.1]
  exact k H locs ls hP hD hS hl
theorem hsM_2 (hx : p.tables.exec = Jvm.exec) (hb : c.code = b) (hown : s.vm.findClass R_M = some m.cls) (hts : ∀ w ∈ wT, w.before args s = true) (hK : va_K D classes (tysM w) s) (st : zM) (pc : Nat) (lv : zL) (stk : List Value) (i v : Int) (d : decode b pc = .ok (.bastore, 1)) (hi : 0 ≤ i ∧ i < 16) (hv : 0 ≤ v ∧ v ≤ 1) (k : GW p l e R s m args below meth c cells slots Q D A H0 nL (wM w) (up st 2 i v) (pc + 1) lv stk) : GW p l e R s m args below meth c cells slots Q D A H0 nL (wM w) st pc lv (.int (zI v) :: .int (zI i) :: .ref (w.1 3) :: stk) := fun H locs ls hP hD hS hl => by
  refine va_zast hx hb hK hP hD hS 3 2 rfl rfl (zI_in hi.1 hi.2 (by decide)) d (fun H1 locs1 hP1 hD1 hS1 => ?_)
  rw [zI_clamp hi.1 (by omega), zI_vnar hv] at hP1 hD1
  exact k H1 locs1 ls (by rw [stM_2 hi.1]; exact hP1) (by rw [stM_2 hi.1]; exact hD1) hS1 hl
theorem RH_M (hx : p.tables.exec = Jvm.exec) (hb : c.code = b) (hown : s.vm.findClass R_M = some m.cls) (hts : ∀ w ∈ wT, w.before args s = true) (hK : va_K D classes (tysM w) s) : RH b (GW p l e R s m args below meth c cells slots Q D A H0 nL (wM w)) (w.1 0) (adM w) fxM nxM intsM boolsM := by
  refine ⟨?_, ?_, ?_, ?_, ?_⟩
  · intro st pc lv stk j hj d k
    rcases (show j = 0 ∨ j = 1 ∨ j = 2 by simpa using hj) with rfl | rfl | rfl
    · exact hgM_0 hx hb hown hts hK st pc lv stk d k
    · exact hgM_1 hx hb hown hts hK st pc lv stk d k
    · exact hgM_2 hx hb hown hts hK st pc lv stk d k
  · intro st pc lv stk j i hj d hi k
    rcases (show j = 0 ∨ j = 1 by simpa using hj) with rfl | rfl
    · exact hlM_0 hx hb hown hts hK st pc lv stk i d hi k
    · exact hlM_1 hx hb hown hts hK st pc lv stk i d hi k
  · intro st pc lv stk j i hj d hi k
    obtain rfl : j = 2 := by simpa using hj
    exact hlM_2 hx hb hown hts hK st pc lv stk i d hi k
  · intro st pc lv stk j i v hj d hi k
    rcases (show j = 0 ∨ j = 1 by simpa using hj) with rfl | rfl
    · exact hsM_0 hx hb hown hts hK st pc lv stk i v d hi k
    · exact hsM_1 hx hb hown hts hK st pc lv stk i v d hi k
  · intro st pc lv stk j i v hj d hi hv k
    obtain rfl : j = 2 := by simpa using hj
    exact hsM_2 hx hb hown hts hK st pc lv stk i v d hi hv k
theorem callM_i (hx : p.tables.exec = Jvm.exec) (hb : c.code = b) (hown : s.vm.findClass R_M = some m.cls) (hts : ∀ w ∈ wT, w.before args s = true) (hK : va_K D classes (tysM w) s) (hml : c.maxLocals = nL) (hA : ∀ q, H0.size ≤ q → A q) (hR : cells ≤ R.cells ∧ slots ≤ R.slots) (st : zM) (pc : Nat) (lv : zL) (stk : List Value) (idx : Nat) (y : MethodName) (b1 : ByteArray) (mL : Nat) (rt : FieldType) (n k : Nat) (As : List Value) (post : Int → zM → Prop) (hk : Lk R_M R_M idx y b1 mL (some rt) n) (hn : As.length = n) (hr : k + 1 ≤ R.frames ∧ 8 + (mL + 11) + 40 * k ≤ R.locals) (hc : CI l D (tysM w) (wM w) y b1 mL rt k (.ref (w.1 0) :: As) st post) (d : decode b pc = .ok (.invokevirtual idx, 3)) (hs : (stk.map fun v => v.category).sum ≤ 8) (kk : ∀ z u, post z u → GW p l e R s m args below meth c cells slots Q D A H0 nL (wM w) u (pc + 3) lv (.int (zI z) :: stk)) : GW p l e R s m args below meth c cells slots Q D A H0 nL (wM w) st pc lv (As.reverse ++ .ref (w.1 0) :: stk) := fun H locs ls hP hD hS hl => by
  have hF := zfree hD hS hA
  refine va_calli (va_runV (As := As) (rest := stk) ⟨hx, hb, hml, hown, hts⟩ (hc H.size) (cwV n hts (zgood (fun _ h => h) hk) rfl rfl rfl hk.2.2.2.2.2 hr) ⟨fun a U g mk q => by obtain ⟨q0, q1, qP, qK, qD⟩ := q; exact ⟨q0, q1, qP, va_K.moved (u := U) (U := U.calling g mk a) (Vm.Alike.refl U.vm) qK, qD⟩, va_recv hK hP (ci := 1) (q0 := 0) rfl rfl, fun U hU hW => ⟨rfl, by rw [hU], by rw [hU]; exact hP, va_K.moved hW.alike hK, hD.weaken (fun _ _ _ _ => trivial)⟩⟩ rfl hn hl.1 rfl (lv_room hs) d hR) hS (fun q _ h => hF q h) hF (fun r u t H1 locs1 ht hvm hw hB hz1 hk1 hS1 => ?_)
  obtain ⟨hP1, hK1, hD1⟩ := hB
  rw [ht] at hP1
  obtain ⟨z, hr9, hp⟩ := hw
  subst hr9
  exact kk z u hp H1 locs1 ls hP1 (hD1.weaken (fun _ q _ h => hF q.1 h)) hS1 hl
theorem callM_v (hx : p.tables.exec = Jvm.exec) (hb : c.code = b) (hown : s.vm.findClass R_M = some m.cls) (hts : ∀ w ∈ wT, w.before args s = true) (hK : va_K D classes (tysM w) s) (hml : c.maxLocals = nL) (hA : ∀ q, H0.size ≤ q → A q) (hR : cells ≤ R.cells ∧ slots ≤ R.slots) (st : zM) (pc : Nat) (lv : zL) (stk : List Value) (idx : Nat) (y : MethodName) (b1 : ByteArray) (mL : Nat) (n k : Nat) (As : List Value) (post : zM → Prop) (hk : Lk R_M R_M idx y b1 mL none n) (hn : As.length = n) (hr : k + 1 ≤ R.frames ∧ 8 + (mL + 11) + 40 * k ≤ R.locals) (hc : CV l D (tysM w) (wM w) y b1 mL k (.ref (w.1 0) :: As) st post) (d : decode b pc = .ok (.invokevirtual idx, 3)) (hs : (stk.map fun v => v.category).sum ≤ 8) (kk : ∀ u, post u → GW p l e R s m args below meth c cells slots Q D A H0 nL (wM w) u (pc + 3) lv (stk)) : GW p l e R s m args below meth c cells slots Q D A H0 nL (wM w) st pc lv (As.reverse ++ .ref (w.1 0) :: stk) := fun H locs ls hP hD hS hl => by
  have hF := zfree hD hS hA
  refine va_callv (va_runV (As := As) (rest := stk) ⟨hx, hb, hml, hown, hts⟩ (hc H.size) (cwV n hts (zgood (fun _ h => h) hk) rfl rfl rfl hk.2.2.2.2.2 hr) ⟨fun a U g mk q => by obtain ⟨q0, q1, qP, qK, qD⟩ := q; exact ⟨q0, q1, qP, va_K.moved (u := U) (U := U.calling g mk a) (Vm.Alike.refl U.vm) qK, qD⟩, va_recv hK hP (ci := 1) (q0 := 0) rfl rfl, fun U hU hW => ⟨rfl, by rw [hU], by rw [hU]; exact hP, va_K.moved hW.alike hK, hD.weaken (fun _ _ _ _ => trivial)⟩⟩ rfl hn hl.1 rfl (lv_room hs) d hR) hS (fun q _ h => hF q h) hF (fun u t H1 locs1 ht hvm hw hB hz1 hk1 hS1 => ?_)
  obtain ⟨hP1, hK1, hD1⟩ := hB
  rw [ht] at hP1
  exact kk u hw H1 locs1 ls hP1 (hD1.weaken (fun _ q _ h => hF q.1 h)) hS1 hl
theorem RC_M (hx : p.tables.exec = Jvm.exec) (hb : c.code = b) (hown : s.vm.findClass R_M = some m.cls) (hts : ∀ w ∈ wT, w.before args s = true) (hK : va_K D classes (tysM w) s) (hml : c.maxLocals = nL) (hA : ∀ q, H0.size ≤ q → A q) (hR : cells ≤ R.cells ∧ slots ≤ R.slots) : RC l D (tysM w) (wM w) R_M R b (GW p l e R s m args below meth c cells slots Q D A H0 nL (wM w)) (w.1 0) :=
  ⟨fun st pc lv stk idx y b1 mL rt n k As post hk hn hr hc d hs kk => callM_i hx hb hown hts hK hml hA hR st pc lv stk idx y b1 mL rt n k As post hk hn hr hc d hs kk, fun st pc lv stk idx y b1 mL n k As post hk hn hr hc d hs kk => callM_v hx hb hown hts hK hml hA hR st pc lv stk idx y b1 mL n k As post hk hn hr hc d hs kk⟩
end HWM
theorem conM_i {l : Launch} {D : va_G} {w : zW} {y : MethodName} {b : ByteArray} {mL : Nat} {rt : FieldType} {k : Nat} {av : List Value} {st : zM} {post : Int → zM → Prop} (lv0 : zL) (hy : y.cls = R_M) (hlen : (lg_sl av).length ≤ mL) (hlv : lv_args 0 av = lv0)
    (walk : ∀ G : zG zM, RB b mL G → RH b G (w.1 0) (adM w) fxM nxM intsM boolsM → RC l D (tysM w) (wM w) R_M (rmK k) b G (w.1 0) → (∀ (u : zM) (pc : Nat) (lv : zL) (z : Int), decode b pc = .ok (.ireturn, 1) → narrow rt (.int (zI z)) = .int (zI z) → post z u → G u pc lv [.int (zI z)]) → G st 0 lv0 []) : CI l D (tysM w) (wM w) y b mL rt k av st post := by
  intro sz
  refine Met.ofW (cc := b) (maxL := mL) (ret := (some rt)) (by rw [hy]; decide) rfl ?_
  intro p e s m args below meth c s₁ B hml hv
  obtain ⟨hav, hsz, hP0, hK, hD0⟩ := hv
  subst hav
  have hx := B.exec
  have hb := B.bytes
  have hr := B.returns
  have hts1 := atoms_spec (ws := Cond.code y b mL (some rt) :: wT) B.pre
  have hts : ∀ w ∈ wT, w.before av.toArray s = true := fun w h => hts1 w (List.mem_cons_of_mem _ h)
  have hown : s.vm.findClass R_M = some m.cls := by rw [← hy]; exact findClass_of_methodNamed B.named
  have hlocks := B.notSynchronized
  subst hsz
  have hD1 := hD0.self (sz := s.heap.size)
  have hA : ∀ q : Nat, s.heap.size ≤ q → va_A (wM w st) s.heap.size q := fun q h => Or.inr h
  have hl0 := lv_entry av (n := mL) hlen
  rw [hlv] at hl0
  rw [lg_entry_eq]
  exact walk (GW p l e (rmK k) s m av.toArray below meth c 0 0 (MQ below (va_Qi (fun (r : Int32) (u : zM) => ∃ z : Int, r = zI z ∧ post z u) (zBU D (tysM w) (wM w) (va_A (wM w st) s.heap.size)) (va_A (wM w st) s.heap.size)) av.toArray s 0 0 (va_A (wM w st) s.heap.size)) D (va_A (wM w st) s.heap.size) s.heap mL (wM w)) (RB_GW hx hb) (RH_M hx hb hown hts hK) (RC_M hx hb hown hts hK hml hA ⟨Nat.zero_le _, Nat.zero_le _⟩) (fun u pc lv z d hz hp H locs ls hP hD hS hl => W.zret hx hb hr hz (fun t ht hW => ⟨⟨zI z, u, rfl, ⟨z, rfl, hp⟩, by rw [ht]; exact hP, va_K.moved hW.alike hK, hD⟩, hS.F ht⟩) hS.2.2 d) s.heap [] _ hP0 hD1 va_S.rf hl0
theorem conM_v {l : Launch} {D : va_G} {w : zW} {y : MethodName} {b : ByteArray} {mL : Nat} {k : Nat} {av : List Value} {st : zM} {post : zM → Prop} (lv0 : zL) (hy : y.cls = R_M) (hlen : (lg_sl av).length ≤ mL) (hlv : lv_args 0 av = lv0)
    (walk : ∀ G : zG zM, RB b mL G → RH b G (w.1 0) (adM w) fxM nxM intsM boolsM → RC l D (tysM w) (wM w) R_M (rmK k) b G (w.1 0) → (∀ (u : zM) (pc : Nat) (lv : zL), decode b pc = .ok (.return_, 1) → post u → G u pc lv []) → G st 0 lv0 []) : CV l D (tysM w) (wM w) y b mL k av st post := by
  intro sz
  refine Met.ofW (cc := b) (maxL := mL) (ret := none) (by rw [hy]; decide) rfl ?_
  intro p e s m args below meth c s₁ B hml hv
  obtain ⟨hav, hsz, hP0, hK, hD0⟩ := hv
  subst hav
  have hx := B.exec
  have hb := B.bytes
  have hr := B.returns
  have hts1 := atoms_spec (ws := Cond.code y b mL none :: wT) B.pre
  have hts : ∀ w ∈ wT, w.before av.toArray s = true := fun w h => hts1 w (List.mem_cons_of_mem _ h)
  have hown : s.vm.findClass R_M = some m.cls := by rw [← hy]; exact findClass_of_methodNamed B.named
  have hlocks := B.notSynchronized
  subst hsz
  have hD1 := hD0.self (sz := s.heap.size)
  have hA : ∀ q : Nat, s.heap.size ≤ q → va_A (wM w st) s.heap.size q := fun q h => Or.inr h
  have hl0 := lv_entry av (n := mL) hlen
  rw [hlv] at hl0
  rw [lg_entry_eq]
  exact walk (GW p l e (rmK k) s m av.toArray below meth c 0 0 (MQ below (va_Qv (fun (u : zM) => post u) (zBU D (tysM w) (wM w) (va_A (wM w st) s.heap.size)) (va_A (wM w st) s.heap.size)) av.toArray s 0 0 (va_A (wM w st) s.heap.size)) D (va_A (wM w st) s.heap.size) s.heap mL (wM w)) (RB_GW hx hb) (RH_M hx hb hown hts hK) (RC_M hx hb hown hts hK hml hA ⟨Nat.zero_le _, Nat.zero_le _⟩) (fun u pc lv d hp H locs ls hP hD hS hl => W.vret hx hb hr (fun t ht hW => ⟨⟨u, rfl, hp, by rw [ht]; exact hP, va_K.moved hW.alike hK, hD⟩, hS.F ht⟩) hS.2.2 d) s.heap [] _ hP0 hD1 va_S.rf hl0
end
section
/-! PLAIN FACTS, no machine: sums, which page lies in which frame, how many use it -/
def smz : Nat → (Int → Int) → Int
  | 0, _ => 0
  | n + 1, g => smz n g + g (n : Int)
theorem smz_s (n : Nat) (g : Int → Int) : smz (n + 1) g = smz n g + g (n : Int) := rfl
theorem smz_c {n : Nat} {g h : Int → Int} (e : ∀ i : Int, 0 ≤ i → i < (n : Int) → g i = h i) : smz n g = smz n h := by
  induction n with
  | zero => rfl
  | succ n ih =>
    rw [smz_s, smz_s, ih (fun i h0 h1 => e i h0 (by omega)), e n (by omega) (by omega)]
theorem smz_add (n : Nat) (g h : Int → Int) : smz n (fun i => g i + h i) = smz n g + smz n h := by
  induction n with
  | zero => rfl
  | succ n ih =>
    rw [smz_s, smz_s, smz_s, ih]
    omega
theorem smz_sub (n : Nat) (g h : Int → Int) : smz n (fun i => g i - h i) = smz n g - smz n h := by
  induction n with
  | zero => rfl
  | succ n ih =>
    rw [smz_s, smz_s, smz_s, ih]
    omega
theorem smz_0 (n : Nat) : smz n (fun _ => 0) = 0 := by
  induction n with
  | zero => rfl
  | succ n ih => rw [smz_s, ih]; rfl
theorem smz_swap (n m : Nat) (g : Int → Int → Int) : smz n (fun i => smz m (fun j => g i j)) = smz m (fun j => smz n (fun i => g i j)) := by
  induction n with
  | zero => exact (smz_0 m).symm
  | succ n ih =>
    rw [smz_s, ih, ← smz_add]
    rfl
theorem smz_one {n : Nat} {g : Int → Int} (k : Int) (h0 : 0 ≤ k) (h1 : k < (n : Int)) (hk : g k = 1) (ho : ∀ i : Int, 0 ≤ i → i < (n : Int) → i ≠ k → g i = 0) : smz n g = 1 := by
  induction n with
  | zero => exact absurd h1 (by omega)
  | succ n ih =>
    rw [smz_s]
    by_cases e : k = (n : Int)
    · have h2 : smz n g = 0 := by
        rw [smz_c (h := fun _ => 0) (fun i a b => ho i a (by omega) (by omega)), smz_0]
      rw [h2, ← e, hk]
      rfl
    · rw [ih (by omega) (fun i a b c => ho i a (by omega) c), ho n (by omega) (by omega) (fun z => e z.symm)]
      rfl
theorem smz_split (n k : Nat) (g : Int → Int) : smz (n + k) g = smz n g + smz k (fun i => g ((n : Int) + i)) := by
  induction k with
  | zero => simp [smz]
  | succ k ih =>
    rw [show n + (k + 1) = (n + k) + 1 from rfl, smz_s, smz_s, ih]
    have : ((n + k : Nat) : Int) = (n : Int) + (k : Int) := by omega
    rw [this]
    omega
theorem smz_le {n : Nat} {g : Int → Int} (hb : ∀ i : Int, 0 ≤ i → i < (n : Int) → 0 ≤ g i ∧ g i ≤ 1) : 0 ≤ smz n g ∧ smz n g ≤ (n : Int) := by
  induction n with
  | zero => exact ⟨Int.le_refl _, Int.le_refl _⟩
  | succ n ih =>
    rw [smz_s]
    have h1 := ih (fun i a b => hb i a (by omega))
    have h2 := hb n (by omega) (by omega)
    omega
theorem smz_free {n : Nat} {g : Int → Int} (hb : ∀ i : Int, 0 ≤ i → i < (n : Int) → 0 ≤ g i ∧ g i ≤ 1) (hs : smz n g ≠ (n : Int)) : ∃ i : Int, 0 ≤ i ∧ i < (n : Int) ∧ g i = 0 := by
  induction n with
  | zero => exact absurd rfl hs
  | succ n ih =>
    rw [smz_s] at hs
    have h2 := hb n (by omega) (by omega)
    by_cases e : g n = 0
    · exact ⟨n, by omega, by omega, e⟩
    · obtain ⟨i, a, b, c⟩ := ih (fun i a b => hb i a (by omega)) (by omega)
      exact ⟨i, a, by omega, c⟩
theorem smz_zero {n : Nat} {g : Int → Int} (hb : ∀ i : Int, 0 ≤ i → i < (n : Int) → 0 ≤ g i) (hs : smz n g = 0) : ∀ i : Int, 0 ≤ i → i < (n : Int) → g i = 0 := by
  induction n with
  | zero => intro i a b; omega
  | succ n ih =>
    rw [smz_s] at hs
    have h2 := hb n (by omega) (by omega)
    have h3 : 0 ≤ smz n g := by
      clear ih hs h2
      induction n with
      | zero => exact Int.le_refl _
      | succ n ih2 =>
        rw [smz_s]
        have a := ih2 (fun i a b => hb i a (by omega))
        have b := hb n (by omega) (by omega)
        omega
    intro i a b
    by_cases e : i = (n : Int)
    · rw [e]; omega
    · exact ih (fun i a b => hb i a (by omega)) (by omega) i a (by omega)
/-- the frame of a page: by its range's large entry, or by its own -/
def FF (L B : Int → Int) (q : Int) : Int := if 0 ≤ L (q / 4) then L (q / 4) * 4 + q % 4 else B q
def fr (st : zM) (q : Int) : Int := FF (st 4) (st 2) q
def oth (q : Int) : Int := if q < 16 then q + 16 else q - 16
theorem oth_in {q : Int} (h0 : 0 ≤ q) (h1 : q < 32) : 0 ≤ oth q ∧ oth q < 32 ∧ oth (oth q) = q ∧ oth q ≠ q := by
  unfold oth
  split <;> split <;> omega
theorem oth_lo {v : Int} (h : v < 16) : oth v = 16 + v := by
  unfold oth
  rw [if_pos h]
  omega
theorem oth_hi {v : Int} (h : 0 ≤ v) : oth (16 + v) = v := by
  unfold oth
  rw [if_neg (by omega)]
  omega
/-- frames and how many pages use them agree -/
def Cr (F U : Int → Int) : Prop :=
  (∀ q : Int, 0 ≤ q → q < 32 → -1 ≤ F q ∧ F q < 16) ∧
  (∀ q r : Int, 0 ≤ q → q < 32 → 0 ≤ r → r < 32 → 0 ≤ F q → F q = F r → r = q ∨ r = oth q) ∧
  (∀ q : Int, 0 ≤ q → q < 32 → 0 ≤ F q → U (F q) = if F (oth q) = F q then 2 else 1) ∧
  (∀ f : Int, 0 ≤ f → f < 16 → U f ≠ 0 → ∃ q : Int, 0 ≤ q ∧ q < 32 ∧ F q = f)
/-- a page comes into a free frame -/
theorem Cr_add {F U F' U' : Int → Int} {q f : Int} (h : Cr F U) (hq : 0 ≤ q ∧ q < 32) (hF : F q < 0) (hf : 0 ≤ f ∧ f < 16) (hU : U f = 0)
    (eF : ∀ r : Int, 0 ≤ r → r < 32 → F' r = if r = q then f else F r) (eU : ∀ g : Int, 0 ≤ g → g < 16 → U' g = if g = f then 1 else U g) : Cr F' U' := by
  obtain ⟨c1, c2, c3, c4⟩ := h
  have nf : ∀ r : Int, 0 ≤ r → r < 32 → F r ≠ f := by
    intro r h0 h1 e
    have h2 := c3 r h0 h1 (by omega)
    rw [e, hU] at h2
    split at h2 <;> omega
  have eq1 : F' q = f := by rw [eF q hq.1 hq.2, if_pos rfl]
  have en : ∀ r : Int, 0 ≤ r → r < 32 → r ≠ q → F' r = F r := fun r h0 h1 hn => by rw [eF r h0 h1, if_neg hn]
  refine ⟨?_, ?_, ?_, ?_⟩
  · intro r h0 h1
    by_cases e : r = q
    · rw [e, eq1]; omega
    · rw [en r h0 h1 e]; exact c1 r h0 h1
  · intro r t h0 h1 g0 g1 hp he
    by_cases e : r = q
    · by_cases e2 : t = q
      · left; omega
      · exfalso
        rw [e, eq1, en t g0 g1 e2] at he
        exact nf t g0 g1 he.symm
    · rw [en r h0 h1 e] at hp he
      by_cases e2 : t = q
      · exfalso
        rw [e2, eq1] at he
        exact nf r h0 h1 he
      · rw [en t g0 g1 e2] at he
        exact c2 r t h0 h1 g0 g1 hp he
  · intro r h0 h1 hp
    obtain ⟨o0, o1, -, o3⟩ := oth_in h0 h1
    by_cases e : r = q
    · rw [e] at o0 o1 o3 ⊢
      rw [eq1, eU f hf.1 hf.2, if_pos rfl, en (oth q) o0 o1 o3, if_neg (nf _ o0 o1)]
    · rw [en r h0 h1 e] at hp ⊢
      have b := c1 r h0 h1
      rw [eU (F r) (by omega) (by omega), if_neg (nf r h0 h1), c3 r h0 h1 hp]
      by_cases e2 : oth r = q
      · rw [e2, eq1, if_neg (by omega), if_neg (fun z => nf r h0 h1 z.symm)]
      · rw [en (oth r) o0 o1 e2]
  · intro g g0 g1 hu
    by_cases e : g = f
    · exact ⟨q, hq.1, hq.2, by rw [eq1, e]⟩
    · rw [eU g g0 g1, if_neg e] at hu
      obtain ⟨r, r0, r1, r2⟩ := c4 g g0 g1 hu
      have hn : r ≠ q := fun z => by rw [z] at r2; omega
      exact ⟨r, r0, r1, by rw [en r r0 r1 hn]; exact r2⟩
/-- a page leaves its frame -/
theorem Cr_rem {F U F' U' : Int → Int} {q : Int} (h : Cr F U) (hq : 0 ≤ q ∧ q < 32) (hF : 0 ≤ F q)
    (eF : ∀ r : Int, 0 ≤ r → r < 32 → F' r = if r = q then -1 else F r) (eU : ∀ g : Int, 0 ≤ g → g < 16 → U' g = if g = F q then U (F q) - 1 else U g) : Cr F' U' := by
  obtain ⟨c1, c2, c3, c4⟩ := h
  have hf := c1 q hq.1 hq.2
  have eq1 : F' q = -1 := by rw [eF q hq.1 hq.2, if_pos rfl]
  have en : ∀ r : Int, 0 ≤ r → r < 32 → r ≠ q → F' r = F r := fun r h0 h1 hn => by rw [eF r h0 h1, if_neg hn]
  have hu := c3 q hq.1 hq.2 hF
  obtain ⟨p0, p1, p2, p3⟩ := oth_in hq.1 hq.2
  refine ⟨?_, ?_, ?_, ?_⟩
  · intro r h0 h1
    by_cases e : r = q
    · rw [e, eq1]; omega
    · rw [en r h0 h1 e]; exact c1 r h0 h1
  · intro r t h0 h1 g0 g1 hp he
    by_cases e : r = q
    · exfalso; rw [e, eq1] at hp; omega
    · rw [en r h0 h1 e] at hp he
      by_cases e2 : t = q
      · exfalso; rw [e2, eq1] at he; omega
      · rw [en t g0 g1 e2] at he
        exact c2 r t h0 h1 g0 g1 hp he
  · intro r h0 h1 hp
    obtain ⟨o0, o1, o2, o3⟩ := oth_in h0 h1
    by_cases e : r = q
    · exfalso; rw [e, eq1] at hp; omega
    · rw [en r h0 h1 e] at hp ⊢
      have b := c1 r h0 h1
      rw [eU (F r) (by omega) (by omega)]
      by_cases e3 : F r = F q
      · have h9 : r = oth q := by
          rcases c2 q r hq.1 hq.2 h0 h1 hF e3.symm with z | z
          · exact absurd z e
          · exact z
        have h8 : F (oth q) = F q := by rw [← h9]; exact e3
        rw [if_pos h8] at hu
        rw [if_pos e3, hu, h9, p2, eq1, if_neg (by omega)]
        rfl
      · rw [if_neg e3, c3 r h0 h1 hp]
        by_cases e2 : oth r = q
        · rw [e2, eq1, if_neg (fun z => e3 z.symm), if_neg (by omega)]
        · rw [en (oth r) o0 o1 e2]
  · intro g g0 g1 hg
    rw [eU g g0 g1] at hg
    by_cases e : g = F q
    · rw [if_pos e, hu] at hg
      have h8 : F (oth q) = F q := by
        by_cases z : F (oth q) = F q
        · exact z
        · rw [if_neg z] at hg; omega
      exact ⟨oth q, p0, p1, by rw [en _ p0 p1 p3, h8, e]⟩
    · rw [if_neg e] at hg
      obtain ⟨r, r0, r1, r2⟩ := c4 g g0 g1 hg
      have hn : r ≠ q := fun z => e (by rw [← r2, z])
      exact ⟨r, r0, r1, by rw [en r r0 r1 hn]; exact r2⟩
/-- a page comes to lie in the other's frame -/
theorem Cr_share {F U F' U' : Int → Int} {q : Int} (h : Cr F U) (hq : 0 ≤ q ∧ q < 32) (hF : F q < 0) (ho : 0 ≤ F (oth q))
    (eF : ∀ r : Int, 0 ≤ r → r < 32 → F' r = if r = q then F (oth q) else F r) (eU : ∀ g : Int, 0 ≤ g → g < 16 → U' g = if g = F (oth q) then 2 else U g) : Cr F' U' := by
  obtain ⟨c1, c2, c3, c4⟩ := h
  obtain ⟨p0, p1, p2, p3⟩ := oth_in hq.1 hq.2
  have hf := c1 (oth q) p0 p1
  have eq1 : F' q = F (oth q) := by rw [eF q hq.1 hq.2, if_pos rfl]
  have en : ∀ r : Int, 0 ≤ r → r < 32 → r ≠ q → F' r = F r := fun r h0 h1 hn => by rw [eF r h0 h1, if_neg hn]
  have only : ∀ r : Int, 0 ≤ r → r < 32 → r ≠ q → F r = F (oth q) → r = oth q := by
    intro r h0 h1 hn he
    rcases c2 (oth q) r p0 p1 h0 h1 ho he.symm with z | z
    · exact z
    · rw [p2] at z; exact absurd z hn
  refine ⟨?_, ?_, ?_, ?_⟩
  · intro r h0 h1
    by_cases e : r = q
    · rw [e, eq1]; exact hf
    · rw [en r h0 h1 e]; exact c1 r h0 h1
  · intro r t h0 h1 g0 g1 hp he
    by_cases e : r = q
    · by_cases e2 : t = q
      · left; omega
      · rw [e, eq1, en t g0 g1 e2] at he
        right
        rw [e]
        exact only t g0 g1 e2 he.symm
    · rw [en r h0 h1 e] at hp he
      by_cases e2 : t = q
      · rw [e2, eq1] at he
        right
        rw [only r h0 h1 e he, p2, e2]
      · rw [en t g0 g1 e2] at he
        exact c2 r t h0 h1 g0 g1 hp he
  · intro r h0 h1 hp
    obtain ⟨o0, o1, o2, o3⟩ := oth_in h0 h1
    by_cases e : r = q
    · rw [e, eq1, en _ p0 p1 p3, eU _ ho hf.2, if_pos rfl, if_pos rfl]
    · rw [en r h0 h1 e] at hp ⊢
      have b := c1 r h0 h1
      rw [eU (F r) (by omega) (by omega)]
      by_cases e3 : F r = F (oth q)
      · have h9 := only r h0 h1 e e3
        rw [if_pos e3, h9, p2, eq1, if_pos rfl]
      · have e2 : oth r ≠ q := fun z => e3 (by rw [← z, o2])
        rw [if_neg e3, c3 r h0 h1 hp, en _ o0 o1 e2]
  · intro g g0 g1 hg
    by_cases e : g = F (oth q)
    · exact ⟨oth q, p0, p1, by rw [en _ p0 p1 p3, e]⟩
    · rw [eU g g0 g1, if_neg e] at hg
      obtain ⟨r, r0, r1, r2⟩ := c4 g g0 g1 hg
      have hn : r ≠ q := fun z => by
        rw [z] at r2
        omega
      exact ⟨r, r0, r1, by rw [en r r0 r1 hn]; exact r2⟩
theorem Cr_congr {F U F' U' : Int → Int} (h : Cr F U) (eF : ∀ r : Int, 0 ≤ r → r < 32 → F' r = F r) (eU : ∀ g : Int, 0 ≤ g → g < 16 → U' g = U g) : Cr F' U' := by
  obtain ⟨c1, c2, c3, c4⟩ := h
  refine ⟨?_, ?_, ?_, ?_⟩
  · intro r h0 h1
    rw [eF r h0 h1]; exact c1 r h0 h1
  · intro r t h0 h1 g0 g1 hp he
    rw [eF r h0 h1] at hp he
    rw [eF t g0 g1] at he
    exact c2 r t h0 h1 g0 g1 hp he
  · intro r h0 h1 hp
    obtain ⟨o0, o1, -, -⟩ := oth_in h0 h1
    rw [eF r h0 h1] at hp
    have b := c1 r h0 h1
    rw [eF r h0 h1, eF _ o0 o1, eU _ (by omega) (by omega)]
    exact c3 r h0 h1 hp
  · intro g g0 g1 hg
    rw [eU g g0 g1] at hg
    obtain ⟨r, r0, r1, r2⟩ := c4 g g0 g1 hg
    exact ⟨r, r0, r1, by rw [eF r r0 r1]; exact r2⟩
/-- THE COUNT: frames in use are the pages there, less the shared ones -/
def nU (U : Int → Int) : Int := smz 16 (fun f => if 0 < U f then 1 else 0)
def nP (F : Int → Int) (b : Int) : Int := smz 16 (fun v => if 0 ≤ F (b + v) then 1 else 0)
def nS (F : Int → Int) : Int := smz 16 (fun v => if 0 ≤ F v ∧ F v = F (16 + v) then 1 else 0)
theorem Cr_count {F U : Int → Int} (h : Cr F U) (hU : ∀ f : Int, 0 ≤ f → f < 16 → 0 ≤ U f) : nU U = nP F 0 + nP F 16 - nS F := by
  obtain ⟨c1, c2, c3, c4⟩ := h
  have key : nU U = smz 32 (fun q => if 0 ≤ F q ∧ (q < 16 ∨ F (q - 16) ≠ F q) then 1 else 0) := by
    have e1 : nU U = smz 16 (fun f => smz 32 (fun q => if (0 ≤ F q ∧ (q < 16 ∨ F (q - 16) ≠ F q)) ∧ F q = f then 1 else 0)) := by
      refine smz_c (fun f f0 f1 => ?_)
      show (if 0 < U f then 1 else 0) = _
      by_cases hp : 0 < U f
      · rw [if_pos hp]
        obtain ⟨q, q0, q1, q2⟩ := c4 f f0 f1 (by omega)
        have : ∃ k : Int, 0 ≤ k ∧ k < 32 ∧ F k = f ∧ (k < 16 ∨ F (k - 16) ≠ F k) := by
          by_cases z : q < 16
          · exact ⟨q, q0, q1, q2, Or.inl z⟩
          · by_cases z2 : F (q - 16) = F q
            · exact ⟨q - 16, by omega, by omega, by rw [z2, q2], Or.inl (by omega)⟩
            · exact ⟨q, q0, q1, q2, Or.inr z2⟩
        obtain ⟨k, k0, k1, k2, k3⟩ := this
        symm
        refine smz_one k k0 k1 ?_ (fun i i0 i1 hi => ?_)
        · show (if _ then (1 : Int) else 0) = 1
          rw [if_pos ⟨⟨by omega, k3⟩, k2⟩]
        · show (if _ then (1 : Int) else 0) = 0
          refine if_neg (fun z => ?_)
          obtain ⟨⟨z1, z2⟩, z3⟩ := z
          have hio := c2 k i k0 k1 i0 i1 (by omega) (by omega)
          rcases hio with hio | hio
          · exact hi hio
          · unfold oth at hio
            split at hio
            · rcases z2 with z2 | z2
              · omega
              · exact z2 (by rw [show i - 16 = k by omega]; omega)
            · rcases k3 with k3 | k3
              · omega
              · exact k3 (by rw [show k - 16 = i by omega]; omega)
      · rw [if_neg hp]
        symm
        rw [smz_c (h := fun _ => 0), smz_0]
        intro i i0 i1
        show (if _ then (1 : Int) else 0) = 0
        refine if_neg (fun z => ?_)
        obtain ⟨⟨z1, z2⟩, z3⟩ := z
        have h5 := c3 i i0 i1 z1
        rw [z3] at h5
        have h6 := hU f f0 f1
        split at h5 <;> omega
    rw [e1, smz_swap]
    refine smz_c (fun q q0 q1 => ?_)
    show smz 16 (fun f => if (0 ≤ F q ∧ (q < 16 ∨ F (q - 16) ≠ F q)) ∧ F q = f then 1 else 0) = if 0 ≤ F q ∧ (q < 16 ∨ F (q - 16) ≠ F q) then 1 else 0
    have hb := c1 q q0 q1
    by_cases hc : 0 ≤ F q ∧ (q < 16 ∨ F (q - 16) ≠ F q)
    · rw [if_pos hc]
      refine smz_one (F q) hc.1 hb.2 ?_ (fun i i0 i1 hi => ?_)
      · show (if _ then (1 : Int) else 0) = 1
        rw [if_pos ⟨hc, rfl⟩]
      · show (if _ then (1 : Int) else 0) = 0
        exact if_neg (fun z => hi z.2.symm)
    · rw [if_neg hc, smz_c (h := fun _ => 0), smz_0]
      intro i i0 i1
      show (if _ then (1 : Int) else 0) = 0
      exact if_neg (fun z => hc z.1)
  rw [key, show (32 : Nat) = 16 + 16 from rfl, smz_split]
  have e2 : smz 16 (fun q => if 0 ≤ F q ∧ (q < 16 ∨ F (q - 16) ≠ F q) then (1 : Int) else 0) = nP F 0 := by
    refine smz_c (fun v v0 v1 => ?_)
    show (if _ then (1 : Int) else 0) = if 0 ≤ F (0 + v) then 1 else 0
    rw [Int.zero_add]
    by_cases z : 0 ≤ F v
    · rw [if_pos ⟨z, Or.inl v1⟩, if_pos z]
    · rw [if_neg (fun y => z y.1), if_neg z]
  have e3 : smz 16 (fun i => (fun q => if 0 ≤ F q ∧ (q < 16 ∨ F (q - 16) ≠ F q) then (1 : Int) else 0) (((16 : Nat) : Int) + i)) = nP F 16 - nS F := by
    unfold nP nS
    rw [← smz_sub]
    refine smz_c (fun v v0 v1 => ?_)
    show (if 0 ≤ F (16 + v) ∧ (16 + v < 16 ∨ F (16 + v - 16) ≠ F (16 + v)) then (1 : Int) else 0) = (if 0 ≤ F (16 + v) then 1 else 0) - (if 0 ≤ F v ∧ F v = F (16 + v) then 1 else 0)
    rw [show 16 + v - 16 = v by omega]
    by_cases z : 0 ≤ F (16 + v)
    · by_cases z2 : F v = F (16 + v)
      · rw [if_neg (fun y => y.2.elim (fun y => by omega) (fun y => y z2)), if_pos z, if_pos ⟨by omega, z2⟩]; rfl
      · rw [if_pos ⟨z, Or.inr z2⟩, if_pos z, if_neg (fun y => z2 y.2)]; rfl
    · rw [if_neg (fun y => z y.1), if_neg z, if_neg (fun y => z (by omega))]; rfl
  rw [e2, e3]
  omega
end
section
/-! the class' state: 0 words, 1 users, 2 base, 3 locked, 4 large, 5 holder, 6 stamp, 7 clock, 8 carried -/
def Rg (st : zM) : Prop :=
  (∀ i : Int, 0 ≤ i → i < 16 → 0 ≤ st 1 i ∧ st 1 i ≤ 2) ∧
  (∀ i : Int, 0 ≤ i → i < 32 → -1 ≤ st 2 i ∧ st 2 i < 16) ∧
  (∀ i : Int, 0 ≤ i → i < 32 → 0 ≤ st 3 i ∧ st 3 i ≤ 1) ∧
  (∀ i : Int, 0 ≤ i → i < 8 → -1 ≤ st 4 i ∧ st 4 i < 4) ∧
  (∀ i : Int, 0 ≤ i → i < 4 → -1 ≤ st 5 i ∧ st 5 i < 8)
/-- nothing but reservations is given up -/
def HO (st u : zM) : Prop := (∀ j : Nat, j ≠ 5 → u j = st j) ∧ ∀ i : Int, u 5 i = st 5 i ∨ u 5 i = -1
theorem HO.rf (st : zM) : HO st st := ⟨fun _ _ => rfl, fun _ => Or.inl rfl⟩
theorem HO.drop {st u : zM} (h : HO st u) (i : Int) : HO st (up u 5 i (-1)) := by
  refine ⟨fun j hj => ?_, fun k => ?_⟩
  · rw [up_j _ _ _ _ hj]; exact h.1 j hj
  · rw [up_e]
    split
    · exact Or.inr rfl
    · exact h.2 k
theorem HO.Rg {st u : zM} (h : HO st u) (hg : Rg st) : Rg u := by
  obtain ⟨g1, g2, g3, g4, g5⟩ := hg
  have e1 := h.1 1 (by decide)
  have e2 := h.1 2 (by decide)
  have e3 := h.1 3 (by decide)
  have e4 := h.1 4 (by decide)
  refine ⟨by rw [e1]; exact g1, by rw [e2]; exact g2, by rw [e3]; exact g3, by rw [e4]; exact g4, fun i h0 h1 => ?_⟩
  have a := g5 i h0 h1
  rcases h.2 i with z | z <;> rw [z] <;> omega
/-- demote, n of the four small entries written -/
def demL (st : zM) (r e n : Int) : zM := fun j i => if j = 4 ∧ i = r then -1 else if j = 2 ∧ r * 4 ≤ i ∧ i < r * 4 + n then e * 4 + (i - r * 4) else st j i
def demS (st : zM) (r : Int) : zM := if st 4 r < 0 then st else demL st r (st 4 r) 4
theorem demL_0 (st : zM) (r e : Int) : up st 4 r (-1) = demL st r e 0 := by
  funext j i
  simp only [demL, up_e]
  (repeat' split) <;> first | rfl | omega
theorem demL_s (st : zM) (r e n : Int) (h : 0 ≤ n) : up (demL st r e n) 2 (r * 4 + n) (e * 4 + n) = demL st r e (n + 1) := by
  funext j i
  simp only [demL, up_e]
  (repeat' split) <;> first | rfl | omega
/-- the words of frame a copied to frame b, n of the four -/
def cpF (st : zM) (a b n : Int) : zM := fun j i => if j = 0 ∧ b * 4 ≤ i ∧ i < b * 4 + n then st 0 (a * 4 + (i - b * 4)) else st j i
theorem cpF_0 (st : zM) (a b : Int) : cpF st a b 0 = st := by
  funext j i
  simp only [cpF]
  (repeat' split) <;> first | rfl | omega
theorem cpF_r (st : zM) (a b n : Int) (h : 0 ≤ n) (h4 : n < 4) : cpF st a b n 0 (a * 4 + n) = st 0 (a * 4 + n) := by
  simp only [cpF]
  split
  · have : a = b ∨ a ≠ b := by omega
    rcases this with e | e
    · rw [e]; congr 1; omega
    · omega
  · rfl
theorem cpF_s (st : zM) (a b n : Int) (h : 0 ≤ n) : up (cpF st a b n) 0 (b * 4 + n) (st 0 (a * 4 + n)) = cpF st a b (n + 1) := by
  funext j i
  simp only [cpF, up_e]
  (repeat' split) <;> first | rfl | omega | (congr 1; omega)
/-- the words of frame f set to 0, n of the four -/
def zwF (st : zM) (f n : Int) : zM := fun j i => if j = 0 ∧ f * 4 ≤ i ∧ i < f * 4 + n then 0 else st j i
theorem zwF_0 (st : zM) (f : Int) : zwF st f 0 = st := by
  funext j i
  simp only [zwF]
  (repeat' split) <;> first | rfl | omega
theorem zwF_s (st : zM) (f n : Int) (h : 0 ≤ n) : up (zwF st f n) 0 (f * 4 + n) 0 = zwF st f (n + 1) := by
  funext j i
  simp only [zwF, up_e]
  (repeat' split) <;> first | rfl | omega
/-- how many frames of a group are used -/
def uI (U : Int → Int) (g : Int) : Int := smz 4 (fun i => if 0 < U (g * 4 + i) then 1 else 0)
theorem uI_b (U : Int → Int) (g : Int) : 0 ≤ uI U g ∧ uI U g ≤ 4 := smz_le (fun i _ _ => by split <;> omega)
theorem uI_0 {U : Int → Int} {g : Int} (h : uI U g = 0) (hU : ∀ f : Int, g * 4 ≤ f → f < g * 4 + 4 → 0 ≤ U f) : ∀ i : Int, 0 ≤ i → i < 4 → U (g * 4 + i) = 0 := by
  intro i h0 h1
  have a := smz_zero (g := fun i => if 0 < U (g * 4 + i) then 1 else 0) (n := 4) (fun i _ _ => by split <;> omega) h i h0 h1
  have b := hU (g * 4 + i) (by omega) (by omega)
  have c : (if 0 < U (g * 4 + i) then (1 : Int) else 0) = 0 := a
  split at c <;> omega
theorem uI_4 {U : Int → Int} {g : Int} (h : uI U g < 4) (hU : ∀ f : Int, g * 4 ≤ f → f < g * 4 + 4 → 0 ≤ U f) : ∃ i : Int, 0 ≤ i ∧ i < 4 ∧ U (g * 4 + i) = 0 := by
  obtain ⟨i, h0, h1, a⟩ := smz_free (g := fun i => if 0 < U (g * 4 + i) then 1 else 0) (n := 4) (fun i _ _ => by split <;> omega) (by unfold uI at h; omega)
  refine ⟨i, h0, h1, ?_⟩
  have b := hU (g * 4 + i) (by omega) (by omega)
  have c : (if 0 < U (g * 4 + i) then (1 : Int) else 0) = 0 := a
  split at c <;> omega
theorem uI_f {U : Int → Int} {g i : Int} (h0 : 0 ≤ i) (h1 : i < 4) (hz : U (g * 4 + i) = 0) : uI U g < 4 := by
  have hb := uI_b U g
  rcases (show uI U g < 4 ∨ uI U g = 4 by omega) with h | h
  · exact h
  · exfalso
    have e : smz 4 (fun i => 1 - (if 0 < U (g * 4 + i) then 1 else 0)) = 0 := by
      rw [smz_sub]
      show (4 : Int) - uI U g = 0
      omega
    have a := smz_zero (n := 4) (fun i _ _ => by show 0 ≤ 1 - (if 0 < U (g * 4 + i) then (1 : Int) else 0); split <;> omega) e i h0 h1
    have c : 1 - (if 0 < U (g * 4 + i) then (1 : Int) else 0) = 0 := a
    rw [hz] at c
    simp at c
end
section
set_option maxHeartbeats 4000000 in
theorem c_Xbad {l : Launch} {D : va_G} {w : zW} {st : zM} {p v : Int} (hp : -2147483648 ≤ p ∧ p ≤ 2147483647) (hv : -2147483648 ≤ v ∧ v ≤ 2147483647) : CI l D (tysX w) (wX w) y_Xbad b_Xbad 3 .boolean 0 [.ref (w.1 0), .int (zI p), .int (zI v)] st (fun z u => z = (if 0 ≤ p ∧ p ≤ 1 ∧ 0 ≤ v ∧ v ≤ 15 then 0 else 1) ∧ u = st) := by
  refine conX_i [(0, .ref (w.1 0)), (1, .int (zI p)), (2, .int (zI v))] rfl (Nat.le_of_ble_eq_true rfl) rfl (fun G hB hH hC hK hR => ?_)
  refine rb_iload_n hB (j := 1) d_Xbad_0 rfl ?_
  refine rb_if_lt hB (tgt := 19) d_Xbad_1 (by omega) (by decide) (fun c1 => ?_) (fun c1 => ?_)
  · refine rb_iconst hB d_Xbad_19 ?_
    refine rb_goto hB (tgt := 24) d_Xbad_20 (by decide) ?_
    exact hR _ _ _ _ d_Xbad_24 (by decide) ⟨by rw [if_neg (by omega)], rfl⟩
  · refine rb_iload_n hB (j := 1) d_Xbad_4 rfl ?_
    refine rb_iconst hB d_Xbad_5 ?_
    refine rb_icmp_gt hB (tgt := 19) d_Xbad_6 (by omega) (by omega) (by decide) (fun c6 => ?_) (fun c6 => ?_)
    · refine rb_iconst hB d_Xbad_19 ?_
      refine rb_goto hB (tgt := 24) d_Xbad_20 (by decide) ?_
      exact hR _ _ _ _ d_Xbad_24 (by decide) ⟨by rw [if_neg (by omega)], rfl⟩
    · refine rb_iload_n hB (j := 2) d_Xbad_9 rfl ?_
      refine rb_if_lt hB (tgt := 19) d_Xbad_10 (by omega) (by decide) (fun c10 => ?_) (fun c10 => ?_)
      · refine rb_iconst hB d_Xbad_19 ?_
        refine rb_goto hB (tgt := 24) d_Xbad_20 (by decide) ?_
        exact hR _ _ _ _ d_Xbad_24 (by decide) ⟨by rw [if_neg (by omega)], rfl⟩
      · refine rb_iload_n hB (j := 2) d_Xbad_13 rfl ?_
        refine rb_bipush hB d_Xbad_14 (by decide) ?_
        refine rb_icmp_le hB (tgt := 23) d_Xbad_16 (by omega) (by omega) (by decide) (fun c16 => ?_) (fun c16 => ?_)
        · refine rb_iconst hB d_Xbad_23 ?_
          exact hR _ _ _ _ d_Xbad_24 (by decide) ⟨by rw [if_pos (by omega)], rfl⟩
        · refine rb_iconst hB d_Xbad_19 ?_
          refine rb_goto hB (tgt := 24) d_Xbad_20 (by decide) ?_
          exact hR _ _ _ _ d_Xbad_24 (by decide) ⟨by rw [if_neg (by omega)], rfl⟩
set_option maxHeartbeats 4000000 in
theorem c_XframeOf {l : Launch} {D : va_G} {w : zW} {st : zM} {q : Int} (hg : Rg st) (hq : 0 ≤ q ∧ q < 32) : CI l D (tysX w) (wX w) y_XframeOf b_XframeOf 3 .int 0 [.ref (w.1 0), .int (zI q)] st (fun z u => z = fr st q ∧ u = st) := by
  refine conX_i [(0, .ref (w.1 0)), (1, .int (zI q))] rfl (Nat.le_of_ble_eq_true rfl) rfl (fun G hB hH hC hK hR => ?_)
  refine rb_aload_n hB (j := 0) d_XframeOf_0 rfl ?_
  refine rh_get hH 4 (by decide) d_XframeOf_1 rfl rfl ?_
  refine rb_iload_n hB (j := 1) d_XframeOf_4 rfl ?_
  refine rb_iconst hB d_XframeOf_5 ?_
  refine rb_shr2 hB d_XframeOf_6 (by omega) ?_
  refine rh_ild hH 4 8 (by decide) d_XframeOf_7 rfl rfl (by omega) ?_
  refine rn_istore_n hB (fun y => [(0, .ref (w.1 0)), (1, .int (zI q)), (2, .int (zI y))]) d_XframeOf_8 (by decide) (fun _ => rfl) (fun y2_8 ey2_8 => ?_)
  have g4 := hg.2.2.2.1 (q / 4) (by omega) (by omega)
  refine rb_iload_n hB (j := 2) d_XframeOf_9 rfl ?_
  refine rb_if_lt hB (tgt := 21) d_XframeOf_10 (by omega) (by decide) (fun c10 => ?_) (fun c10 => ?_)
  · refine rb_aload_n hB (j := 0) d_XframeOf_21 rfl ?_
    refine rh_get hH 2 (by decide) d_XframeOf_22 rfl rfl ?_
    refine rb_iload_n hB (j := 1) d_XframeOf_25 rfl ?_
    refine rh_ild hH 2 32 (by decide) d_XframeOf_26 rfl rfl (by omega) ?_
    exact hR _ _ _ _ d_XframeOf_27 rfl ⟨by unfold fr FF; rw [if_neg (by omega)], rfl⟩
  · refine rb_iload_n hB (j := 2) d_XframeOf_13 rfl ?_
    refine rb_iconst hB d_XframeOf_14 ?_
    refine rb_imul hB d_XframeOf_15 ?_
    refine rb_iload_n hB (j := 1) d_XframeOf_16 rfl ?_
    refine rb_iconst hB d_XframeOf_17 ?_
    refine rb_and3 hB d_XframeOf_18 (by omega) ?_
    refine rb_iadd hB d_XframeOf_19 ?_
    exact hR _ _ _ _ d_XframeOf_20 rfl ⟨by unfold fr FF; rw [if_pos (by omega), ey2_8], rfl⟩
set_option maxHeartbeats 4000000 in
theorem w_XframesInUse_4 {l : Launch} {D : va_G} {w : zW} {G : zG zM} {st : zM} (hg : Rg st) (hB : RB b_XframesInUse 3 G) (hH : RH b_XframesInUse G (w.1 0) (adX w) fxX nxX intsX boolsX) (hC : RC l D (tysX w) (wX w) R_X (rmK 0) b_XframesInUse G (w.1 0)) (hK : RK b_XframesInUse G (w.1 0)) (hR : ∀ (u : zM) (pc : Nat) (lv : zL) (z : Int), decode b_XframesInUse pc = .ok (.ireturn, 1) → narrow .int (.int (zI z)) = .int (zI z) → (z = nU (st 1) ∧ u = st) → G u pc lv [.int (zI z)]) :
    ∀ (n : Nat) (i : Nat) (y1 : Int) (y2 : Int), (i ≤ 16) → (16 < i + n) → (y2 = (i : Int)) → (y1 = smz i (fun f => if 0 < st 1 f then 1 else 0)) → G st 4 [(0, .ref (w.1 0)), (1, .int (zI y1)), (2, .int (zI y2))] [] := by
  intro n
  induction n with
  | zero =>
    intro i y1 y2 h1 h2 e2 e1
    exfalso
    omega
  | succ n ih =>
    intro i y1 y2 h1 h2 e2 e1
    refine rb_iload_n hB (j := 2) d_XframesInUse_4 rfl ?_
    refine rb_bipush hB d_XframesInUse_5 (by decide) ?_
    refine rb_icmp_ge hB (tgt := 28) d_XframesInUse_7 (by omega) (by omega) (by decide) (fun c7 => ?_) (fun c7 => ?_)
    · refine rb_iload_n hB (j := 1) d_XframesInUse_28 rfl ?_
      have ei : i = 16 := by omega
      subst ei
      exact hR _ _ _ _ d_XframesInUse_29 rfl ⟨e1, rfl⟩
    · refine rb_aload_n hB (j := 0) d_XframesInUse_10 rfl ?_
      refine rh_get hH 1 (by decide) d_XframesInUse_11 rfl rfl ?_
      refine rb_iload_n hB (j := 2) d_XframesInUse_14 rfl ?_
      refine rh_ild hH 1 16 (by decide) d_XframesInUse_15 rfl rfl (by omega) ?_
      have g1 := hg.1 y2 (by omega) (by omega)
      refine rb_if_le hB (tgt := 22) d_XframesInUse_16 (by omega) (by decide) (fun c16 => ?_) (fun c16 => ?_)
      · refine rn_iinc hB 2 (fun y => [(0, .ref (w.1 0)), (1, .int (zI y1)), (2, .int (zI y))]) d_XframesInUse_22 rfl (by decide) (fun _ => rfl) (fun y2_22 ey2_22 => ?_)
        refine rb_goto hB (tgt := 4) d_XframesInUse_25 (by decide) ?_
        exact ih (i + 1) y1 y2_22 (by omega) (by omega) (by omega) (by rw [smz_s, ← e2]; rw [if_neg (by omega)]; omega)
      · refine rn_iinc hB 1 (fun y => [(0, .ref (w.1 0)), (1, .int (zI y)), (2, .int (zI y2))]) d_XframesInUse_19 rfl (by decide) (fun _ => rfl) (fun y1_19 ey1_19 => ?_)
        refine rn_iinc hB 2 (fun y => [(0, .ref (w.1 0)), (1, .int (zI y1_19)), (2, .int (zI y))]) d_XframesInUse_22 rfl (by decide) (fun _ => rfl) (fun y2_22 ey2_22 => ?_)
        refine rb_goto hB (tgt := 4) d_XframesInUse_25 (by decide) ?_
        exact ih (i + 1) y1_19 y2_22 (by omega) (by omega) (by omega) (by rw [smz_s, ← e2]; rw [if_pos (by omega)]; omega)
set_option maxHeartbeats 4000000 in
theorem c_XframesInUse {l : Launch} {D : va_G} {w : zW} {st : zM} (hg : Rg st) : CI l D (tysX w) (wX w) y_XframesInUse b_XframesInUse 3 .int 0 [.ref (w.1 0)] st (fun z u => z = nU (st 1) ∧ u = st) := by
  refine conX_i [(0, .ref (w.1 0))] rfl (Nat.le_of_ble_eq_true rfl) rfl (fun G hB hH hC hK hR => ?_)
  refine rb_iconst hB d_XframesInUse_0 ?_
  refine rn_istore_n hB (fun y => [(0, .ref (w.1 0)), (1, .int (zI y))]) d_XframesInUse_1 (by decide) (fun _ => rfl) (fun y1_1 ey1_1 => ?_)
  refine rb_iconst hB d_XframesInUse_2 ?_
  refine rn_istore_n hB (fun y => [(0, .ref (w.1 0)), (1, .int (zI y1_1)), (2, .int (zI y))]) d_XframesInUse_3 (by decide) (fun _ => rfl) (fun y2_3 ey2_3 => ?_)
  exact w_XframesInUse_4 hg hB hH hC hK hR 17 0 y1_1 y2_3 (by omega) (by omega) (by omega) (by rw [ey1_1]; rfl)
set_option maxHeartbeats 4000000 in
theorem w_Xdemote_21 {l : Launch} {D : va_G} {w : zW} {G : zG zM} {st : zM} {r y2 : Int} (hr : 0 ≤ r ∧ r < 8) (he : y2 = st 4 r) (h9 : 0 ≤ y2 ∧ y2 < 4) (hB : RB b_Xdemote 4 G) (hH : RH b_Xdemote G (w.1 0) (adX w) fxX nxX intsX boolsX) (hC : RC l D (tysX w) (wX w) R_X (rmK 0) b_Xdemote G (w.1 0)) (hK : RK b_Xdemote G (w.1 0)) (hR : ∀ (u : zM) (pc : Nat) (lv : zL), decode b_Xdemote pc = .ok (.return_, 1) → (u = demS st r) → G u pc lv []) :
    ∀ (n : Nat) (y3 : Int) (cur : zM), (0 ≤ y3) → (y3 ≤ 4) → (4 < y3 + n) → (cur = demL st r y2 y3) → G cur 21 [(0, .ref (w.1 0)), (1, .int (zI r)), (2, .int (zI y2)), (3, .int (zI y3))] [] := by
  intro n
  induction n with
  | zero =>
    intro y3 cur h1 h2 h3 hcur
    exfalso
    omega
  | succ n ih =>
    intro y3 cur h1 h2 h3 hcur
    refine rb_iload_n hB (j := 3) d_Xdemote_21 rfl ?_
    refine rb_iconst hB d_Xdemote_22 ?_
    refine rb_icmp_ge hB (tgt := 47) d_Xdemote_23 (by omega) (by omega) (by decide) (fun c23 => ?_) (fun c23 => ?_)
    · have e3 : y3 = 4 := by omega
      exact hR _ _ _ d_Xdemote_47 (by rw [hcur, e3, he]; unfold demS; rw [if_neg (by omega)])
    · refine rb_aload_n hB (j := 0) d_Xdemote_26 rfl ?_
      refine rh_get hH 2 (by decide) d_Xdemote_27 rfl rfl ?_
      refine rb_iload_n hB (j := 1) d_Xdemote_30 rfl ?_
      refine rb_iconst hB d_Xdemote_31 ?_
      refine rb_imul hB d_Xdemote_32 ?_
      refine rb_iload_n hB (j := 3) d_Xdemote_33 rfl ?_
      refine rb_iadd hB d_Xdemote_34 ?_
      refine rb_iload_n hB (j := 2) d_Xdemote_35 rfl ?_
      refine rb_iconst hB d_Xdemote_36 ?_
      refine rb_imul hB d_Xdemote_37 ?_
      refine rb_iload_n hB (j := 3) d_Xdemote_38 rfl ?_
      refine rb_iadd hB d_Xdemote_39 ?_
      refine rh_ist hH 2 32 (by decide) d_Xdemote_40 rfl rfl (by omega) ?_
      refine rn_iinc hB 3 (fun y => [(0, .ref (w.1 0)), (1, .int (zI r)), (2, .int (zI y2)), (3, .int (zI y))]) d_Xdemote_41 rfl (by decide) (fun _ => rfl) (fun y3_41 ey3_41 => ?_)
      refine rb_goto hB (tgt := 21) d_Xdemote_44 (by decide) ?_
      exact ih y3_41 (up cur 2 ((r * 4) + y3) ((y2 * 4) + y3)) (by omega) (by omega) (by omega) (by rw [hcur, ey3_41, demL_s _ _ _ _ h1])
set_option maxHeartbeats 4000000 in
theorem c_Xdemote {l : Launch} {D : va_G} {w : zW} {st : zM} {r : Int} (hg : Rg st) (hr : 0 ≤ r ∧ r < 8) : CV l D (tysX w) (wX w) y_Xdemote b_Xdemote 4 0 [.ref (w.1 0), .int (zI r)] st (fun u => u = demS st r) := by
  refine conX_v [(0, .ref (w.1 0)), (1, .int (zI r))] rfl (Nat.le_of_ble_eq_true rfl) rfl (fun G hB hH hC hK hR => ?_)
  refine rb_aload_n hB (j := 0) d_Xdemote_0 rfl ?_
  refine rh_get hH 4 (by decide) d_Xdemote_1 rfl rfl ?_
  refine rb_iload_n hB (j := 1) d_Xdemote_4 rfl ?_
  refine rh_ild hH 4 8 (by decide) d_Xdemote_5 rfl rfl (by omega) ?_
  refine rn_istore_n hB (fun y => [(0, .ref (w.1 0)), (1, .int (zI r)), (2, .int (zI y))]) d_Xdemote_6 (by decide) (fun _ => rfl) (fun y2_6 ey2_6 => ?_)
  have g4 := hg.2.2.2.1 r (by omega) (by omega)
  refine rb_iload_n hB (j := 2) d_Xdemote_7 rfl ?_
  refine rb_if_ge hB (tgt := 12) d_Xdemote_8 (by omega) (by decide) (fun c8 => ?_) (fun c8 => ?_)
  · refine rb_aload_n hB (j := 0) d_Xdemote_12 rfl ?_
    refine rh_get hH 4 (by decide) d_Xdemote_13 rfl rfl ?_
    refine rb_iload_n hB (j := 1) d_Xdemote_16 rfl ?_
    refine rb_iconst hB d_Xdemote_17 ?_
    refine rh_ist hH 4 8 (by decide) d_Xdemote_18 rfl rfl (by omega) ?_
    refine rb_iconst hB d_Xdemote_19 ?_
    refine rn_istore_n hB (fun y => [(0, .ref (w.1 0)), (1, .int (zI r)), (2, .int (zI y2_6)), (3, .int (zI y))]) d_Xdemote_20 (by decide) (fun _ => rfl) (fun y3_20 ey3_20 => ?_)
    exact w_Xdemote_21 hr ey2_6 ⟨by omega, by omega⟩ hB hH hC hK hR 5 y3_20 _ (by omega) (by omega) (by omega) (by rw [ey3_20]; exact demL_0 _ _ _)
  · exact hR _ _ _ d_Xdemote_11 (by unfold demS; rw [if_pos (by omega)])
set_option maxHeartbeats 4000000 in
theorem w_XcopyFrame_2 {l : Launch} {D : va_G} {w : zW} {G : zG zM} {st : zM} {a b : Int} (ha : 0 ≤ a ∧ a < 16) (hb : 0 ≤ b ∧ b < 16) (hB : RB b_XcopyFrame 4 G) (hH : RH b_XcopyFrame G (w.1 0) (adX w) fxX nxX intsX boolsX) (hC : RC l D (tysX w) (wX w) R_X (rmK 0) b_XcopyFrame G (w.1 0)) (hK : RK b_XcopyFrame G (w.1 0)) (hR : ∀ (u : zM) (pc : Nat) (lv : zL), decode b_XcopyFrame pc = .ok (.return_, 1) → (u = cpF st a b 4) → G u pc lv []) :
    ∀ (n : Nat) (y3 : Int) (cur : zM), (0 ≤ y3) → (y3 ≤ 4) → (4 < y3 + n) → (cur = cpF st a b y3) → G cur 2 [(0, .ref (w.1 0)), (1, .int (zI a)), (2, .int (zI b)), (3, .int (zI y3))] [] := by
  intro n
  induction n with
  | zero =>
    intro y3 cur h1 h2 h3 hcur
    exfalso
    omega
  | succ n ih =>
    intro y3 cur h1 h2 h3 hcur
    refine rb_iload_n hB (j := 3) d_XcopyFrame_2 rfl ?_
    refine rb_iconst hB d_XcopyFrame_3 ?_
    refine rb_icmp_ge hB (tgt := 33) d_XcopyFrame_4 (by omega) (by omega) (by decide) (fun c4 => ?_) (fun c4 => ?_)
    · have e3 : y3 = 4 := by omega
      exact hR _ _ _ d_XcopyFrame_33 (by rw [hcur, e3])
    · refine rb_aload_n hB (j := 0) d_XcopyFrame_7 rfl ?_
      refine rh_get hH 0 (by decide) d_XcopyFrame_8 rfl rfl ?_
      refine rb_iload_n hB (j := 2) d_XcopyFrame_11 rfl ?_
      refine rb_iconst hB d_XcopyFrame_12 ?_
      refine rb_imul hB d_XcopyFrame_13 ?_
      refine rb_iload_n hB (j := 3) d_XcopyFrame_14 rfl ?_
      refine rb_iadd hB d_XcopyFrame_15 ?_
      refine rb_aload_n hB (j := 0) d_XcopyFrame_16 rfl ?_
      refine rh_get hH 0 (by decide) d_XcopyFrame_17 rfl rfl ?_
      refine rb_iload_n hB (j := 1) d_XcopyFrame_20 rfl ?_
      refine rb_iconst hB d_XcopyFrame_21 ?_
      refine rb_imul hB d_XcopyFrame_22 ?_
      refine rb_iload_n hB (j := 3) d_XcopyFrame_23 rfl ?_
      refine rb_iadd hB d_XcopyFrame_24 ?_
      refine rh_ild hH 0 64 (by decide) d_XcopyFrame_25 rfl rfl (by omega) ?_
      refine rh_ist hH 0 64 (by decide) d_XcopyFrame_26 rfl rfl (by omega) ?_
      refine rn_iinc hB 3 (fun y => [(0, .ref (w.1 0)), (1, .int (zI a)), (2, .int (zI b)), (3, .int (zI y))]) d_XcopyFrame_27 rfl (by decide) (fun _ => rfl) (fun y3_27 ey3_27 => ?_)
      refine rb_goto hB (tgt := 2) d_XcopyFrame_30 (by decide) ?_
      rw [hcur, cpF_r _ _ _ _ h1 (by omega), cpF_s _ _ _ _ h1]
      exact ih y3_27 _ (by omega) (by omega) (by omega) (by rw [ey3_27])
set_option maxHeartbeats 4000000 in
theorem c_XcopyFrame {l : Launch} {D : va_G} {w : zW} {st : zM} {a b : Int} (ha : 0 ≤ a ∧ a < 16) (hb : 0 ≤ b ∧ b < 16) : CV l D (tysX w) (wX w) y_XcopyFrame b_XcopyFrame 4 0 [.ref (w.1 0), .int (zI a), .int (zI b)] st (fun u => u = cpF st a b 4) := by
  refine conX_v [(0, .ref (w.1 0)), (1, .int (zI a)), (2, .int (zI b))] rfl (Nat.le_of_ble_eq_true rfl) rfl (fun G hB hH hC hK hR => ?_)
  refine rb_iconst hB d_XcopyFrame_0 ?_
  refine rn_istore_n hB (fun y => [(0, .ref (w.1 0)), (1, .int (zI a)), (2, .int (zI b)), (3, .int (zI y))]) d_XcopyFrame_1 (by decide) (fun _ => rfl) (fun y3_1 ey3_1 => ?_)
  exact w_XcopyFrame_2 ha hb hB hH hC hK hR 5 y3_1 _ (by omega) (by omega) (by omega) (by rw [ey3_1, cpF_0])
set_option maxHeartbeats 4000000 in
theorem w_XdropOthers_2 {l : Launch} {D : va_G} {w : zW} {G : zG zM} {st : zM} {r g : Int} (hg : Rg st) (hr : 0 ≤ r ∧ r < 8) (hgg : 0 ≤ g ∧ g < 4) (hB : RB b_XdropOthers 4 G) (hH : RH b_XdropOthers G (w.1 0) (adX w) fxX nxX intsX boolsX) (hC : RC l D (tysX w) (wX w) R_X (rmK 0) b_XdropOthers G (w.1 0)) (hK : RK b_XdropOthers G (w.1 0)) (hR : ∀ (u : zM) (pc : Nat) (lv : zL), decode b_XdropOthers pc = .ok (.return_, 1) → (HO st u) → G u pc lv []) :
    ∀ (n : Nat) (y3 : Int) (cur : zM), (0 ≤ y3) → (y3 ≤ 4) → (4 < y3 + n) → (HO st cur) → G cur 2 [(0, .ref (w.1 0)), (1, .int (zI r)), (2, .int (zI g)), (3, .int (zI y3))] [] := by
  intro n
  induction n with
  | zero =>
    intro y3 cur h1 h2 h3 hcur
    exfalso
    omega
  | succ n ih =>
    intro y3 cur h1 h2 h3 hcur
    refine rb_iload_n hB (j := 3) d_XdropOthers_2 rfl ?_
    refine rb_iconst hB d_XdropOthers_3 ?_
    refine rb_icmp_ge hB (tgt := 35) d_XdropOthers_4 (by omega) (by omega) (by decide) (fun c4 => ?_) (fun c4 => ?_)
    · exact hR _ _ _ d_XdropOthers_35 hcur
    · refine rb_iload_n hB (j := 3) d_XdropOthers_7 rfl ?_
      refine rb_iload_n hB (j := 2) d_XdropOthers_8 rfl ?_
      refine rb_icmp_eq hB (tgt := 29) d_XdropOthers_9 (by omega) (by omega) (by decide) (fun c9 => ?_) (fun c9 => ?_)
      · refine rn_iinc hB 3 (fun y => [(0, .ref (w.1 0)), (1, .int (zI r)), (2, .int (zI g)), (3, .int (zI y))]) d_XdropOthers_29 rfl (by decide) (fun _ => rfl) (fun y3_29 ey3_29 => ?_)
        refine rb_goto hB (tgt := 2) d_XdropOthers_32 (by decide) ?_
        exact ih y3_29 _ (by omega) (by omega) (by omega) hcur
      · refine rb_aload_n hB (j := 0) d_XdropOthers_12 rfl ?_
        refine rh_get hH 5 (by decide) d_XdropOthers_13 rfl rfl ?_
        refine rb_iload_n hB (j := 3) d_XdropOthers_16 rfl ?_
        refine rh_ild hH 5 4 (by decide) d_XdropOthers_17 rfl rfl (by omega) ?_
        have g5 := (hcur.Rg hg).2.2.2.2 y3 (by omega) (by omega)
        refine rb_iload_n hB (j := 1) d_XdropOthers_18 rfl ?_
        refine rb_icmp_ne hB (tgt := 29) d_XdropOthers_19 (by omega) (by omega) (by decide) (fun c19 => ?_) (fun c19 => ?_)
        · refine rn_iinc hB 3 (fun y => [(0, .ref (w.1 0)), (1, .int (zI r)), (2, .int (zI g)), (3, .int (zI y))]) d_XdropOthers_29 rfl (by decide) (fun _ => rfl) (fun y3_29 ey3_29 => ?_)
          refine rb_goto hB (tgt := 2) d_XdropOthers_32 (by decide) ?_
          exact ih y3_29 _ (by omega) (by omega) (by omega) hcur
        · refine rb_aload_n hB (j := 0) d_XdropOthers_22 rfl ?_
          refine rh_get hH 5 (by decide) d_XdropOthers_23 rfl rfl ?_
          refine rb_iload_n hB (j := 3) d_XdropOthers_26 rfl ?_
          refine rb_iconst hB d_XdropOthers_27 ?_
          refine rh_ist hH 5 4 (by decide) d_XdropOthers_28 rfl rfl (by omega) ?_
          refine rn_iinc hB 3 (fun y => [(0, .ref (w.1 0)), (1, .int (zI r)), (2, .int (zI g)), (3, .int (zI y))]) d_XdropOthers_29 rfl (by decide) (fun _ => rfl) (fun y3_29 ey3_29 => ?_)
          refine rb_goto hB (tgt := 2) d_XdropOthers_32 (by decide) ?_
          exact ih y3_29 _ (by omega) (by omega) (by omega) (hcur.drop _)
set_option maxHeartbeats 4000000 in
theorem c_XdropOthers {l : Launch} {D : va_G} {w : zW} {st : zM} {r g : Int} (hg : Rg st) (hr : 0 ≤ r ∧ r < 8) (hgg : 0 ≤ g ∧ g < 4) : CV l D (tysX w) (wX w) y_XdropOthers b_XdropOthers 4 0 [.ref (w.1 0), .int (zI r), .int (zI g)] st (fun u => HO st u) := by
  refine conX_v [(0, .ref (w.1 0)), (1, .int (zI r)), (2, .int (zI g))] rfl (Nat.le_of_ble_eq_true rfl) rfl (fun G hB hH hC hK hR => ?_)
  refine rb_iconst hB d_XdropOthers_0 ?_
  refine rn_istore_n hB (fun y => [(0, .ref (w.1 0)), (1, .int (zI r)), (2, .int (zI g)), (3, .int (zI y))]) d_XdropOthers_1 (by decide) (fun _ => rfl) (fun y3_1 ey3_1 => ?_)
  exact w_XdropOthers_2 hg hr hgg hB hH hC hK hR 5 y3_1 _ (by omega) (by omega) (by omega) (HO.rf _)
set_option maxHeartbeats 4000000 in
theorem w_XheldBy_4 {l : Launch} {D : va_G} {w : zW} {G : zG zM} {st : zM} {r : Int} (hg : Rg st) (hr : 0 ≤ r ∧ r < 8) (hB : RB b_XheldBy 4 G) (hH : RH b_XheldBy G (w.1 0) (adX w) fxX nxX intsX boolsX) (hC : RC l D (tysX w) (wX w) R_X (rmK 0) b_XheldBy G (w.1 0)) (hK : RK b_XheldBy G (w.1 0)) (hR : ∀ (u : zM) (pc : Nat) (lv : zL) (z : Int), decode b_XheldBy pc = .ok (.ireturn, 1) → narrow .int (.int (zI z)) = .int (zI z) → ((-1 ≤ z ∧ z < 4) ∧ u = st) → G u pc lv [.int (zI z)]) :
    ∀ (n : Nat) (y2 : Int) (y3 : Int), (0 ≤ y3) → (y3 ≤ 4) → (4 < y3 + n) → (-1 ≤ y2 ∧ y2 < 4) → G st 4 [(0, .ref (w.1 0)), (1, .int (zI r)), (2, .int (zI y2)), (3, .int (zI y3))] [] := by
  intro n
  induction n with
  | zero =>
    intro y2 y3 h1 h2 h3 hy2
    exfalso
    omega
  | succ n ih =>
    intro y2 y3 h1 h2 h3 hy2
    refine rb_iload_n hB (j := 3) d_XheldBy_4 rfl ?_
    refine rb_iconst hB d_XheldBy_5 ?_
    refine rb_icmp_ge hB (tgt := 27) d_XheldBy_6 (by omega) (by omega) (by decide) (fun c6 => ?_) (fun c6 => ?_)
    · refine rb_iload_n hB (j := 2) d_XheldBy_27 rfl ?_
      exact hR _ _ _ _ d_XheldBy_28 rfl ⟨hy2, rfl⟩
    · refine rb_aload_n hB (j := 0) d_XheldBy_9 rfl ?_
      refine rh_get hH 5 (by decide) d_XheldBy_10 rfl rfl ?_
      refine rb_iload_n hB (j := 3) d_XheldBy_13 rfl ?_
      refine rh_ild hH 5 4 (by decide) d_XheldBy_14 rfl rfl (by omega) ?_
      have g5 := hg.2.2.2.2 y3 (by omega) (by omega)
      refine rb_iload_n hB (j := 1) d_XheldBy_15 rfl ?_
      refine rb_icmp_ne hB (tgt := 21) d_XheldBy_16 (by omega) (by omega) (by decide) (fun c16 => ?_) (fun c16 => ?_)
      · refine rn_iinc hB 3 (fun y => [(0, .ref (w.1 0)), (1, .int (zI r)), (2, .int (zI y2)), (3, .int (zI y))]) d_XheldBy_21 rfl (by decide) (fun _ => rfl) (fun y3_21 ey3_21 => ?_)
        refine rb_goto hB (tgt := 4) d_XheldBy_24 (by decide) ?_
        exact ih y2 y3_21 (by omega) (by omega) (by omega) (by omega)
      · refine rb_iload_n hB (j := 3) d_XheldBy_19 rfl ?_
        refine rn_istore_n hB (fun y => [(0, .ref (w.1 0)), (1, .int (zI r)), (2, .int (zI y)), (3, .int (zI y3))]) d_XheldBy_20 (by decide) (fun _ => rfl) (fun y2_20 ey2_20 => ?_)
        refine rn_iinc hB 3 (fun y => [(0, .ref (w.1 0)), (1, .int (zI r)), (2, .int (zI y2_20)), (3, .int (zI y))]) d_XheldBy_21 rfl (by decide) (fun _ => rfl) (fun y3_21 ey3_21 => ?_)
        refine rb_goto hB (tgt := 4) d_XheldBy_24 (by decide) ?_
        exact ih y2_20 y3_21 (by omega) (by omega) (by omega) (by omega)
set_option maxHeartbeats 4000000 in
theorem c_XheldBy {l : Launch} {D : va_G} {w : zW} {st : zM} {r : Int} (hg : Rg st) (hr : 0 ≤ r ∧ r < 8) : CI l D (tysX w) (wX w) y_XheldBy b_XheldBy 4 .int 0 [.ref (w.1 0), .int (zI r)] st (fun z u => (-1 ≤ z ∧ z < 4) ∧ u = st) := by
  refine conX_i [(0, .ref (w.1 0)), (1, .int (zI r))] rfl (Nat.le_of_ble_eq_true rfl) rfl (fun G hB hH hC hK hR => ?_)
  refine rb_iconst hB d_XheldBy_0 ?_
  refine rn_istore_n hB (fun y => [(0, .ref (w.1 0)), (1, .int (zI r)), (2, .int (zI y))]) d_XheldBy_1 (by decide) (fun _ => rfl) (fun y2_1 ey2_1 => ?_)
  refine rb_iconst hB d_XheldBy_2 ?_
  refine rn_istore_n hB (fun y => [(0, .ref (w.1 0)), (1, .int (zI r)), (2, .int (zI y2_1)), (3, .int (zI y))]) d_XheldBy_3 (by decide) (fun _ => rfl) (fun y3_3 ey3_3 => ?_)
  exact w_XheldBy_4 hg hr hB hH hC hK hR 5 y2_1 y3_3 (by omega) (by omega) (by omega) (by omega)
set_option maxHeartbeats 4000000 in
theorem w_XusedIn_4 {l : Launch} {D : va_G} {w : zW} {G : zG zM} {st : zM} {g : Int} (hg : Rg st) (hgg : 0 ≤ g ∧ g < 4) (hB : RB b_XusedIn 4 G) (hH : RH b_XusedIn G (w.1 0) (adX w) fxX nxX intsX boolsX) (hC : RC l D (tysX w) (wX w) R_X (rmK 0) b_XusedIn G (w.1 0)) (hK : RK b_XusedIn G (w.1 0)) (hR : ∀ (u : zM) (pc : Nat) (lv : zL) (z : Int), decode b_XusedIn pc = .ok (.ireturn, 1) → narrow .int (.int (zI z)) = .int (zI z) → (z = uI (st 1) g ∧ u = st) → G u pc lv [.int (zI z)]) :
    ∀ (n : Nat) (i : Nat) (y2 : Int) (y3 : Int), (i ≤ 4) → (4 < i + n) → (y3 = (i : Int)) → (y2 = smz i (fun i => if 0 < st 1 (g * 4 + i) then 1 else 0)) → G st 4 [(0, .ref (w.1 0)), (1, .int (zI g)), (2, .int (zI y2)), (3, .int (zI y3))] [] := by
  intro n
  induction n with
  | zero =>
    intro i y2 y3 h1 h2 e3 e2
    exfalso
    omega
  | succ n ih =>
    intro i y2 y3 h1 h2 e3 e2
    refine rb_iload_n hB (j := 3) d_XusedIn_4 rfl ?_
    refine rb_iconst hB d_XusedIn_5 ?_
    refine rb_icmp_ge hB (tgt := 31) d_XusedIn_6 (by omega) (by omega) (by decide) (fun c6 => ?_) (fun c6 => ?_)
    · refine rb_iload_n hB (j := 2) d_XusedIn_31 rfl ?_
      have ei : i = 4 := by omega
      subst ei
      exact hR _ _ _ _ d_XusedIn_32 rfl ⟨e2, rfl⟩
    · refine rb_aload_n hB (j := 0) d_XusedIn_9 rfl ?_
      refine rh_get hH 1 (by decide) d_XusedIn_10 rfl rfl ?_
      refine rb_iload_n hB (j := 1) d_XusedIn_13 rfl ?_
      refine rb_iconst hB d_XusedIn_14 ?_
      refine rb_imul hB d_XusedIn_15 ?_
      refine rb_iload_n hB (j := 3) d_XusedIn_16 rfl ?_
      refine rb_iadd hB d_XusedIn_17 ?_
      refine rh_ild hH 1 16 (by decide) d_XusedIn_18 rfl rfl (by omega) ?_
      have g1 := hg.1 (g * 4 + y3) (by omega) (by omega)
      refine rb_if_le hB (tgt := 25) d_XusedIn_19 (by omega) (by decide) (fun c19 => ?_) (fun c19 => ?_)
      · refine rn_iinc hB 3 (fun y => [(0, .ref (w.1 0)), (1, .int (zI g)), (2, .int (zI y2)), (3, .int (zI y))]) d_XusedIn_25 rfl (by decide) (fun _ => rfl) (fun y3_25 ey3_25 => ?_)
        refine rb_goto hB (tgt := 4) d_XusedIn_28 (by decide) ?_
        exact ih (i + 1) y2 y3_25 (by omega) (by omega) (by omega) (by rw [smz_s, ← e3]; rw [if_neg (by omega)]; omega)
      · refine rn_iinc hB 2 (fun y => [(0, .ref (w.1 0)), (1, .int (zI g)), (2, .int (zI y)), (3, .int (zI y3))]) d_XusedIn_22 rfl (by decide) (fun _ => rfl) (fun y2_22 ey2_22 => ?_)
        refine rn_iinc hB 3 (fun y => [(0, .ref (w.1 0)), (1, .int (zI g)), (2, .int (zI y2_22)), (3, .int (zI y))]) d_XusedIn_25 rfl (by decide) (fun _ => rfl) (fun y3_25 ey3_25 => ?_)
        refine rb_goto hB (tgt := 4) d_XusedIn_28 (by decide) ?_
        exact ih (i + 1) y2_22 y3_25 (by omega) (by omega) (by omega) (by rw [smz_s, ← e3]; rw [if_pos (by omega)]; omega)
set_option maxHeartbeats 4000000 in
theorem c_XusedIn {l : Launch} {D : va_G} {w : zW} {st : zM} {g : Int} (hg : Rg st) (hgg : 0 ≤ g ∧ g < 4) : CI l D (tysX w) (wX w) y_XusedIn b_XusedIn 4 .int 0 [.ref (w.1 0), .int (zI g)] st (fun z u => z = uI (st 1) g ∧ u = st) := by
  refine conX_i [(0, .ref (w.1 0)), (1, .int (zI g))] rfl (Nat.le_of_ble_eq_true rfl) rfl (fun G hB hH hC hK hR => ?_)
  refine rb_iconst hB d_XusedIn_0 ?_
  refine rn_istore_n hB (fun y => [(0, .ref (w.1 0)), (1, .int (zI g)), (2, .int (zI y))]) d_XusedIn_1 (by decide) (fun _ => rfl) (fun y2_1 ey2_1 => ?_)
  refine rb_iconst hB d_XusedIn_2 ?_
  refine rn_istore_n hB (fun y => [(0, .ref (w.1 0)), (1, .int (zI g)), (2, .int (zI y2_1)), (3, .int (zI y))]) d_XusedIn_3 (by decide) (fun _ => rfl) (fun y3_3 ey3_3 => ?_)
  exact w_XusedIn_4 hg hgg hB hH hC hK hR 5 0 y2_1 y3_3 (by omega) (by omega) (by omega) (by rw [ey2_1]; rfl)
set_option maxHeartbeats 4000000 in
theorem w_XlooseFrame_2 {l : Launch} {D : va_G} {w : zW} {G : zG zM} {st : zM} (hg : Rg st) (hB : RB b_XlooseFrame 2 G) (hH : RH b_XlooseFrame G (w.1 0) (adX w) fxX nxX intsX boolsX) (hC : RC l D (tysX w) (wX w) R_X (rmK 0) b_XlooseFrame G (w.1 0)) (hK : RK b_XlooseFrame G (w.1 0)) (hR : ∀ (u : zM) (pc : Nat) (lv : zL) (z : Int), decode b_XlooseFrame pc = .ok (.ireturn, 1) → narrow .int (.int (zI z)) = .int (zI z) → ((z = -1 ∧ (∀ f : Int, 0 ≤ f → f < 16 → st 1 f = 0 → 0 ≤ st 5 (f / 4)) ∨ (0 ≤ z ∧ z < 16 ∧ st 1 z = 0)) ∧ u = st) → G u pc lv [.int (zI z)]) :
    ∀ (n : Nat) (y1 : Int), (0 ≤ y1) → (y1 ≤ 16) → (16 < y1 + n) → (∀ f : Int, 0 ≤ f → f < y1 → st 1 f = 0 → 0 ≤ st 5 (f / 4)) → G st 2 [(0, .ref (w.1 0)), (1, .int (zI y1))] [] := by
  intro n
  induction n with
  | zero =>
    intro y1 h1 h2 h3 hy
    exfalso
    omega
  | succ n ih =>
    intro y1 h1 h2 h3 hy
    refine rb_iload_n hB (j := 1) d_XlooseFrame_2 rfl ?_
    refine rb_bipush hB d_XlooseFrame_3 (by decide) ?_
    refine rb_icmp_ge hB (tgt := 36) d_XlooseFrame_5 (by omega) (by omega) (by decide) (fun c5 => ?_) (fun c5 => ?_)
    · refine rb_iconst hB d_XlooseFrame_36 ?_
      exact hR _ _ _ _ d_XlooseFrame_37 rfl ⟨Or.inl ⟨rfl, fun f f0 f1 f2 => hy f f0 (by omega) f2⟩, rfl⟩
    · refine rb_aload_n hB (j := 0) d_XlooseFrame_8 rfl ?_
      refine rh_get hH 1 (by decide) d_XlooseFrame_9 rfl rfl ?_
      refine rb_iload_n hB (j := 1) d_XlooseFrame_12 rfl ?_
      refine rh_ild hH 1 16 (by decide) d_XlooseFrame_13 rfl rfl (by omega) ?_
      have g1 := hg.1 y1 (by omega) (by omega)
      have g5 := hg.2.2.2.2 (y1 / 4) (by omega) (by omega)
      refine rb_if_ne hB (tgt := 30) d_XlooseFrame_14 (by omega) (by decide) (fun c14 => ?_) (fun c14 => ?_)
      · refine rn_iinc hB 1 (fun y => [(0, .ref (w.1 0)), (1, .int (zI y))]) d_XlooseFrame_30 rfl (by decide) (fun _ => rfl) (fun y1_30 ey1_30 => ?_)
        refine rb_goto hB (tgt := 2) d_XlooseFrame_33 (by decide) ?_
        refine ih y1_30 (by omega) (by omega) (by omega) (fun f f0 f1 f2 => ?_)
        rcases (show f < y1 ∨ f = y1 by omega) with z | z
        · exact hy f f0 z f2
        · subst z; first | omega | exact absurd f2 (by omega)
      · refine rb_aload_n hB (j := 0) d_XlooseFrame_17 rfl ?_
        refine rh_get hH 5 (by decide) d_XlooseFrame_18 rfl rfl ?_
        refine rb_iload_n hB (j := 1) d_XlooseFrame_21 rfl ?_
        refine rb_iconst hB d_XlooseFrame_22 ?_
        refine rb_shr2 hB d_XlooseFrame_23 (by omega) ?_
        refine rh_ild hH 5 4 (by decide) d_XlooseFrame_24 rfl rfl (by omega) ?_
        refine rb_if_ge hB (tgt := 30) d_XlooseFrame_25 (by omega) (by decide) (fun c25 => ?_) (fun c25 => ?_)
        · refine rn_iinc hB 1 (fun y => [(0, .ref (w.1 0)), (1, .int (zI y))]) d_XlooseFrame_30 rfl (by decide) (fun _ => rfl) (fun y1_30 ey1_30 => ?_)
          refine rb_goto hB (tgt := 2) d_XlooseFrame_33 (by decide) ?_
          refine ih y1_30 (by omega) (by omega) (by omega) (fun f f0 f1 f2 => ?_)
          rcases (show f < y1 ∨ f = y1 by omega) with z | z
          · exact hy f f0 z f2
          · subst z; first | omega | exact absurd f2 (by omega)
        · refine rb_iload_n hB (j := 1) d_XlooseFrame_28 rfl ?_
          exact hR _ _ _ _ d_XlooseFrame_29 rfl ⟨Or.inr ⟨by omega, by omega, by omega⟩, rfl⟩
set_option maxHeartbeats 4000000 in
theorem c_XlooseFrame {l : Launch} {D : va_G} {w : zW} {st : zM} (hg : Rg st) : CI l D (tysX w) (wX w) y_XlooseFrame b_XlooseFrame 2 .int 0 [.ref (w.1 0)] st (fun z u => (z = -1 ∧ (∀ f : Int, 0 ≤ f → f < 16 → st 1 f = 0 → 0 ≤ st 5 (f / 4)) ∨ (0 ≤ z ∧ z < 16 ∧ st 1 z = 0)) ∧ u = st) := by
  refine conX_i [(0, .ref (w.1 0))] rfl (Nat.le_of_ble_eq_true rfl) rfl (fun G hB hH hC hK hR => ?_)
  refine rb_iconst hB d_XlooseFrame_0 ?_
  refine rn_istore_n hB (fun y => [(0, .ref (w.1 0)), (1, .int (zI y))]) d_XlooseFrame_1 (by decide) (fun _ => rfl) (fun y1_1 ey1_1 => ?_)
  exact w_XlooseFrame_2 hg hB hH hC hK hR 17 y1_1 (by omega) (by omega) (by omega) (fun f f0 f1 => by omega)
end
section
/-! the reference's state: 0 state, 1 words, 2 common. What each call does to it and answers. -/
def pr (μ : zM) (p : Int) : Int := smz 16 (fun v => if μ 0 (16 * p + v) ≠ 0 then 1 else 0)
def nC (μ : zM) : Int := smz 16 (fun v => if μ 2 v ≠ 0 then 1 else 0)
def nIU (μ : zM) : Int := pr μ 0 + pr μ 1 - nC μ
def tM (μ : zM) (q : Int) : zM := fun j i => if j = 0 ∧ i = q then 1 else if j = 1 ∧ 4 * q ≤ i ∧ i < 4 * q + 4 then 0 else μ j i
def touchM (μ : zM) (q : Int) : zM := if μ 0 q ≠ 0 then μ else if nIU μ = 16 then μ else tM μ q
def touchR (μ : zM) (q : Int) : Int := if μ 0 q ≠ 0 then 0 else if nIU μ = 16 then -2 else 1
def ownR (μ : zM) (q : Int) : Int := if μ 0 q = 2 then -4 else if μ 0 q = 0 then (if nIU μ = 16 then -2 else 0) else if μ 2 (q % 16) ≠ 0 then (if nIU μ = 16 then -2 else 0) else 0
def ownM (μ : zM) (q : Int) : zM := if μ 0 q = 2 then μ else if μ 0 q = 0 then touchM μ q else if μ 2 (q % 16) ≠ 0 then (if nIU μ = 16 then μ else up μ 2 (q % 16) 0) else μ
def rd (μ : zM) (q w : Int) : Int := if μ 0 q = 0 then 0 else μ 1 (4 * q + w)
def remM (μ : zM) (q : Int) : zM := up (up μ 0 q 0) 2 (q % 16) 0
/-- the class and the reference say the same -/
def Rel (st μ : zM) : Prop :=
  Rg st ∧ Cr (fr st) (st 1) ∧
  (∀ q : Int, 0 ≤ q → q < 32 → 0 ≤ st 4 (q / 4) → fr st (oth q) ≠ fr st q) ∧
  (∀ q : Int, 0 ≤ q → q < 32 → μ 0 q = if 0 ≤ fr st q then 1 + st 3 q else 0) ∧
  (∀ q w : Int, 0 ≤ q → q < 32 → 0 ≤ w → w < 4 → 0 ≤ fr st q → μ 1 (4 * q + w) = st 0 (fr st q * 4 + w)) ∧
  (∀ v : Int, 0 ≤ v → v < 16 → μ 2 v = if 0 ≤ fr st v ∧ fr st v = fr st (16 + v) then 1 else 0)
theorem fr_lg {st : zM} {q : Int} (h : 0 ≤ st 4 (q / 4)) : fr st q = st 4 (q / 4) * 4 + q % 4 := by unfold fr FF; rw [if_pos h]
theorem fr_sm {st : zM} {q : Int} (h : st 4 (q / 4) < 0) : fr st q = st 2 q := by unfold fr FF; rw [if_neg (by omega)]
theorem fr_neg {st : zM} {q : Int} (hq : 0 ≤ q) (h : fr st q < 0) : st 4 (q / 4) < 0 := by
  rcases (show 0 ≤ st 4 (q / 4) ∨ st 4 (q / 4) < 0 by omega) with z | z
  · rw [fr_lg z] at h; omega
  · exact z
theorem fr_eq {st u : zM} (e2 : u 2 = st 2) (e4 : u 4 = st 4) : fr u = fr st := by
  funext q
  unfold fr
  rw [e2, e4]
/-- only what the reference doesn't see has changed -/
theorem Rel_same {st u μ : zM} (h : Rel st μ) (hg : Rg u) (eF : ∀ q : Int, 0 ≤ q → q < 32 → fr u q = fr st q) (e1 : ∀ f : Int, 0 ≤ f → f < 16 → u 1 f = st 1 f)
    (hL : ∀ q : Int, 0 ≤ q → q < 32 → 0 ≤ u 4 (q / 4) → fr st (oth q) ≠ fr st q) (e3 : ∀ q : Int, 0 ≤ q → q < 32 → u 3 q = st 3 q) (e0 : u 0 = st 0) : Rel u μ := by
  obtain ⟨g, c, L, m0, m1, m2⟩ := h
  refine ⟨hg, Cr_congr c eF e1, ?_, ?_, ?_, ?_⟩
  · intro q h0 h1 h2
    obtain ⟨o0, o1, -, -⟩ := oth_in h0 h1
    rw [eF q h0 h1, eF _ o0 o1]
    exact hL q h0 h1 h2
  · intro q h0 h1
    rw [eF q h0 h1, e3 q h0 h1]
    exact m0 q h0 h1
  · intro q w h0 h1 w0 w1 hp
    rw [eF q h0 h1] at hp ⊢
    rw [e0]
    exact m1 q w h0 h1 w0 w1 hp
  · intro v v0 v1
    rw [eF v v0 (by omega), eF (16 + v) (by omega) (by omega)]
    exact m2 v v0 v1
theorem Rel_H {st u μ : zM} (h : Rel st μ) (e : ∀ j : Nat, j ≠ 5 → j ≠ 6 → j ≠ 7 → j ≠ 8 → u j = st j) (h5 : ∀ i : Int, 0 ≤ i → i < 4 → -1 ≤ u 5 i ∧ u 5 i < 8) : Rel u μ := by
  have e0 := e 0 (by decide) (by decide) (by decide) (by decide)
  have e1 := e 1 (by decide) (by decide) (by decide) (by decide)
  have e2 := e 2 (by decide) (by decide) (by decide) (by decide)
  have e3 := e 3 (by decide) (by decide) (by decide) (by decide)
  have e4 := e 4 (by decide) (by decide) (by decide) (by decide)
  obtain ⟨g1, g2, g3, g4, g5⟩ := h.1
  have hL := h.2.2.1
  refine Rel_same h ⟨by rw [e1]; exact g1, by rw [e2]; exact g2, by rw [e3]; exact g3, by rw [e4]; exact g4, h5⟩ (fun q _ _ => by rw [fr_eq e2 e4]) (fun f _ _ => by rw [e1]) ?_ (fun q _ _ => by rw [e3]) e0
  intro q h0 h1 h2
  rw [e4] at h2
  exact hL q h0 h1 h2
theorem Rel_HO {st u μ : zM} (h : Rel st μ) (e : HO st u) : Rel u μ := Rel_H h (fun j h5 _ _ _ => e.1 j h5) (e.Rg h.1).2.2.2.2
/-- other views of the reference's state that agree where it counts -/
theorem Rel_mu {st μ ν : zM} (h : Rel st μ) (e0 : ∀ q : Int, 0 ≤ q → q < 32 → ν 0 q = μ 0 q) (e1 : ∀ q w : Int, 0 ≤ q → q < 32 → 0 ≤ w → w < 4 → μ 0 q ≠ 0 → ν 1 (4 * q + w) = μ 1 (4 * q + w)) (e2 : ∀ v : Int, 0 ≤ v → v < 16 → ν 2 v = μ 2 v) : Rel st ν := by
  obtain ⟨g, c, L, m0, m1, m2⟩ := h
  refine ⟨g, c, L, fun q h0 h1 => by rw [e0 q h0 h1]; exact m0 q h0 h1, fun q w h0 h1 w0 w1 hp => ?_, fun v v0 v1 => by rw [e2 v v0 v1]; exact m2 v v0 v1⟩
  rw [e1 q w h0 h1 w0 w1 ?_]
  · exact m1 q w h0 h1 w0 w1 hp
  · rw [m0 q h0 h1, if_pos hp]
    have := g.2.2.1 q h0 h1
    omega
theorem demL_e (st : zM) (r e n : Int) (j : Nat) (i : Int) : demL st r e n j i = if j = 4 ∧ i = r then -1 else if j = 2 ∧ r * 4 ≤ i ∧ i < r * 4 + n then e * 4 + (i - r * 4) else st j i := rfl
theorem fr_dem {st : zM} {r q : Int} (h0 : 0 ≤ q) : fr (demS st r) q = fr st q := by
  unfold demS
  split
  · rfl
  · rename_i hr
    by_cases e : q / 4 = r
    · rw [fr_lg (st := st) (by rw [e]; omega), fr_sm (st := demL st r (st 4 r) 4) (by rw [demL_e, if_pos ⟨rfl, e⟩]; decide), demL_e, if_neg (by omega), if_pos (by omega), e]
      omega
    · have e4 : demL st r (st 4 r) 4 4 (q / 4) = st 4 (q / 4) := by
        rw [demL_e, if_neg (by omega), if_neg (by omega)]
      rcases (show 0 ≤ st 4 (q / 4) ∨ st 4 (q / 4) < 0 by omega) with z | z
      · rw [fr_lg z, fr_lg (st := demL st r (st 4 r) 4) (by rw [e4]; exact z), e4]
      · rw [fr_sm z, fr_sm (st := demL st r (st 4 r) 4) (by rw [e4]; exact z), demL_e, if_neg (by omega), if_neg (by omega)]
theorem dem_j {st : zM} {r : Int} {j : Nat} (h2 : j ≠ 2) (h4 : j ≠ 4) : demS st r j = st j := by
  unfold demS
  split
  · rfl
  · funext i
    rw [demL_e, if_neg (by omega), if_neg (by omega)]
theorem dem_4 {st : zM} {r i : Int} : demS st r 4 i = if i = r ∧ 0 ≤ st 4 r then -1 else st 4 i := by
  unfold demS
  split
  · rw [if_neg (by omega)]
  · rw [demL_e]
    by_cases e : i = r
    · rw [if_pos ⟨rfl, e⟩, if_pos ⟨e, by omega⟩]
    · rw [if_neg (by omega), if_neg (by omega), if_neg (by omega)]
theorem Rg_dem {st : zM} {r : Int} (hg : Rg st) (hr : 0 ≤ r ∧ r < 8) : Rg (demS st r) := by
  have b4 := hg.2.2.2.1 r hr.1 hr.2
  refine ⟨by rw [dem_j (by decide) (by decide)]; exact hg.1, ?_, by rw [dem_j (by decide) (by decide)]; exact hg.2.2.1, ?_, by rw [dem_j (by decide) (by decide)]; exact hg.2.2.2.2⟩
  · intro i h0 h1
    have a := hg.2.1 i h0 h1
    unfold demS
    split
    · exact a
    · rw [demL_e, if_neg (by omega)]
      split <;> omega
  · intro i h0 h1
    have a := hg.2.2.2.1 i h0 h1
    rw [dem_4]
    split <;> omega
theorem Rel_dem {st μ : zM} {r : Int} (h : Rel st μ) (hr : 0 ≤ r ∧ r < 8) : Rel (demS st r) μ := by
  refine Rel_same h (Rg_dem h.1 hr) (fun q h0 _ => fr_dem h0) (fun f _ _ => by rw [dem_j (by decide) (by decide)]) ?_ (fun q _ _ => by rw [dem_j (by decide) (by decide)]) (dem_j (by decide) (by decide))
  intro q h0 h1 h2
  rw [dem_4] at h2
  split at h2
  · omega
  · exact h.2.2.1 q h0 h1 h2
/-- how many use a page's frame -/
theorem Rel_users {st μ : zM} {q : Int} (h : Rel st μ) (h0 : 0 ≤ q) (h1 : q < 32) (hp : 0 ≤ fr st q) : st 1 (fr st q) = 1 + μ 2 (q % 16) ∧ (μ 2 (q % 16) = 0 ∨ μ 2 (q % 16) = 1) ∧ (μ 2 (q % 16) = 1 ↔ fr st (oth q) = fr st q) := by
  obtain ⟨g, c, L, m0, m1, m2⟩ := h
  have a := c.2.2.1 q h0 h1 hp
  have b := m2 (q % 16) (by omega) (by omega)
  have key : (0 ≤ fr st (q % 16) ∧ fr st (q % 16) = fr st (16 + q % 16)) ↔ fr st (oth q) = fr st q := by
    rcases (show q < 16 ∨ 16 ≤ q by omega) with z | z
    · rw [oth_lo z, show q % 16 = q by omega]
      constructor
      · intro k; exact k.2.symm
      · intro k; exact ⟨hp, k.symm⟩
    · rw [show q % 16 = q - 16 by omega, show 16 + (q - 16) = q by omega, show oth q = q - 16 by unfold oth; rw [if_neg (by omega)]]
      constructor
      · intro k; exact k.2
      · intro k; exact ⟨by omega, k⟩
  by_cases z : fr st (oth q) = fr st q
  · rw [if_pos z] at a
    rw [if_pos (key.mpr z)] at b
    exact ⟨by omega, by omega, fun _ => z, fun _ => b⟩
  · rw [if_neg z] at a
    rw [if_neg (fun y => z (key.mp y))] at b
    exact ⟨by omega, by omega, fun y => by omega, fun y => absurd y z⟩
theorem Rel_pres {st μ : zM} {q : Int} (h : Rel st μ) (h0 : 0 ≤ q) (h1 : q < 32) : (μ 0 q = 0 ↔ fr st q < 0) ∧ (0 ≤ fr st q → μ 0 q = 1 + st 3 q) ∧ (0 ≤ μ 0 q ∧ μ 0 q ≤ 2) := by
  have a := h.2.2.2.1 q h0 h1
  have b := h.1.2.2.1 q h0 h1
  split at a
  · exact ⟨⟨fun z => by omega, fun z => by omega⟩, fun _ => a, by omega⟩
  · exact ⟨⟨fun z => by omega, fun z => by omega⟩, fun z => by omega, by omega⟩
theorem Rel_com {st μ : zM} {v : Int} (h : Rel st μ) (h0 : 0 ≤ v) (h1 : v < 16) : 0 ≤ μ 2 v ∧ μ 2 v ≤ 1 := by
  have a := h.2.2.2.2.2 v h0 h1
  split at a <;> omega
theorem Rel_frb {st μ : zM} {q : Int} (h : Rel st μ) (h0 : 0 ≤ q) (h1 : q < 32) : -1 ≤ fr st q ∧ fr st q < 16 := h.2.1.1 q h0 h1
/-- the two counts of frames in use agree -/
theorem Rel_count {st μ : zM} (h : Rel st μ) : nU (st 1) = nIU μ := by
  rw [Cr_count h.2.1 (fun f f0 f1 => (h.1.1 f f0 f1).1)]
  unfold nIU
  have e0 : ∀ p : Int, p = 0 ∨ p = 1 → nP (fr st) (16 * p) = pr μ p := by
    intro p hp
    refine smz_c (fun v v0 v1 => ?_)
    have a := (Rel_pres h (q := 16 * p + v) (by omega) (by omega)).1
    show (if 0 ≤ fr st (16 * p + v) then (1 : Int) else 0) = if μ 0 (16 * p + v) ≠ 0 then 1 else 0
    by_cases z : 0 ≤ fr st (16 * p + v)
    · rw [if_pos z, if_pos (fun y => by have := a.mp y; omega)]
    · rw [if_neg z, if_neg (fun y => y (a.mpr (by omega)))]
  have e1 : nS (fr st) = nC μ := by
    refine smz_c (fun v v0 v1 => ?_)
    have a := h.2.2.2.2.2 v v0 v1
    show (if 0 ≤ fr st v ∧ fr st v = fr st (16 + v) then (1 : Int) else 0) = if μ 2 v ≠ 0 then 1 else 0
    by_cases z : 0 ≤ fr st v ∧ fr st v = fr st (16 + v)
    · rw [if_pos z] at a ⊢
      rw [if_pos (by omega)]
    · rw [if_neg z] at a ⊢
      rw [if_neg (by omega)]
  have a0 := e0 0 (Or.inl rfl)
  have a1 := e0 1 (Or.inr rfl)
  rw [show (16 : Int) * 0 = 0 from rfl] at a0
  rw [show (16 : Int) * 1 = 16 from rfl] at a1
  rw [a0, a1, e1]
theorem nU_free {st : zM} (hg : Rg st) (h : nU (st 1) ≠ 16) : ∃ f : Int, 0 ≤ f ∧ f < 16 ∧ st 1 f = 0 := by
  obtain ⟨f, f0, f1, a⟩ := smz_free (n := 16) (g := fun f => if 0 < st 1 f then 1 else 0) (fun i _ _ => by split <;> omega) h
  refine ⟨f, f0, f1, ?_⟩
  have b := hg.1 f f0 f1
  have c : (if 0 < st 1 f then (1 : Int) else 0) = 0 := a
  split at c <;> omega
theorem nU_b (U : Int → Int) : 0 ≤ nU U ∧ nU U ≤ 16 := smz_le (fun i _ _ => by split <;> omega)
/-- a page comes in -/
theorem Rel_add {st u μ : zM} {q f : Int} (h : Rel st μ) (hq : 0 ≤ q ∧ q < 32) (hF : fr st q < 0) (hf : 0 ≤ f ∧ f < 16) (hU : st 1 f = 0)
    (e0 : ∀ i : Int, u 0 i = if f * 4 ≤ i ∧ i < f * 4 + 4 then 0 else st 0 i) (e1 : ∀ i : Int, u 1 i = if i = f then 1 else st 1 i) (e2 : ∀ i : Int, u 2 i = if i = q then f else st 2 i)
    (e3 : ∀ i : Int, u 3 i = if i = q then 0 else st 3 i) (e4 : u 4 = st 4) (e5 : ∀ i : Int, 0 ≤ i → i < 4 → -1 ≤ u 5 i ∧ u 5 i < 8) : Rel u (tM μ q) := by
  obtain ⟨g, c, L, m0, m1, m2⟩ := h
  have hlg := fr_neg hq.1 hF
  have eF : ∀ r : Int, 0 ≤ r → r < 32 → fr u r = if r = q then f else fr st r := by
    intro r r0 r1
    unfold fr FF
    rw [e4, e2]
    by_cases z : r = q
    · rw [if_pos z, z, if_neg (by omega), if_pos rfl]
    · rw [if_neg z, if_neg z]
  have nf : ∀ r : Int, 0 ≤ r → r < 32 → fr st r ≠ f := by
    intro r r0 r1 e
    have h2 := c.2.2.1 r r0 r1 (by omega)
    rw [e, hU] at h2
    split at h2 <;> omega
  obtain ⟨p0, p1, p2, p3⟩ := oth_in hq.1 hq.2
  refine ⟨⟨?_, ?_, ?_, by rw [e4]; exact g.2.2.2.1, e5⟩, Cr_add c hq hF hf hU eF (fun i _ _ => e1 i), ?_, ?_, ?_, ?_⟩
  · intro i h0 h1
    have a := g.1 i h0 h1
    rw [e1]; split <;> omega
  · intro i h0 h1
    have a := g.2.1 i h0 h1
    rw [e2]; split <;> omega
  · intro i h0 h1
    have a := g.2.2.1 i h0 h1
    rw [e3]; split <;> omega
  · intro r r0 r1 hl
    obtain ⟨o0, o1, o2, o3⟩ := oth_in r0 r1
    rw [e4] at hl
    rw [eF r r0 r1, eF _ o0 o1]
    have hn : r ≠ q := fun z => by rw [z] at hl; omega
    rw [if_neg hn]
    by_cases z : oth r = q
    · rw [if_pos z]; exact fun y => nf r r0 r1 y.symm
    · rw [if_neg z]; exact L r r0 r1 hl
  · intro r r0 r1
    rw [eF r r0 r1, e3]
    by_cases z : r = q
    · rw [if_pos z, if_pos z, if_pos hf.1]
      show (if 0 = 0 ∧ r = q then (1 : Int) else _) = _
      rw [if_pos ⟨rfl, z⟩]; rfl
    · rw [if_neg z, if_neg z]
      show (if 0 = 0 ∧ r = q then (1 : Int) else _) = _
      rw [if_neg (fun y => z y.2), if_neg (by omega)]
      exact m0 r r0 r1
  · intro r x r0 r1 x0 x1 hp
    rw [eF r r0 r1] at hp ⊢
    rw [e0]
    show (if 1 = 0 ∧ _ then (1 : Int) else if 1 = 1 ∧ 4 * q ≤ 4 * r + x ∧ 4 * r + x < 4 * q + 4 then 0 else μ 1 (4 * r + x)) = _
    rw [if_neg (by omega)]
    by_cases z : r = q
    · rw [if_pos z, if_pos (by omega), if_pos (by omega)]
    · rw [if_neg z] at hp ⊢
      have hb := c.1 r r0 r1
      have := nf r r0 r1
      rw [if_neg (by omega), if_neg (by omega)]
      exact m1 r x r0 r1 x0 x1 hp
  · intro v v0 v1
    rw [eF v v0 (by omega), eF (16 + v) (by omega) (by omega)]
    show (if 2 = 0 ∧ _ then (1 : Int) else if 2 = 1 ∧ _ then 0 else μ 2 v) = _
    rw [if_neg (by omega), if_neg (by omega), m2 v v0 v1]
    by_cases z : v = q
    · rw [if_pos z, if_neg (show ¬ 16 + v = q by omega)]
      rw [if_neg (fun y => by have := y.1; rw [z] at this; omega), if_neg (fun y => nf (16 + v) (by omega) (by omega) y.2.symm)]
    · rw [if_neg z]
      by_cases z2 : 16 + v = q
      · rw [if_pos z2, if_neg (fun y => by have := y.2; rw [z2] at this; omega), if_neg (fun y => nf v v0 (by omega) y.2)]
      · rw [if_neg z2]
/-- a page goes -/
theorem Rel_rem {st u μ : zM} {q : Int} (h : Rel st μ) (hq : 0 ≤ q ∧ q < 32) (hF : 0 ≤ fr st q) (hL : st 4 (q / 4) < 0)
    (e0 : u 0 = st 0) (e1 : ∀ i : Int, u 1 i = if i = fr st q then st 1 (fr st q) - 1 else st 1 i) (e2 : ∀ i : Int, u 2 i = if i = q then -1 else st 2 i)
    (e3 : u 3 = st 3) (e4 : u 4 = st 4) (e5 : ∀ i : Int, 0 ≤ i → i < 4 → -1 ≤ u 5 i ∧ u 5 i < 8) : Rel u (remM μ q) := by
  obtain ⟨g, c, L, m0, m1, m2⟩ := h
  have eF : ∀ r : Int, 0 ≤ r → r < 32 → fr u r = if r = q then -1 else fr st r := by
    intro r r0 r1
    unfold fr FF
    rw [e4, e2]
    by_cases z : r = q
    · rw [if_pos z, z, if_neg (by omega), if_pos rfl]
    · rw [if_neg z, if_neg z]
  have hb := c.1 q hq.1 hq.2
  have hu := c.2.2.1 q hq.1 hq.2 hF
  refine ⟨⟨?_, ?_, by rw [e3]; exact g.2.2.1, by rw [e4]; exact g.2.2.2.1, e5⟩, Cr_rem c hq hF eF (fun i _ _ => e1 i), ?_, ?_, ?_, ?_⟩
  · intro i h0 h1
    have a := g.1 i h0 h1
    rw [e1]
    split at hu <;> split <;> omega
  · intro i h0 h1
    have a := g.2.1 i h0 h1
    rw [e2]; split <;> omega
  · intro r r0 r1 hl
    obtain ⟨o0, o1, o2, o3⟩ := oth_in r0 r1
    rw [e4] at hl
    rw [eF r r0 r1, eF _ o0 o1]
    have hn : r ≠ q := fun z => by rw [z] at hl; omega
    rw [if_neg hn]
    by_cases z : oth r = q
    · rw [if_pos z]
      have := fr_lg hl
      omega
    · rw [if_neg z]; exact L r r0 r1 hl
  · intro r r0 r1
    unfold remM
    rw [eF r r0 r1, e3, up_e, if_neg (by omega), up_e]
    by_cases z : r = q
    · rw [if_pos z, if_pos ⟨rfl, z⟩, if_neg (by omega)]
    · rw [if_neg z, if_neg (fun y => z y.2)]
      exact m0 r r0 r1
  · intro r x r0 r1 x0 x1 hp
    unfold remM
    rw [eF r r0 r1] at hp ⊢
    rw [e0, up_e, if_neg (by omega), up_e, if_neg (by omega)]
    by_cases z : r = q
    · rw [if_pos z] at hp; omega
    · rw [if_neg z] at hp ⊢
      exact m1 r x r0 r1 x0 x1 hp
  · intro v v0 v1
    unfold remM
    rw [eF v v0 (by omega), eF (16 + v) (by omega) (by omega), up_e]
    by_cases z : v = q % 16
    · rw [if_pos ⟨rfl, z⟩]
      symm
      refine if_neg (fun y => ?_)
      by_cases z2 : v = q
      · rw [if_pos z2] at y; omega
      · rw [if_neg z2, if_pos (by omega)] at y; omega
    · rw [if_neg (fun y => z y.2), up_e, if_neg (by omega), if_neg (show ¬ v = q by omega), if_neg (show ¬ 16 + v = q by omega)]
      exact m2 v v0 v1
/-- a page moves to a free frame, its words with it -/
theorem Rel_mv {st u μ : zM} {q t : Int} (h : Rel st μ) (hq : 0 ≤ q ∧ q < 32) (hF : 0 ≤ fr st q) (hL : st 4 (q / 4) < 0) (ht : 0 ≤ t ∧ t < 16) (hU : st 1 t = 0)
    (e0 : ∀ i : Int, u 0 i = if t * 4 ≤ i ∧ i < t * 4 + 4 then st 0 (fr st q * 4 + (i - t * 4)) else st 0 i)
    (e1 : ∀ i : Int, u 1 i = if i = t then 1 else if i = fr st q then st 1 (fr st q) - 1 else st 1 i) (e2 : ∀ i : Int, u 2 i = if i = q then t else st 2 i)
    (e3 : u 3 = st 3) (e4 : u 4 = st 4) (e5 : ∀ i : Int, 0 ≤ i → i < 4 → -1 ≤ u 5 i ∧ u 5 i < 8) : Rel u (up μ 2 (q % 16) 0) := by
  obtain ⟨g, c, L, m0, m1, m2⟩ := h
  have eF : ∀ r : Int, 0 ≤ r → r < 32 → fr u r = if r = q then t else fr st r := by
    intro r r0 r1
    unfold fr FF
    rw [e4, e2]
    by_cases z : r = q
    · rw [if_pos z, z, if_neg (by omega), if_pos rfl]
    · rw [if_neg z, if_neg z]
  have nf : ∀ r : Int, 0 ≤ r → r < 32 → fr st r ≠ t := by
    intro r r0 r1 e
    have h2 := c.2.2.1 r r0 r1 (by omega)
    rw [e, hU] at h2
    split at h2 <;> omega
  have hb := c.1 q hq.1 hq.2
  have hu := c.2.2.1 q hq.1 hq.2 hF
  have hnq := nf q hq.1 hq.2
  have c1 : Cr (fun r => if r = q then -1 else fr st r) (fun i => if i = fr st q then st 1 (fr st q) - 1 else st 1 i) := Cr_rem c hq hF (fun r _ _ => rfl) (fun i _ _ => rfl)
  have c2 : Cr (fr u) (u 1) := by
    refine Cr_add (q := q) (f := t) c1 hq (by show (if q = q then (-1 : Int) else _) < 0; rw [if_pos rfl]; decide) ht (by show (if t = fr st q then _ else st 1 t) = 0; rw [if_neg (fun y => hnq y.symm)]; exact hU) ?_ (fun i _ _ => e1 i)
    intro r r0 r1
    rw [eF r r0 r1]
    by_cases z : r = q
    · rw [if_pos z, if_pos z]
    · rw [if_neg z, if_neg z]
      show fr st r = if r = q then -1 else fr st r
      rw [if_neg z]
  refine ⟨⟨?_, ?_, by rw [e3]; exact g.2.2.1, by rw [e4]; exact g.2.2.2.1, e5⟩, c2, ?_, ?_, ?_, ?_⟩
  · intro i h0 h1
    have a := g.1 i h0 h1
    rw [e1]
    split at hu <;> (repeat' split) <;> omega
  · intro i h0 h1
    have a := g.2.1 i h0 h1
    rw [e2]; split <;> omega
  · intro r r0 r1 hl
    obtain ⟨o0, o1, o2, o3⟩ := oth_in r0 r1
    rw [e4] at hl
    rw [eF r r0 r1, eF _ o0 o1]
    have hn : r ≠ q := fun z => by rw [z] at hl; omega
    rw [if_neg hn]
    by_cases z : oth r = q
    · rw [if_pos z]; exact fun y => nf r r0 r1 y.symm
    · rw [if_neg z]; exact L r r0 r1 hl
  · intro r r0 r1
    rw [eF r r0 r1, e3, up_e, if_neg (by omega), m0 r r0 r1]
    by_cases z : r = q
    · rw [if_pos z, if_pos ht.1, z, if_pos hF]
    · rw [if_neg z]
  · intro r x r0 r1 x0 x1 hp
    rw [eF r r0 r1] at hp ⊢
    rw [e0, up_e, if_neg (by omega)]
    by_cases z : r = q
    · rw [if_pos z, if_pos (by omega), z, m1 q x hq.1 hq.2 x0 x1 hF]
      congr 1; omega
    · rw [if_neg z] at hp ⊢
      have hb := c.1 r r0 r1
      have := nf r r0 r1
      rw [if_neg (by omega)]
      exact m1 r x r0 r1 x0 x1 hp
  · intro v v0 v1
    rw [eF v v0 (by omega), eF (16 + v) (by omega) (by omega), up_e]
    by_cases z : v = q % 16
    · rw [if_pos ⟨rfl, z⟩]
      symm
      refine if_neg (fun y => ?_)
      by_cases z2 : v = q
      · rw [if_pos z2, if_neg (by omega)] at y
        exact nf (16 + v) (by omega) (by omega) y.2.symm
      · rw [if_neg z2, if_pos (by omega)] at y
        exact nf v v0 (by omega) y.2
    · rw [if_neg (fun y => z y.2), if_neg (show ¬ v = q by omega), if_neg (show ¬ 16 + v = q by omega)]
      exact m2 v v0 v1
theorem up_id {μ : zM} {j : Nat} {i v : Int} (h : μ j i = v) : up μ j i v = μ := by
  funext j' i'
  rw [up_e]
  split
  · rename_i z
    rw [z.1, z.2, h]
  · rfl
/-- a word of an unshared page is written -/
theorem Rel_word {st u μ : zM} {q w x : Int} (h : Rel st μ) (hq : 0 ≤ q ∧ q < 32) (hw : 0 ≤ w ∧ w < 4) (hF : 0 ≤ fr st q) (hc : μ 2 (q % 16) = 0) (e : u = up st 0 (fr st q * 4 + w) x) : Rel u (up μ 1 (4 * q + w) x) := by
  have hs := (Rel_users h hq.1 hq.2 hF).2.2
  obtain ⟨g, c, L, m0, m1, m2⟩ := h
  have ej : ∀ j : Nat, j ≠ 0 → u j = st j := fun j hj => by rw [e, up_j _ _ _ _ hj]
  have e1 := ej 1 (by decide)
  have e2 := ej 2 (by decide)
  have e3 := ej 3 (by decide)
  have e4 := ej 4 (by decide)
  have e5 := ej 5 (by decide)
  have eF : fr u = fr st := fr_eq e2 e4
  refine ⟨⟨by rw [e1]; exact g.1, by rw [e2]; exact g.2.1, by rw [e3]; exact g.2.2.1, by rw [e4]; exact g.2.2.2.1, by rw [e5]; exact g.2.2.2.2⟩, by rw [eF, e1]; exact c, ?_, ?_, ?_, ?_⟩
  · intro r r0 r1 hl
    rw [eF]; rw [e4] at hl
    exact L r r0 r1 hl
  · intro r r0 r1
    rw [eF, e3, up_e, if_neg (by omega)]
    exact m0 r r0 r1
  · intro r y r0 r1 y0 y1 hp
    rw [eF] at hp ⊢
    rw [e, up_e, up_e]
    by_cases z : r = q
    · rw [z]
      by_cases z2 : y = w
      · rw [if_pos ⟨rfl, by omega⟩, if_pos ⟨rfl, by omega⟩]
      · rw [if_neg (by omega), if_neg (by omega)]
        exact m1 q y hq.1 hq.2 y0 y1 hF
    · have hn : fr st r ≠ fr st q := by
        intro k
        rcases c.2.1 q r hq.1 hq.2 r0 r1 hF k.symm with z1 | z1
        · exact z z1
        · rw [z1] at k
          have := hs.mpr k
          omega
      rw [if_neg (by omega), if_neg (by omega)]
      exact m1 r y r0 r1 y0 y1 hp
  · intro v v0 v1
    rw [eF, up_e, if_neg (by omega)]
    exact m2 v v0 v1
/-- a page's lock is set -/
theorem Rel_lock {st u μ : zM} {q b : Int} (h : Rel st μ) (hq : 0 ≤ q ∧ q < 32) (hF : 0 ≤ fr st q) (hb : 0 ≤ b ∧ b ≤ 1) (e : u = up st 3 q b) : Rel u (up μ 0 q (1 + b)) := by
  obtain ⟨g, c, L, m0, m1, m2⟩ := h
  have ej : ∀ j : Nat, j ≠ 3 → u j = st j := fun j hj => by rw [e, up_j _ _ _ _ hj]
  have e0 := ej 0 (by decide)
  have e1 := ej 1 (by decide)
  have e2 := ej 2 (by decide)
  have e4 := ej 4 (by decide)
  have e5 := ej 5 (by decide)
  have eF : fr u = fr st := fr_eq e2 e4
  refine ⟨⟨by rw [e1]; exact g.1, by rw [e2]; exact g.2.1, ?_, by rw [e4]; exact g.2.2.2.1, by rw [e5]; exact g.2.2.2.2⟩, by rw [eF, e1]; exact c, ?_, ?_, ?_, ?_⟩
  · intro i h0 h1
    have a := g.2.2.1 i h0 h1
    rw [e, up_e]; split <;> omega
  · intro r r0 r1 hl
    rw [eF]; rw [e4] at hl
    exact L r r0 r1 hl
  · intro r r0 r1
    rw [eF, e, up_e, up_e]
    by_cases z : r = q
    · rw [z, if_pos ⟨rfl, rfl⟩, if_pos hF, if_pos ⟨rfl, rfl⟩]
    · rw [if_neg (show ¬ (0 = 0 ∧ r = q) from fun y => z y.2), if_neg (show ¬ (3 = 3 ∧ r = q) from fun y => z y.2)]
      exact m0 r r0 r1
  · intro r y r0 r1 y0 y1 hp
    rw [eF] at hp ⊢
    rw [e0, up_e, if_neg (by omega)]
    exact m1 r y r0 r1 y0 y1 hp
  · intro v v0 v1
    rw [eF, up_e, if_neg (by omega)]
    exact m2 v v0 v1
end
section
set_option maxHeartbeats 4000000 in
theorem w_XemptyGroup_2 {l : Launch} {D : va_G} {w : zW} {G : zG zM} {st : zM} (hg : Rg st) (hB : RB b_XemptyGroup 3 G) (hH : RH b_XemptyGroup G (w.1 0) (adX w) fxX nxX intsX boolsX) (hC : RC l D (tysX w) (wX w) R_X (rmK 1) b_XemptyGroup G (w.1 0)) (hK : RK b_XemptyGroup G (w.1 0)) (hR : ∀ (u : zM) (pc : Nat) (lv : zL) (z : Int), decode b_XemptyGroup pc = .ok (.ireturn, 1) → narrow .int (.int (zI z)) = .int (zI z) → ((z = -1 ∨ (0 ≤ z ∧ z < 4 ∧ ∀ i : Int, 0 ≤ i → i < 4 → st 1 (z * 4 + i) = 0)) ∧ u = st) → G u pc lv [.int (zI z)]) :
    ∀ (n : Nat) (y1 : Int), (0 ≤ y1) → (y1 ≤ 4) → (4 < y1 + n) → G st 2 [(0, .ref (w.1 0)), (1, .int (zI y1))] [] := by
  intro n
  induction n with
  | zero =>
    intro y1 h1 h2 h3
    exfalso
    omega
  | succ n ih =>
    intro y1 h1 h2 h3
    refine rb_iload_n hB (j := 1) d_XemptyGroup_2 rfl ?_
    refine rb_iconst hB d_XemptyGroup_3 ?_
    refine rb_icmp_ge hB (tgt := 34) d_XemptyGroup_4 (by omega) (by omega) (by decide) (fun c4 => ?_) (fun c4 => ?_)
    · refine rb_iconst hB d_XemptyGroup_34 ?_
      exact hR _ _ _ _ d_XemptyGroup_35 rfl ⟨Or.inl rfl, rfl⟩
    · refine rb_aload_n hB (j := 0) d_XemptyGroup_7 rfl ?_
      refine rb_iload_n hB (j := 1) d_XemptyGroup_8 rfl ?_
      refine rc_i1 hC k_X49 (c_XusedIn (g := y1) hg (by omega)) d_XemptyGroup_9 (by decide) (Nat.le_of_ble_eq_true rfl) (fun z9 u9 h9 => ?_)
      obtain ⟨h9, he9⟩ := h9
      rw [he9]
      refine rn_istore_n hB (fun y => [(0, .ref (w.1 0)), (1, .int (zI y1)), (2, .int (zI y))]) d_XemptyGroup_12 (by decide) (fun _ => rfl) (fun y2_12 ey2_12 => ?_)
      have b9 := uI_b (st 1) y1
      refine rb_iload_n hB (j := 2) d_XemptyGroup_13 rfl ?_
      refine rb_if_ne hB (tgt := 28) d_XemptyGroup_14 (by omega) (by decide) (fun c14 => ?_) (fun c14 => ?_)
      · refine rn_iinc hB 1 (fun y => [(0, .ref (w.1 0)), (1, .int (zI y)), (2, .int (zI y2_12))]) d_XemptyGroup_28 rfl (by decide) (fun _ => rfl) (fun y1_28 ey1_28 => ?_)
        refine rb_goto hB (tgt := 2) d_XemptyGroup_31 (by decide) ?_
        refine rb_sub hB (ks := [0, 1]) (lv1 := [(0, .ref (w.1 0)), (1, .int (zI y1_28))]) rfl ?_
        exact ih y1_28 (by omega) (by omega) (by omega)
      · refine rb_aload_n hB (j := 0) d_XemptyGroup_17 rfl ?_
        refine rh_get hH 5 (by decide) d_XemptyGroup_18 rfl rfl ?_
        refine rb_iload_n hB (j := 1) d_XemptyGroup_21 rfl ?_
        refine rh_ild hH 5 4 (by decide) d_XemptyGroup_22 rfl rfl (by omega) ?_
        have g5 := hg.2.2.2.2 y1 (by omega) (by omega)
        refine rb_if_ge hB (tgt := 28) d_XemptyGroup_23 (by omega) (by decide) (fun c23 => ?_) (fun c23 => ?_)
        · refine rn_iinc hB 1 (fun y => [(0, .ref (w.1 0)), (1, .int (zI y)), (2, .int (zI y2_12))]) d_XemptyGroup_28 rfl (by decide) (fun _ => rfl) (fun y1_28 ey1_28 => ?_)
          refine rb_goto hB (tgt := 2) d_XemptyGroup_31 (by decide) ?_
          refine rb_sub hB (ks := [0, 1]) (lv1 := [(0, .ref (w.1 0)), (1, .int (zI y1_28))]) rfl ?_
          exact ih y1_28 (by omega) (by omega) (by omega)
        · refine rb_iload_n hB (j := 1) d_XemptyGroup_26 rfl ?_
          exact hR _ _ _ _ d_XemptyGroup_27 rfl ⟨Or.inr ⟨by omega, by omega, uI_0 (by omega) (fun f f0 f1 => (hg.1 f (by omega) (by omega)).1)⟩, rfl⟩
set_option maxHeartbeats 4000000 in
theorem c_XemptyGroup {l : Launch} {D : va_G} {w : zW} {st : zM} (hg : Rg st) : CI l D (tysX w) (wX w) y_XemptyGroup b_XemptyGroup 3 .int 1 [.ref (w.1 0)] st (fun z u => (z = -1 ∨ (0 ≤ z ∧ z < 4 ∧ ∀ i : Int, 0 ≤ i → i < 4 → st 1 (z * 4 + i) = 0)) ∧ u = st) := by
  refine conX_i [(0, .ref (w.1 0))] rfl (Nat.le_of_ble_eq_true rfl) rfl (fun G hB hH hC hK hR => ?_)
  refine rb_iconst hB d_XemptyGroup_0 ?_
  refine rn_istore_n hB (fun y => [(0, .ref (w.1 0)), (1, .int (zI y))]) d_XemptyGroup_1 (by decide) (fun _ => rfl) (fun y1_1 ey1_1 => ?_)
  exact w_XemptyGroup_2 hg hB hH hC hK hR 5 y1_1 (by omega) (by omega) (by omega)
set_option maxHeartbeats 4000000 in
theorem w_Xpreempt_4 {l : Launch} {D : va_G} {w : zW} {G : zG zM} {st : zM} (hg : Rg st) (hB : RB b_Xpreempt 4 G) (hH : RH b_Xpreempt G (w.1 0) (adX w) fxX nxX intsX boolsX) (hC : RC l D (tysX w) (wX w) R_X (rmK 1) b_Xpreempt G (w.1 0)) (hK : RK b_Xpreempt G (w.1 0)) (hR : ∀ (u : zM) (pc : Nat) (lv : zL), decode b_Xpreempt pc = .ok (.return_, 1) → (HO st u ∧ ((∃ f : Int, 0 ≤ f ∧ f < 16 ∧ st 1 f = 0) → (∀ f : Int, 0 ≤ f → f < 16 → st 1 f = 0 → 0 ≤ st 5 (f / 4)) → ∃ f : Int, 0 ≤ f ∧ f < 16 ∧ st 1 f = 0 ∧ u 5 (f / 4) < 0)) → G u pc lv []) :
    ∀ (n : Nat) (y1 : Int) (y2 : Int), (0 ≤ y2) → (y2 ≤ 4) → (4 < y2 + n) → ((y1 = -1 ∧ ∀ g : Int, 0 ≤ g → g < y2 → 0 ≤ st 5 g → 4 ≤ uI (st 1) g) ∨ (0 ≤ y1 ∧ y1 < 4 ∧ uI (st 1) y1 < 4)) → G st 4 [(0, .ref (w.1 0)), (1, .int (zI y1)), (2, .int (zI y2))] [] := by
  intro n
  induction n with
  | zero =>
    intro y1 y2 h1 h2 h3 hy
    exfalso
    omega
  | succ n ih =>
    intro y1 y2 h1 h2 h3 hy
    refine rb_iload_n hB (j := 2) d_Xpreempt_4 rfl ?_
    refine rb_iconst hB d_Xpreempt_5 ?_
    refine rb_icmp_ge hB (tgt := 56) d_Xpreempt_6 (by omega) (by omega) (by decide) (fun c6 => ?_) (fun c6 => ?_)
    · refine rb_iload_n hB (j := 1) d_Xpreempt_56 rfl ?_
      refine rb_if_lt hB (tgt := 67) d_Xpreempt_57 (by omega) (by decide) (fun c57 => ?_) (fun c57 => ?_)
      · have e1 : y1 = -1 := by omega
        exact hR _ _ _ d_Xpreempt_67 ⟨HO.rf _, fun h hf => by
          obtain ⟨f, f0, f1, f2⟩ := h
          exfalso
          rcases hy with ⟨q1, q2⟩ | q
          · have a := q2 (f / 4) (by omega) (by omega) (hf f f0 f1 f2)
            have b := uI_f (U := st 1) (g := f / 4) (i := f % 4) (by omega) (by omega) (by rw [show f / 4 * 4 + f % 4 = f by omega]; exact f2)
            omega
          · omega⟩
      · refine rb_aload_n hB (j := 0) d_Xpreempt_60 rfl ?_
        refine rh_get hH 5 (by decide) d_Xpreempt_61 rfl rfl ?_
        refine rb_iload_n hB (j := 1) d_Xpreempt_64 rfl ?_
        refine rb_iconst hB d_Xpreempt_65 ?_
        refine rh_ist hH 5 4 (by decide) d_Xpreempt_66 rfl rfl (by omega) ?_
        have hu : uI (st 1) y1 < 4 := by
          rcases hy with ⟨q1, q2⟩ | q
          · omega
          · exact q.2.2
        exact hR _ _ _ d_Xpreempt_67 ⟨(HO.rf _).drop _, fun h hf => by
          obtain ⟨i, i0, i1, i2⟩ := uI_4 hu (fun f f0 f1 => (hg.1 f (by omega) (by omega)).1)
          exact ⟨y1 * 4 + i, by omega, by omega, i2, by rw [show (y1 * 4 + i) / 4 = y1 by omega, up_s]; decide⟩⟩
    · refine rb_aload_n hB (j := 0) d_Xpreempt_9 rfl ?_
      refine rb_iload_n hB (j := 2) d_Xpreempt_10 rfl ?_
      refine rc_i1 hC k_X49 (c_XusedIn (g := y2) hg (by omega)) d_Xpreempt_11 (by decide) (Nat.le_of_ble_eq_true rfl) (fun z11 u11 h11 => ?_)
      obtain ⟨h11, he11⟩ := h11
      rw [he11]
      refine rn_istore_n hB (fun y => [(0, .ref (w.1 0)), (1, .int (zI y1)), (2, .int (zI y2)), (3, .int (zI y))]) d_Xpreempt_14 (by decide) (fun _ => rfl) (fun y3_14 ey3_14 => ?_)
      have b11 := uI_b (st 1) y2
      refine rb_aload_n hB (j := 0) d_Xpreempt_15 rfl ?_
      refine rh_get hH 5 (by decide) d_Xpreempt_16 rfl rfl ?_
      refine rb_iload_n hB (j := 2) d_Xpreempt_19 rfl ?_
      refine rh_ild hH 5 4 (by decide) d_Xpreempt_20 rfl rfl (by omega) ?_
      have g5 := hg.2.2.2.2 y2 (by omega) (by omega)
      refine rb_if_lt hB (tgt := 50) d_Xpreempt_21 (by omega) (by decide) (fun c21 => ?_) (fun c21 => ?_)
      · refine rn_iinc hB 2 (fun y => [(0, .ref (w.1 0)), (1, .int (zI y1)), (2, .int (zI y)), (3, .int (zI y3_14))]) d_Xpreempt_50 rfl (by decide) (fun _ => rfl) (fun y2_50 ey2_50 => ?_)
        refine rb_goto hB (tgt := 4) d_Xpreempt_53 (by decide) ?_
        refine rb_sub hB (ks := [0, 1, 2]) (lv1 := [(0, .ref (w.1 0)), (1, .int (zI y1)), (2, .int (zI y2_50))]) rfl ?_
        refine ih y1 y2_50 (by omega) (by omega) (by omega) ?_
        rcases hy with ⟨q1, q2⟩ | q
        · refine Or.inl ⟨q1, fun g g0 g1 g2 => ?_⟩
          rcases (show g < y2 ∨ g = y2 by omega) with z | z
          · exact q2 g g0 z g2
          · subst z; omega
        · exact Or.inr q
      · refine rb_iload_n hB (j := 3) d_Xpreempt_24 rfl ?_
        refine rb_iconst hB d_Xpreempt_25 ?_
        refine rb_icmp_ge hB (tgt := 50) d_Xpreempt_26 (by omega) (by omega) (by decide) (fun c26 => ?_) (fun c26 => ?_)
        · refine rn_iinc hB 2 (fun y => [(0, .ref (w.1 0)), (1, .int (zI y1)), (2, .int (zI y)), (3, .int (zI y3_14))]) d_Xpreempt_50 rfl (by decide) (fun _ => rfl) (fun y2_50 ey2_50 => ?_)
          refine rb_goto hB (tgt := 4) d_Xpreempt_53 (by decide) ?_
          refine rb_sub hB (ks := [0, 1, 2]) (lv1 := [(0, .ref (w.1 0)), (1, .int (zI y1)), (2, .int (zI y2_50))]) rfl ?_
          refine ih y1 y2_50 (by omega) (by omega) (by omega) ?_
          rcases hy with ⟨q1, q2⟩ | q
          · refine Or.inl ⟨q1, fun g g0 g1 g2 => ?_⟩
            rcases (show g < y2 ∨ g = y2 by omega) with z | z
            · exact q2 g g0 z g2
            · subst z; omega
          · exact Or.inr q
        · refine rb_iload_n hB (j := 1) d_Xpreempt_29 rfl ?_
          refine rb_if_lt hB (tgt := 48) d_Xpreempt_30 (by omega) (by decide) (fun c30 => ?_) (fun c30 => ?_)
          · refine rb_iload_n hB (j := 2) d_Xpreempt_48 rfl ?_
            refine rn_istore_n hB (fun y => [(0, .ref (w.1 0)), (1, .int (zI y)), (2, .int (zI y2)), (3, .int (zI y3_14))]) d_Xpreempt_49 (by decide) (fun _ => rfl) (fun y1_49 ey1_49 => ?_)
            refine rn_iinc hB 2 (fun y => [(0, .ref (w.1 0)), (1, .int (zI y1_49)), (2, .int (zI y)), (3, .int (zI y3_14))]) d_Xpreempt_50 rfl (by decide) (fun _ => rfl) (fun y2_50 ey2_50 => ?_)
            refine rb_goto hB (tgt := 4) d_Xpreempt_53 (by decide) ?_
            refine rb_sub hB (ks := [0, 1, 2]) (lv1 := [(0, .ref (w.1 0)), (1, .int (zI y1_49)), (2, .int (zI y2_50))]) rfl ?_
            exact ih y1_49 y2_50 (by omega) (by omega) (by omega) (Or.inr ⟨by omega, by omega, by rw [ey1_49]; omega⟩)
          · refine rb_aload_n hB (j := 0) d_Xpreempt_33 rfl ?_
            refine rh_get hH 6 (by decide) d_Xpreempt_34 rfl rfl ?_
            refine rb_iload_n hB (j := 2) d_Xpreempt_37 rfl ?_
            refine rh_ild hH 6 4 (by decide) d_Xpreempt_38 rfl rfl (by omega) ?_
            refine rb_aload_n hB (j := 0) d_Xpreempt_39 rfl ?_
            refine rh_get hH 6 (by decide) d_Xpreempt_40 rfl rfl ?_
            refine rb_iload_n hB (j := 1) d_Xpreempt_43 rfl ?_
            refine rh_ild hH 6 4 (by decide) d_Xpreempt_44 rfl rfl (by omega) ?_
            refine rb_icmp_ge_any hB (tgt := 50) d_Xpreempt_45 (by decide) ?_ ?_
            · refine rn_iinc hB 2 (fun y => [(0, .ref (w.1 0)), (1, .int (zI y1)), (2, .int (zI y)), (3, .int (zI y3_14))]) d_Xpreempt_50 rfl (by decide) (fun _ => rfl) (fun y2_50 ey2_50 => ?_)
              refine rb_goto hB (tgt := 4) d_Xpreempt_53 (by decide) ?_
              refine rb_sub hB (ks := [0, 1, 2]) (lv1 := [(0, .ref (w.1 0)), (1, .int (zI y1)), (2, .int (zI y2_50))]) rfl ?_
              refine ih y1 y2_50 (by omega) (by omega) (by omega) ?_
              rcases hy with ⟨q1, q2⟩ | q
              · refine Or.inl ⟨q1, fun g g0 g1 g2 => ?_⟩
                rcases (show g < y2 ∨ g = y2 by omega) with z | z
                · exact q2 g g0 z g2
                · subst z; omega
              · exact Or.inr q
            · refine rb_iload_n hB (j := 2) d_Xpreempt_48 rfl ?_
              refine rn_istore_n hB (fun y => [(0, .ref (w.1 0)), (1, .int (zI y)), (2, .int (zI y2)), (3, .int (zI y3_14))]) d_Xpreempt_49 (by decide) (fun _ => rfl) (fun y1_49 ey1_49 => ?_)
              refine rn_iinc hB 2 (fun y => [(0, .ref (w.1 0)), (1, .int (zI y1_49)), (2, .int (zI y)), (3, .int (zI y3_14))]) d_Xpreempt_50 rfl (by decide) (fun _ => rfl) (fun y2_50 ey2_50 => ?_)
              refine rb_goto hB (tgt := 4) d_Xpreempt_53 (by decide) ?_
              refine rb_sub hB (ks := [0, 1, 2]) (lv1 := [(0, .ref (w.1 0)), (1, .int (zI y1_49)), (2, .int (zI y2_50))]) rfl ?_
              exact ih y1_49 y2_50 (by omega) (by omega) (by omega) (Or.inr ⟨by omega, by omega, by rw [ey1_49]; omega⟩)
set_option maxHeartbeats 4000000 in
theorem c_Xpreempt {l : Launch} {D : va_G} {w : zW} {st : zM} (hg : Rg st) : CV l D (tysX w) (wX w) y_Xpreempt b_Xpreempt 4 1 [.ref (w.1 0)] st (fun u => HO st u ∧ ((∃ f : Int, 0 ≤ f ∧ f < 16 ∧ st 1 f = 0) → (∀ f : Int, 0 ≤ f → f < 16 → st 1 f = 0 → 0 ≤ st 5 (f / 4)) → ∃ f : Int, 0 ≤ f ∧ f < 16 ∧ st 1 f = 0 ∧ u 5 (f / 4) < 0)) := by
  refine conX_v [(0, .ref (w.1 0))] rfl (Nat.le_of_ble_eq_true rfl) rfl (fun G hB hH hC hK hR => ?_)
  refine rb_iconst hB d_Xpreempt_0 ?_
  refine rn_istore_n hB (fun y => [(0, .ref (w.1 0)), (1, .int (zI y))]) d_Xpreempt_1 (by decide) (fun _ => rfl) (fun y1_1 ey1_1 => ?_)
  refine rb_iconst hB d_Xpreempt_2 ?_
  refine rn_istore_n hB (fun y => [(0, .ref (w.1 0)), (1, .int (zI y1_1)), (2, .int (zI y))]) d_Xpreempt_3 (by decide) (fun _ => rfl) (fun y2_3 ey2_3 => ?_)
  exact w_Xpreempt_4 hg hB hH hC hK hR 5 y1_1 y2_3 (by omega) (by omega) (by omega) (Or.inl ⟨by omega, fun g g0 g1 => by omega⟩)
def TK (st u : zM) : Prop := (∀ j : Nat, j ≠ 5 → j ≠ 6 → j ≠ 7 → u j = st j) ∧ ∀ i : Int, 0 ≤ i → i < 4 → -1 ≤ u 5 i ∧ u 5 i < 8
theorem TK.rf {st : zM} (h : Rg st) : TK st st := ⟨fun _ _ _ _ => rfl, h.2.2.2.2⟩
theorem TK.Rg {st u : zM} (h : TK st u) (hg : Rg st) : Rg u := by
  obtain ⟨g1, g2, g3, g4, g5⟩ := hg
  have e1 := h.1 1 (by decide) (by decide) (by decide)
  have e2 := h.1 2 (by decide) (by decide) (by decide)
  have e3 := h.1 3 (by decide) (by decide) (by decide)
  have e4 := h.1 4 (by decide) (by decide) (by decide)
  exact ⟨by rw [e1]; exact g1, by rw [e2]; exact g2, by rw [e3]; exact g3, by rw [e4]; exact g4, h.2⟩
theorem TK.hold {st u : zM} (h : TK st u) (i v : Int) (hv : -1 ≤ v ∧ v < 8) : TK st (up u 5 i v) := by
  refine ⟨fun j h5 h6 h7 => by rw [up_j _ _ _ _ h5]; exact h.1 j h5 h6 h7, fun k k0 k1 => ?_⟩
  rw [up_e]
  have := h.2 k k0 k1
  split <;> omega
theorem TK.other {st u : zM} (h : TK st u) (j : Nat) (i v : Int) (hj : j = 6 ∨ j = 7) : TK st (up u j i v) := by
  refine ⟨fun k h5 h6 h7 => by rw [up_j _ _ _ _ (by omega)]; exact h.1 k h5 h6 h7, fun k k0 k1 => ?_⟩
  rw [up_j _ _ _ _ (show (5 : Nat) ≠ j by omega)]
  exact h.2 k k0 k1
theorem TK.HO {st u v : zM} (h : TK st u) (k : HO u v) : TK st v := by
  refine ⟨fun j h5 h6 h7 => by rw [k.1 j h5]; exact h.1 j h5 h6 h7, fun i i0 i1 => ?_⟩
  have := h.2 i i0 i1
  rcases k.2 i with z | z <;> rw [z] <;> omega
set_option maxHeartbeats 4000000 in
theorem w_XtakeFrame_30 {l : Launch} {D : va_G} {w : zW} {G : zG zM} {st cur : zM} {q y2 y3 : Int} (hg : Rg st) (hq : 0 ≤ q ∧ q < 32) (hf : ∃ f : Int, 0 ≤ f ∧ f < 16 ∧ st 1 f = 0) (hT : TK st cur) (h3 : -1 ≤ y3 ∧ y3 < 4) (hB : RB b_XtakeFrame 5 G) (hH : RH b_XtakeFrame G (w.1 0) (adX w) fxX nxX intsX boolsX) (hC : RC l D (tysX w) (wX w) R_X (rmK 2) b_XtakeFrame G (w.1 0)) (hK : RK b_XtakeFrame G (w.1 0)) (hR : ∀ (u : zM) (pc : Nat) (lv : zL) (z : Int), decode b_XtakeFrame pc = .ok (.ireturn, 1) → narrow .int (.int (zI z)) = .int (zI z) → (0 ≤ z ∧ z < 16 ∧ st 1 z = 0 ∧ TK st u) → G u pc lv [.int (zI z)]) : G cur 30 [(0, .ref (w.1 0)), (1, .int (zI q)), (2, .int (zI y2)), (3, .int (zI y3))] [] := by
  refine rb_iload_n hB (j := 3) d_XtakeFrame_30 rfl ?_
  refine rb_if_lt hB (tgt := 77) d_XtakeFrame_31 (by omega) (by decide) (fun c31 => ?_) (fun c31 => ?_)
  · refine rb_aload_n hB (j := 0) d_XtakeFrame_77 rfl ?_
    refine rc_i0 hC k_X60 (c_XlooseFrame (hT.Rg hg)) d_XtakeFrame_78 (by decide) (Nat.le_of_ble_eq_true rfl) (fun z78 u78 h78 => ?_)
    obtain ⟨h78, he78⟩ := h78
    rw [he78]
    refine rn_istore hB (fun y => [(0, .ref (w.1 0)), (1, .int (zI q)), (2, .int (zI y2)), (3, .int (zI y3)), (4, .int (zI y))]) d_XtakeFrame_81 (by decide) (fun _ => rfl) (fun y4_81 ey4_81 => ?_)
    refine rb_iload hB (j := 4) d_XtakeFrame_83 rfl ?_
    have b78 : -1 ≤ z78 ∧ z78 < 16 := by rcases h78 with q9 | q9 <;> omega
    refine rb_if_ge hB (tgt := 98) d_XtakeFrame_85 (by omega) (by decide) (fun c85 => ?_) (fun c85 => ?_)
    · refine rb_iload hB (j := 4) d_XtakeFrame_98 rfl ?_
      have e1 := hT.1 1 (by decide) (by decide) (by decide)
      have hz : 0 ≤ z78 ∧ z78 < 16 ∧ cur 1 z78 = 0 := by
        rcases h78 with q9 | q9
        · omega
        · exact q9
      exact hR _ _ _ _ d_XtakeFrame_100 rfl ⟨by omega, by omega, by rw [← e1, ey4_81]; exact hz.2.2, hT⟩
    · refine rb_aload_n hB (j := 0) d_XtakeFrame_88 rfl ?_
      refine rc_v0 hC k_X63 (c_Xpreempt (hT.Rg hg)) d_XtakeFrame_89 (by decide) (Nat.le_of_ble_eq_true rfl) (fun u89 h89 => ?_)
      obtain ⟨p89, q89⟩ := h89
      refine rb_aload_n hB (j := 0) d_XtakeFrame_92 rfl ?_
      refine rc_i0 hC k_X60 (c_XlooseFrame (p89.Rg (hT.Rg hg))) d_XtakeFrame_93 (by decide) (Nat.le_of_ble_eq_true rfl) (fun z93 u93 h93 => ?_)
      obtain ⟨h93, he93⟩ := h93
      rw [he93]
      refine rn_istore hB (fun y => [(0, .ref (w.1 0)), (1, .int (zI q)), (2, .int (zI y2)), (3, .int (zI y3)), (4, .int (zI y))]) d_XtakeFrame_96 (by decide) (fun _ => rfl) (fun y4_96 ey4_96 => ?_)
      refine rb_iload hB (j := 4) d_XtakeFrame_98 rfl ?_
      have e1 := hT.1 1 (by decide) (by decide) (by decide)
      have e2 := p89.1 1 (by decide)
      have hz : 0 ≤ z93 ∧ z93 < 16 ∧ u89 1 z93 = 0 := by
        rcases h93 with q9 | q9
        · exfalso
          rcases h78 with q8 | q8
          · obtain ⟨f, f0, f1, f2, f3⟩ := q89 (by rw [e1]; exact hf) q8.2
            have a := q9.2 f f0 f1 (by rw [e2]; exact f2)
            omega
          · omega
        · exact q9
      exact hR _ _ _ _ d_XtakeFrame_100 rfl ⟨by omega, by omega, by rw [← e1, ← e2, ey4_96]; exact hz.2.2, hT.HO p89⟩
  · refine rb_aload_n hB (j := 0) d_XtakeFrame_34 rfl ?_
    refine rh_get hH 1 (by decide) d_XtakeFrame_35 rfl rfl ?_
    refine rb_iload_n hB (j := 3) d_XtakeFrame_38 rfl ?_
    refine rb_iconst hB d_XtakeFrame_39 ?_
    refine rb_imul hB d_XtakeFrame_40 ?_
    refine rb_iload_n hB (j := 1) d_XtakeFrame_41 rfl ?_
    refine rb_iconst hB d_XtakeFrame_42 ?_
    refine rb_and3 hB d_XtakeFrame_43 (by omega) ?_
    refine rb_iadd hB d_XtakeFrame_44 ?_
    refine rh_ild hH 1 16 (by decide) d_XtakeFrame_45 rfl rfl (by omega) ?_
    have g1 := (hT.Rg hg).1 (y3 * 4 + q % 4) (by omega) (by omega)
    have e1 := hT.1 1 (by decide) (by decide) (by decide)
    refine rb_if_ne hB (tgt := 77) d_XtakeFrame_46 (by omega) (by decide) (fun c46 => ?_) (fun c46 => ?_)
    · refine rb_aload_n hB (j := 0) d_XtakeFrame_77 rfl ?_
      refine rc_i0 hC k_X60 (c_XlooseFrame (hT.Rg hg)) d_XtakeFrame_78 (by decide) (Nat.le_of_ble_eq_true rfl) (fun z78 u78 h78 => ?_)
      obtain ⟨h78, he78⟩ := h78
      rw [he78]
      refine rn_istore hB (fun y => [(0, .ref (w.1 0)), (1, .int (zI q)), (2, .int (zI y2)), (3, .int (zI y3)), (4, .int (zI y))]) d_XtakeFrame_81 (by decide) (fun _ => rfl) (fun y4_81 ey4_81 => ?_)
      refine rb_iload hB (j := 4) d_XtakeFrame_83 rfl ?_
      have b78 : -1 ≤ z78 ∧ z78 < 16 := by rcases h78 with q9 | q9 <;> omega
      refine rb_if_ge hB (tgt := 98) d_XtakeFrame_85 (by omega) (by decide) (fun c85 => ?_) (fun c85 => ?_)
      · refine rb_iload hB (j := 4) d_XtakeFrame_98 rfl ?_
        have e1 := hT.1 1 (by decide) (by decide) (by decide)
        have hz : 0 ≤ z78 ∧ z78 < 16 ∧ cur 1 z78 = 0 := by
          rcases h78 with q9 | q9
          · omega
          · exact q9
        exact hR _ _ _ _ d_XtakeFrame_100 rfl ⟨by omega, by omega, by rw [← e1, ey4_81]; exact hz.2.2, hT⟩
      · refine rb_aload_n hB (j := 0) d_XtakeFrame_88 rfl ?_
        refine rc_v0 hC k_X63 (c_Xpreempt (hT.Rg hg)) d_XtakeFrame_89 (by decide) (Nat.le_of_ble_eq_true rfl) (fun u89 h89 => ?_)
        obtain ⟨p89, q89⟩ := h89
        refine rb_aload_n hB (j := 0) d_XtakeFrame_92 rfl ?_
        refine rc_i0 hC k_X60 (c_XlooseFrame (p89.Rg (hT.Rg hg))) d_XtakeFrame_93 (by decide) (Nat.le_of_ble_eq_true rfl) (fun z93 u93 h93 => ?_)
        obtain ⟨h93, he93⟩ := h93
        rw [he93]
        refine rn_istore hB (fun y => [(0, .ref (w.1 0)), (1, .int (zI q)), (2, .int (zI y2)), (3, .int (zI y3)), (4, .int (zI y))]) d_XtakeFrame_96 (by decide) (fun _ => rfl) (fun y4_96 ey4_96 => ?_)
        refine rb_iload hB (j := 4) d_XtakeFrame_98 rfl ?_
        have e1 := hT.1 1 (by decide) (by decide) (by decide)
        have e2 := p89.1 1 (by decide)
        have hz : 0 ≤ z93 ∧ z93 < 16 ∧ u89 1 z93 = 0 := by
          rcases h93 with q9 | q9
          · exfalso
            rcases h78 with q8 | q8
            · obtain ⟨f, f0, f1, f2, f3⟩ := q89 (by rw [e1]; exact hf) q8.2
              have a := q9.2 f f0 f1 (by rw [e2]; exact f2)
              omega
            · omega
          · exact q9
        exact hR _ _ _ _ d_XtakeFrame_100 rfl ⟨by omega, by omega, by rw [← e1, ← e2, ey4_96]; exact hz.2.2, hT.HO p89⟩
    · refine rb_aload_n hB (j := 0) d_XtakeFrame_49 rfl ?_
      refine rb_dup hB d_XtakeFrame_50 ?_
      refine hK.1 _ _ _ _ d_XtakeFrame_51 ?_
      refine rb_iconst hB d_XtakeFrame_54 ?_
      refine rb_iadd hB d_XtakeFrame_55 ?_
      refine hK.2 _ _ _ _ _ d_XtakeFrame_56 ?_
      refine rb_aload_n hB (j := 0) d_XtakeFrame_59 rfl ?_
      refine rh_get hH 6 (by decide) d_XtakeFrame_60 rfl rfl ?_
      refine rb_iload_n hB (j := 3) d_XtakeFrame_63 rfl ?_
      refine rb_aload_n hB (j := 0) d_XtakeFrame_64 rfl ?_
      refine hK.1 _ _ _ _ d_XtakeFrame_65 ?_
      refine rh_ist hH 6 4 (by decide) d_XtakeFrame_68 rfl rfl (by omega) ?_
      refine rb_iload_n hB (j := 3) d_XtakeFrame_69 rfl ?_
      refine rb_iconst hB d_XtakeFrame_70 ?_
      refine rb_imul hB d_XtakeFrame_71 ?_
      refine rb_iload_n hB (j := 1) d_XtakeFrame_72 rfl ?_
      refine rb_iconst hB d_XtakeFrame_73 ?_
      refine rb_and3 hB d_XtakeFrame_74 (by omega) ?_
      refine rb_iadd hB d_XtakeFrame_75 ?_
      exact hR _ _ _ _ d_XtakeFrame_76 rfl ⟨by omega, by omega, by rw [← e1]; omega, ((hT.other 7 _ _ (Or.inr rfl)).other 6 _ _ (Or.inl rfl))⟩
set_option maxHeartbeats 4000000 in
theorem c_XtakeFrame {l : Launch} {D : va_G} {w : zW} {st : zM} {q : Int} (hg : Rg st) (hq : 0 ≤ q ∧ q < 32) (hf : ∃ f : Int, 0 ≤ f ∧ f < 16 ∧ st 1 f = 0) : CI l D (tysX w) (wX w) y_XtakeFrame b_XtakeFrame 5 .int 2 [.ref (w.1 0), .int (zI q)] st (fun z u => 0 ≤ z ∧ z < 16 ∧ st 1 z = 0 ∧ TK st u) := by
  refine conX_i [(0, .ref (w.1 0)), (1, .int (zI q))] rfl (Nat.le_of_ble_eq_true rfl) rfl (fun G hB hH hC hK hR => ?_)
  refine rb_iload_n hB (j := 1) d_XtakeFrame_0 rfl ?_
  refine rb_iconst hB d_XtakeFrame_1 ?_
  refine rb_shr2 hB d_XtakeFrame_2 (by omega) ?_
  refine rn_istore_n hB (fun y => [(0, .ref (w.1 0)), (1, .int (zI q)), (2, .int (zI y))]) d_XtakeFrame_3 (by decide) (fun _ => rfl) (fun y2_3 ey2_3 => ?_)
  refine rb_aload_n hB (j := 0) d_XtakeFrame_4 rfl ?_
  refine rb_iload_n hB (j := 2) d_XtakeFrame_5 rfl ?_
  refine rc_i1 hC k_X53 (c_XheldBy (r := y2_3) hg (by omega)) d_XtakeFrame_6 (by decide) (Nat.le_of_ble_eq_true rfl) (fun z6 u6 h6 => ?_)
  obtain ⟨h6, he6⟩ := h6
  rw [he6]
  refine rn_istore_n hB (fun y => [(0, .ref (w.1 0)), (1, .int (zI q)), (2, .int (zI y2_3)), (3, .int (zI y))]) d_XtakeFrame_9 (by decide) (fun _ => rfl) (fun y3_9 ey3_9 => ?_)
  refine rb_iload_n hB (j := 3) d_XtakeFrame_10 rfl ?_
  refine rb_if_ge hB (tgt := 30) d_XtakeFrame_11 (by omega) (by decide) (fun c11 => ?_) (fun c11 => ?_)
  · exact w_XtakeFrame_30 hg hq hf (TK.rf hg) (by omega) hB hH hC hK hR
  · refine rb_aload_n hB (j := 0) d_XtakeFrame_14 rfl ?_
    refine rc_i0 hC k_X35 (c_XemptyGroup hg) d_XtakeFrame_15 (by decide) (Nat.le_of_ble_eq_true rfl) (fun z15 u15 h15 => ?_)
    obtain ⟨h15, he15⟩ := h15
    rw [he15]
    refine rn_istore_n hB (fun y => [(0, .ref (w.1 0)), (1, .int (zI q)), (2, .int (zI y2_3)), (3, .int (zI y))]) d_XtakeFrame_18 (by decide) (fun _ => rfl) (fun y3_18 ey3_18 => ?_)
    have b15 : -1 ≤ z15 ∧ z15 < 4 := by rcases h15 with q9 | q9 <;> omega
    refine rb_iload_n hB (j := 3) d_XtakeFrame_19 rfl ?_
    refine rb_if_lt hB (tgt := 30) d_XtakeFrame_20 (by omega) (by decide) (fun c20 => ?_) (fun c20 => ?_)
    · exact w_XtakeFrame_30 hg hq hf (TK.rf hg) (by omega) hB hH hC hK hR
    · refine rb_aload_n hB (j := 0) d_XtakeFrame_23 rfl ?_
      refine rh_get hH 5 (by decide) d_XtakeFrame_24 rfl rfl ?_
      refine rb_iload_n hB (j := 3) d_XtakeFrame_27 rfl ?_
      refine rb_iload_n hB (j := 2) d_XtakeFrame_28 rfl ?_
      refine rh_ist hH 5 4 (by decide) d_XtakeFrame_29 rfl rfl (by omega) ?_
      exact w_XtakeFrame_30 hg hq hf ((TK.rf hg).hold _ _ (by omega)) (by omega) hB hH hC hK hR
set_option maxHeartbeats 4000000 in
theorem w_Xrelease_25 {l : Launch} {D : va_G} {w : zW} {G : zG zM} {st : zM} {r y2 : Int} (hg : Rg st) (hr : 0 ≤ r ∧ r < 8) (h2 : 0 ≤ y2 ∧ y2 < 4) (hB : RB b_Xrelease 6 G) (hH : RH b_Xrelease G (w.1 0) (adX w) fxX nxX intsX boolsX) (hC : RC l D (tysX w) (wX w) R_X (rmK 1) b_Xrelease G (w.1 0)) (hK : RK b_Xrelease G (w.1 0)) (hR : ∀ (u : zM) (pc : Nat) (lv : zL), decode b_Xrelease pc = .ok (.return_, 1) → (HO st u) → G u pc lv []) :
    ∀ (n : Nat) (y3 : Int) (y4 : Int), (0 ≤ y4) → (y4 ≤ 4) → (4 < y4 + n) → (0 ≤ y3 ∧ y3 ≤ 1) → G st 25 [(0, .ref (w.1 0)), (1, .int (zI r)), (2, .int (zI y2)), (3, .int (zI y3)), (4, .int (zI y4))] [] := by
  intro n
  induction n with
  | zero =>
    intro y3 y4 h1 h5 h3 h4
    exfalso
    omega
  | succ n ih =>
    intro y3 y4 h1 h5 h3 h4
    refine rb_iload hB (j := 4) d_Xrelease_25 rfl ?_
    refine rb_iconst hB d_Xrelease_27 ?_
    refine rb_icmp_ge hB (tgt := 73) d_Xrelease_28 (by omega) (by omega) (by decide) (fun c28 => ?_) (fun c28 => ?_)
    · refine rb_iload_n hB (j := 3) d_Xrelease_73 rfl ?_
      refine rb_if_ne hB (tgt := 84) d_Xrelease_74 (by omega) (by decide) (fun c74 => ?_) (fun c74 => ?_)
      · exact hR _ _ _ d_Xrelease_84 (HO.rf _)
      · refine rb_aload_n hB (j := 0) d_Xrelease_77 rfl ?_
        refine rh_get hH 5 (by decide) d_Xrelease_78 rfl rfl ?_
        refine rb_iload_n hB (j := 2) d_Xrelease_81 rfl ?_
        refine rb_iconst hB d_Xrelease_82 ?_
        refine rh_ist hH 5 4 (by decide) d_Xrelease_83 rfl rfl (by omega) ?_
        exact hR _ _ _ d_Xrelease_84 ((HO.rf _).drop _)
    · refine rb_aload_n hB (j := 0) d_Xrelease_31 rfl ?_
      refine rh_get hH 2 (by decide) d_Xrelease_32 rfl rfl ?_
      refine rb_iload_n hB (j := 1) d_Xrelease_35 rfl ?_
      refine rb_iconst hB d_Xrelease_36 ?_
      refine rb_imul hB d_Xrelease_37 ?_
      refine rb_iload hB (j := 4) d_Xrelease_38 rfl ?_
      refine rb_iadd hB d_Xrelease_40 ?_
      refine rh_ild hH 2 32 (by decide) d_Xrelease_41 rfl rfl (by omega) ?_
      refine rn_istore hB (fun y => [(0, .ref (w.1 0)), (1, .int (zI r)), (2, .int (zI y2)), (3, .int (zI y3)), (4, .int (zI y4)), (5, .int (zI y))]) d_Xrelease_42 (by decide) (fun _ => rfl) (fun y5_42 ey5_42 => ?_)
      have g2 := hg.2.1 (r * 4 + y4) (by omega) (by omega)
      refine rb_iload_n hB (j := 3) d_Xrelease_44 rfl ?_
      refine rb_if_ne hB (tgt := 61) d_Xrelease_45 (by omega) (by decide) (fun c45 => ?_) (fun c45 => ?_)
      · refine rb_iconst hB d_Xrelease_61 ?_
        refine rb_goto hB (tgt := 66) d_Xrelease_62 (by decide) ?_
        refine rn_istore_n hB (fun y => [(0, .ref (w.1 0)), (1, .int (zI r)), (2, .int (zI y2)), (3, .int (zI y)), (4, .int (zI y4)), (5, .int (zI y5_42))]) d_Xrelease_66 (by decide) (fun _ => rfl) (fun y3_66 ey3_66 => ?_)
        refine rn_iinc hB 4 (fun y => [(0, .ref (w.1 0)), (1, .int (zI r)), (2, .int (zI y2)), (3, .int (zI y3_66)), (4, .int (zI y)), (5, .int (zI y5_42))]) d_Xrelease_67 rfl (by decide) (fun _ => rfl) (fun y4_67 ey4_67 => ?_)
        refine rb_goto hB (tgt := 25) d_Xrelease_70 (by decide) ?_
        refine rb_sub hB (ks := [0, 1, 2, 3, 4]) (lv1 := [(0, .ref (w.1 0)), (1, .int (zI r)), (2, .int (zI y2)), (3, .int (zI y3_66)), (4, .int (zI y4_67))]) rfl ?_
        exact ih y3_66 y4_67 (by omega) (by omega) (by omega) (by omega)
      · refine rb_iload hB (j := 5) d_Xrelease_48 rfl ?_
        refine rb_if_lt hB (tgt := 65) d_Xrelease_50 (by omega) (by decide) (fun c50 => ?_) (fun c50 => ?_)
        · refine rb_iconst hB d_Xrelease_65 ?_
          refine rn_istore_n hB (fun y => [(0, .ref (w.1 0)), (1, .int (zI r)), (2, .int (zI y2)), (3, .int (zI y)), (4, .int (zI y4)), (5, .int (zI y5_42))]) d_Xrelease_66 (by decide) (fun _ => rfl) (fun y3_66 ey3_66 => ?_)
          refine rn_iinc hB 4 (fun y => [(0, .ref (w.1 0)), (1, .int (zI r)), (2, .int (zI y2)), (3, .int (zI y3_66)), (4, .int (zI y)), (5, .int (zI y5_42))]) d_Xrelease_67 rfl (by decide) (fun _ => rfl) (fun y4_67 ey4_67 => ?_)
          refine rb_goto hB (tgt := 25) d_Xrelease_70 (by decide) ?_
          refine rb_sub hB (ks := [0, 1, 2, 3, 4]) (lv1 := [(0, .ref (w.1 0)), (1, .int (zI r)), (2, .int (zI y2)), (3, .int (zI y3_66)), (4, .int (zI y4_67))]) rfl ?_
          exact ih y3_66 y4_67 (by omega) (by omega) (by omega) (by omega)
        · refine rb_iload hB (j := 5) d_Xrelease_53 rfl ?_
          refine rb_iconst hB d_Xrelease_55 ?_
          refine rb_shr2 hB d_Xrelease_56 (by omega) ?_
          refine rb_iload_n hB (j := 2) d_Xrelease_57 rfl ?_
          refine rb_icmp_ne hB (tgt := 65) d_Xrelease_58 (by omega) (by omega) (by decide) (fun c58 => ?_) (fun c58 => ?_)
          · refine rb_iconst hB d_Xrelease_65 ?_
            refine rn_istore_n hB (fun y => [(0, .ref (w.1 0)), (1, .int (zI r)), (2, .int (zI y2)), (3, .int (zI y)), (4, .int (zI y4)), (5, .int (zI y5_42))]) d_Xrelease_66 (by decide) (fun _ => rfl) (fun y3_66 ey3_66 => ?_)
            refine rn_iinc hB 4 (fun y => [(0, .ref (w.1 0)), (1, .int (zI r)), (2, .int (zI y2)), (3, .int (zI y3_66)), (4, .int (zI y)), (5, .int (zI y5_42))]) d_Xrelease_67 rfl (by decide) (fun _ => rfl) (fun y4_67 ey4_67 => ?_)
            refine rb_goto hB (tgt := 25) d_Xrelease_70 (by decide) ?_
            refine rb_sub hB (ks := [0, 1, 2, 3, 4]) (lv1 := [(0, .ref (w.1 0)), (1, .int (zI r)), (2, .int (zI y2)), (3, .int (zI y3_66)), (4, .int (zI y4_67))]) rfl ?_
            exact ih y3_66 y4_67 (by omega) (by omega) (by omega) (by omega)
          · refine rb_iconst hB d_Xrelease_61 ?_
            refine rb_goto hB (tgt := 66) d_Xrelease_62 (by decide) ?_
            refine rn_istore_n hB (fun y => [(0, .ref (w.1 0)), (1, .int (zI r)), (2, .int (zI y2)), (3, .int (zI y)), (4, .int (zI y4)), (5, .int (zI y5_42))]) d_Xrelease_66 (by decide) (fun _ => rfl) (fun y3_66 ey3_66 => ?_)
            refine rn_iinc hB 4 (fun y => [(0, .ref (w.1 0)), (1, .int (zI r)), (2, .int (zI y2)), (3, .int (zI y3_66)), (4, .int (zI y)), (5, .int (zI y5_42))]) d_Xrelease_67 rfl (by decide) (fun _ => rfl) (fun y4_67 ey4_67 => ?_)
            refine rb_goto hB (tgt := 25) d_Xrelease_70 (by decide) ?_
            refine rb_sub hB (ks := [0, 1, 2, 3, 4]) (lv1 := [(0, .ref (w.1 0)), (1, .int (zI r)), (2, .int (zI y2)), (3, .int (zI y3_66)), (4, .int (zI y4_67))]) rfl ?_
            exact ih y3_66 y4_67 (by omega) (by omega) (by omega) (by omega)
set_option maxHeartbeats 4000000 in
theorem c_Xrelease {l : Launch} {D : va_G} {w : zW} {st : zM} {r : Int} (hg : Rg st) (hr : 0 ≤ r ∧ r < 8) : CV l D (tysX w) (wX w) y_Xrelease b_Xrelease 6 1 [.ref (w.1 0), .int (zI r)] st (fun u => HO st u) := by
  refine conX_v [(0, .ref (w.1 0)), (1, .int (zI r))] rfl (Nat.le_of_ble_eq_true rfl) rfl (fun G hB hH hC hK hR => ?_)
  refine rb_aload_n hB (j := 0) d_Xrelease_0 rfl ?_
  refine rb_iload_n hB (j := 1) d_Xrelease_1 rfl ?_
  refine rc_i1 hC k_X53 (c_XheldBy (r := r) hg hr) d_Xrelease_2 (by decide) (Nat.le_of_ble_eq_true rfl) (fun z2 u2 h2 => ?_)
  obtain ⟨h2, he2⟩ := h2
  rw [he2]
  refine rn_istore_n hB (fun y => [(0, .ref (w.1 0)), (1, .int (zI r)), (2, .int (zI y))]) d_Xrelease_5 (by decide) (fun _ => rfl) (fun y2_5 ey2_5 => ?_)
  refine rb_iload_n hB (j := 2) d_Xrelease_6 rfl ?_
  refine rb_if_lt hB (tgt := 19) d_Xrelease_7 (by omega) (by decide) (fun c7 => ?_) (fun c7 => ?_)
  · exact hR _ _ _ d_Xrelease_19 (HO.rf _)
  · refine rb_aload_n hB (j := 0) d_Xrelease_10 rfl ?_
    refine rh_get hH 4 (by decide) d_Xrelease_11 rfl rfl ?_
    refine rb_iload_n hB (j := 1) d_Xrelease_14 rfl ?_
    refine rh_ild hH 4 8 (by decide) d_Xrelease_15 rfl rfl (by omega) ?_
    have g4 := hg.2.2.2.1 r (by omega) (by omega)
    refine rb_if_lt hB (tgt := 20) d_Xrelease_16 (by omega) (by decide) (fun c16 => ?_) (fun c16 => ?_)
    · refine rb_iconst hB d_Xrelease_20 ?_
      refine rn_istore_n hB (fun y => [(0, .ref (w.1 0)), (1, .int (zI r)), (2, .int (zI y2_5)), (3, .int (zI y))]) d_Xrelease_21 (by decide) (fun _ => rfl) (fun y3_21 ey3_21 => ?_)
      refine rb_iconst hB d_Xrelease_22 ?_
      refine rn_istore hB (fun y => [(0, .ref (w.1 0)), (1, .int (zI r)), (2, .int (zI y2_5)), (3, .int (zI y3_21)), (4, .int (zI y))]) d_Xrelease_23 (by decide) (fun _ => rfl) (fun y4_23 ey4_23 => ?_)
      exact w_Xrelease_25 hg hr (by omega) hB hH hC hK hR 5 y3_21 y4_23 (by omega) (by omega) (by omega) (by omega)
    · exact hR _ _ _ d_Xrelease_19 (HO.rf _)
end
section
/-- four pages of a range on their way into a group: those ahead of i are there -/
def RL (μ : zM) (r g i : Int) (cur : zM) : Prop :=
  Rel cur μ ∧ cur 4 r < 0 ∧ (∀ k : Int, 0 ≤ k → k < i → cur 2 (r * 4 + k) = g * 4 + k ∧ cur 1 (g * 4 + k) = 1) ∧
  (∀ k : Int, i ≤ k → k < 4 → 0 ≤ cur 2 (r * 4 + k) ∧ cur 1 (cur 2 (r * 4 + k)) = 1 ∧ cur 1 (g * 4 + k) = 0)
theorem cpF_j {st : zM} {a b n : Int} {j : Nat} (h : j ≠ 0) : cpF st a b n j = st j := by
  funext i
  unfold cpF
  rw [if_neg (fun y => h y.1)]
theorem zwF_j {st : zM} {f n : Int} {j : Nat} (h : j ≠ 0) : zwF st f n j = st j := by
  funext i
  unfold zwF
  rw [if_neg (fun y => h y.1)]
theorem cpF_w (st : zM) (a b i : Int) : cpF st a b 4 0 i = if b * 4 ≤ i ∧ i < b * 4 + 4 then st 0 (a * 4 + (i - b * 4)) else st 0 i := by
  unfold cpF
  by_cases z : b * 4 ≤ i ∧ i < b * 4 + 4
  · rw [if_pos ⟨rfl, z⟩, if_pos z]
  · rw [if_neg (fun y => z y.2), if_neg z]
theorem zwF_w (st : zM) (f i : Int) : zwF st f 4 0 i = if f * 4 ≤ i ∧ i < f * 4 + 4 then 0 else st 0 i := by
  unfold zwF
  by_cases z : f * 4 ≤ i ∧ i < f * 4 + 4
  · rw [if_pos ⟨rfl, z⟩, if_pos z]
  · rw [if_neg (fun y => z y.2), if_neg z]
theorem RL_s {μ cur : zM} {r g i f t : Int} (h : RL μ r g i cur) (hr : 0 ≤ r ∧ r < 8) (hg : 0 ≤ g ∧ g < 4) (hi : 0 ≤ i ∧ i < 4) (hf : f = cur 2 (r * 4 + i)) (ht : t = g * 4 + i) :
    RL μ r g (i + 1) (up (up (up (cpF cur f t 4) 1 f 0) 1 t 1) 2 (r * 4 + i) t) := by
  obtain ⟨hR, h4, hlo, hhi⟩ := h
  obtain ⟨a0, a1, a2⟩ := hhi i (by omega) hi.2
  rw [← hf] at a0 a1
  rw [← ht] at a2
  have hq : 0 ≤ r * 4 + i ∧ r * 4 + i < 32 := by omega
  have hdiv : (r * 4 + i) / 4 = r := by omega
  have hfr : fr cur (r * 4 + i) = f := by rw [fr_sm (by rw [hdiv]; exact h4), hf]
  have hfr0 : 0 ≤ fr cur (r * 4 + i) := by omega
  have hfb := Rel_frb hR hq.1 hq.2
  obtain ⟨u1, -, -⟩ := Rel_users hR hq.1 hq.2 hfr0
  rw [hfr, a1] at u1
  have inj : ∀ k : Int, 0 ≤ k → k < 4 → k ≠ i → cur 2 (r * 4 + k) ≠ f := by
    intro k k0 k1 kn e
    have hk : fr cur (r * 4 + k) = f := by rw [fr_sm (by rw [show (r * 4 + k) / 4 = r by omega]; exact h4), e]
    rcases hR.2.1.2.1 (r * 4 + i) (r * 4 + k) hq.1 hq.2 (by omega) (by omega) hfr0 (by rw [hfr, hk]) with z | z
    · omega
    · unfold oth at z
      split at z <;> omega
  have hft : f ≠ t := fun e => by rw [e, a2] at a1; omega
  have n0 : ∀ x : Int, up (up (up (cpF cur f t 4) 1 f 0) 1 t 1) 2 (r * 4 + i) t 0 x = cpF cur f t 4 0 x := fun x => by
    rw [up_j _ _ _ _ (by decide), up_j _ _ _ _ (by decide), up_j _ _ _ _ (by decide)]
  have n1 : ∀ x : Int, up (up (up (cpF cur f t 4) 1 f 0) 1 t 1) 2 (r * 4 + i) t 1 x = if x = t then 1 else if x = f then 0 else cur 1 x := fun x => by
    rw [up_j _ _ _ _ (by decide), up_e, up_e, cpF_j (by decide)]
    by_cases z : x = t
    · rw [if_pos ⟨rfl, z⟩, if_pos z]
    · rw [if_neg (fun y => z y.2), if_neg z]
      by_cases z2 : x = f
      · rw [if_pos ⟨rfl, z2⟩, if_pos z2]
      · rw [if_neg (fun y => z2 y.2), if_neg z2]
  have n2 : ∀ x : Int, up (up (up (cpF cur f t 4) 1 f 0) 1 t 1) 2 (r * 4 + i) t 2 x = if x = r * 4 + i then t else cur 2 x := fun x => by
    rw [up_e, up_j _ _ _ _ (by decide), up_j _ _ _ _ (by decide), cpF_j (by decide)]
    by_cases z : x = r * 4 + i
    · rw [if_pos ⟨rfl, z⟩, if_pos z]
    · rw [if_neg (fun y => z y.2), if_neg z]
  have nj : ∀ j : Nat, j ≠ 0 → j ≠ 1 → j ≠ 2 → up (up (up (cpF cur f t 4) 1 f 0) 1 t 1) 2 (r * 4 + i) t j = cur j := fun j j0 j1 j2 => by
    rw [up_j _ _ _ _ j2, up_j _ _ _ _ j1, up_j _ _ _ _ j1, cpF_j j0]
  generalize up (up (up (cpF cur f t 4) 1 f 0) 1 t 1) 2 (r * 4 + i) t = nx at n0 n1 n2 nj ⊢
  have hRn : Rel nx (up μ 2 ((r * 4 + i) % 16) 0) := by
    refine Rel_mv hR hq hfr0 (by rw [hdiv]; exact h4) (t := t) (by omega) a2 ?_ ?_ n2 (nj 3 (by decide) (by decide) (by decide)) (nj 4 (by decide) (by decide) (by decide)) ?_
    · intro x
      rw [n0, hfr, cpF_w]
    · intro x
      rw [n1, hfr, a1]
      rfl
    · rw [nj 5 (by decide) (by decide) (by decide)]
      exact hR.1.2.2.2.2
  rw [up_id (show μ 2 ((r * 4 + i) % 16) = 0 by omega)] at hRn
  refine ⟨hRn, by rw [nj 4 (by decide) (by decide) (by decide)]; exact h4, ?_, ?_⟩
  · intro k k0 k1
    by_cases e : k = i
    · rw [e, n2, if_pos rfl, n1, if_pos ht.symm]
      exact ⟨ht, rfl⟩
    · obtain ⟨b0, b1⟩ := hlo k k0 (by omega)
      have b2 := inj k k0 (by omega) e
      rw [n2, if_neg (by omega), n1, if_neg (by omega), if_neg (by omega)]
      exact ⟨b0, b1⟩
  · intro k k0 k1
    obtain ⟨b0, b1, b2⟩ := hhi k (by omega) k1
    have b3 := inj k (by omega) k1 (by omega)
    have b4 : cur 2 (r * 4 + k) ≠ t := fun e => by rw [e, a2] at b1; omega
    have b5 : g * 4 + k ≠ f := fun e => by rw [e, a1] at b2; omega
    rw [n2, if_neg (by omega), n1, if_neg b4, if_neg b3, n1, if_neg (by omega), if_neg b5]
    exact ⟨b0, b1, b2⟩
/-- the large entry is made -/
theorem Rel_prom {μ cur : zM} {r g : Int} (h : RL μ r g 4 cur) (hr : 0 ≤ r ∧ r < 8) (hg : 0 ≤ g ∧ g < 4) : Rel (up (up cur 4 r g) 5 g r) μ := by
  obtain ⟨hR, h4, hlo, -⟩ := h
  have nj : ∀ j : Nat, j ≠ 4 → j ≠ 5 → up (up cur 4 r g) 5 g r j = cur j := fun j j4 j5 => by rw [up_j _ _ _ _ j5, up_j _ _ _ _ j4]
  have n4 : ∀ x : Int, up (up cur 4 r g) 5 g r 4 x = if x = r then g else cur 4 x := fun x => by
    rw [up_j _ _ _ _ (by decide), up_e]
    by_cases z : x = r
    · rw [if_pos ⟨rfl, z⟩, if_pos z]
    · rw [if_neg (fun y => z y.2), if_neg z]
  have n5 : ∀ x : Int, 0 ≤ x → x < 4 → -1 ≤ up (up cur 4 r g) 5 g r 5 x ∧ up (up cur 4 r g) 5 g r 5 x < 8 := fun x x0 x1 => by
    have a := hR.1.2.2.2.2 x x0 x1
    rw [up_e]
    split
    · omega
    · rw [up_j _ _ _ _ (by decide)]; exact a
  generalize up (up cur 4 r g) 5 g r = nx at nj n4 n5 ⊢
  have at1 : ∀ q : Int, 0 ≤ q → q < 32 → q / 4 = r → fr cur q = g * 4 + q % 4 ∧ cur 1 (fr cur q) = 1 := by
    intro q q0 q1 e
    obtain ⟨b0, b1⟩ := hlo (q % 4) (by omega) (by omega)
    rw [show r * 4 + q % 4 = q by omega] at b0
    have : fr cur q = g * 4 + q % 4 := by rw [fr_sm (by rw [e]; exact h4), b0]
    rw [this]
    exact ⟨rfl, b1⟩
  refine Rel_same hR ⟨?_, ?_, ?_, ?_, n5⟩ ?_ ?_ ?_ ?_ (nj 0 (by decide) (by decide))
  · rw [nj 1 (by decide) (by decide)]; exact hR.1.1
  · rw [nj 2 (by decide) (by decide)]; exact hR.1.2.1
  · rw [nj 3 (by decide) (by decide)]; exact hR.1.2.2.1
  · intro i i0 i1
    have a := hR.1.2.2.2.1 i i0 i1
    rw [n4]; split <;> omega
  · intro q q0 q1
    by_cases e : q / 4 = r
    · rw [(at1 q q0 q1 e).1, fr_lg (by rw [n4, if_pos e]; omega), n4, if_pos e]
    · unfold fr FF
      rw [n4, if_neg e, nj 2 (by decide) (by decide)]
  · intro f _ _
    rw [nj 1 (by decide) (by decide)]
  · intro q q0 q1 hl
    rw [n4] at hl
    by_cases e : q / 4 = r
    · obtain ⟨b0, b1⟩ := at1 q q0 q1 e
      have b2 := hR.2.1.2.2.1 q q0 q1 (by omega)
      intro z
      rw [if_pos z] at b2
      omega
    · rw [if_neg e] at hl
      exact hR.2.2.1 q q0 q1 hl
  · intro q _ _
    rw [nj 3 (by decide) (by decide)]
/-- a small entry under a large one doesn't count -/
theorem Rel_base {μ cur : zM} {r i : Int} (h : Rel cur μ) (hl : 0 ≤ cur 4 r) (hi : r * 4 ≤ i ∧ i < r * 4 + 4) : Rel (up cur 2 i (-1)) μ := by
  have nj : ∀ j : Nat, j ≠ 2 → up cur 2 i (-1) j = cur j := fun j j2 => up_j _ _ _ _ j2
  refine Rel_same h ⟨?_, ?_, ?_, ?_, ?_⟩ ?_ ?_ ?_ ?_ (nj 0 (by decide))
  · rw [nj 1 (by decide)]; exact h.1.1
  · intro k k0 k1
    have a := h.1.2.1 k k0 k1
    rw [up_e]; split <;> omega
  · rw [nj 3 (by decide)]; exact h.1.2.2.1
  · rw [nj 4 (by decide)]; exact h.1.2.2.2.1
  · rw [nj 5 (by decide)]; exact h.1.2.2.2.2
  · intro q q0 q1
    rcases (show 0 ≤ cur 4 (q / 4) ∨ cur 4 (q / 4) < 0 by omega) with z | z
    · rw [fr_lg z, fr_lg (by rw [nj 4 (by decide)]; exact z), nj 4 (by decide)]
    · rw [fr_sm z, fr_sm (by rw [nj 4 (by decide)]; exact z), up_n]
      intro e
      rw [e, show i / 4 = r by omega] at z
      omega
  · intro f _ _
    rw [nj 1 (by decide)]
  · intro q q0 q1 hl2
    rw [nj 4 (by decide)] at hl2
    exact h.2.2.1 q q0 q1 hl2
  · intro q _ _
    rw [nj 3 (by decide)]
/-- the page goes out of its small entry -/
theorem Rel_out {st μ : zM} {q f : Int} (h : Rel st μ) (hq : 0 ≤ q ∧ q < 32) (hL : st 4 (q / 4) < 0) (hf : f = st 2 q) (h0 : 0 ≤ f) : Rel (up (up st 1 f (st 1 f - 1)) 2 q (-1)) (remM μ q) := by
  have e : fr st q = f := by rw [fr_sm hL, hf]
  refine Rel_rem h hq (by omega) hL ?_ ?_ ?_ ?_ ?_ ?_
  · rw [up_j _ _ _ _ (by decide), up_j _ _ _ _ (by decide)]
  · intro i
    rw [up_j _ _ _ _ (by decide), up_e, e]
    by_cases z : i = f
    · rw [if_pos ⟨rfl, z⟩, if_pos z]
    · rw [if_neg (fun y => z y.2), if_neg z]
  · intro i
    rw [up_e, up_j _ _ _ _ (by decide)]
    by_cases z : i = q
    · rw [if_pos ⟨rfl, z⟩, if_pos z]
    · rw [if_neg (fun y => z y.2), if_neg z]
  · rw [up_j _ _ _ _ (by decide), up_j _ _ _ _ (by decide)]
  · rw [up_j _ _ _ _ (by decide), up_j _ _ _ _ (by decide)]
  · rw [up_j _ _ _ _ (by decide), up_j _ _ _ _ (by decide)]
    exact h.1.2.2.2.2
/-- the page comes into the frame that was taken for it -/
theorem Rel_bring {st uT μ : zM} {q f : Int} (h : Rel st μ) (hT : TK st uT) (hq : 0 ≤ q ∧ q < 32) (hF : fr st q < 0) (hf : 0 ≤ f ∧ f < 16) (hU : st 1 f = 0) : Rel (up (up (up (zwF uT f 4) 1 f 1) 2 q f) 3 q 0) (tM μ q) := by
  have t0 := hT.1 0 (by decide) (by decide) (by decide)
  have t1 := hT.1 1 (by decide) (by decide) (by decide)
  have t2 := hT.1 2 (by decide) (by decide) (by decide)
  have t3 := hT.1 3 (by decide) (by decide) (by decide)
  have t4 := hT.1 4 (by decide) (by decide) (by decide)
  refine Rel_add h hq hF hf hU ?_ ?_ ?_ ?_ ?_ ?_
  · intro i
    rw [up_j _ _ _ _ (by decide), up_j _ _ _ _ (by decide), up_j _ _ _ _ (by decide), zwF_w, t0]
  · intro i
    rw [up_j _ _ _ _ (by decide), up_j _ _ _ _ (by decide), up_e, zwF_j (by decide), t1]
    by_cases z : i = f
    · rw [if_pos ⟨rfl, z⟩, if_pos z]
    · rw [if_neg (fun y => z y.2), if_neg z]
  · intro i
    rw [up_j _ _ _ _ (by decide), up_e, up_j _ _ _ _ (by decide), zwF_j (by decide), t2]
    by_cases z : i = q
    · rw [if_pos ⟨rfl, z⟩, if_pos z]
    · rw [if_neg (fun y => z y.2), if_neg z]
  · intro i
    rw [up_e, up_j _ _ _ _ (by decide), up_j _ _ _ _ (by decide), zwF_j (by decide), t3]
    by_cases z : i = q
    · rw [if_pos ⟨rfl, z⟩, if_pos z]
    · rw [if_neg (fun y => z y.2), if_neg z]
  · rw [up_j _ _ _ _ (by decide), up_j _ _ _ _ (by decide), up_j _ _ _ _ (by decide), zwF_j (by decide), t4]
  · rw [up_j _ _ _ _ (by decide), up_j _ _ _ _ (by decide), up_j _ _ _ _ (by decide), zwF_j (by decide)]
    exact hT.2
/-- the page gets a frame of its own -/
theorem Rel_own {st uT μ : zM} {q f t : Int} (h : Rel st μ) (hT : TK st uT) (hq : 0 ≤ q ∧ q < 32) (hF : 0 ≤ fr st q) (hf : f = fr st q) (h2 : st 1 f = 2) (ht : 0 ≤ t ∧ t < 16) (hU : st 1 t = 0) : Rel (up (up (up (cpF uT f t 4) 1 f 1) 1 t 1) 2 q t) (up μ 2 (q % 16) 0) := by
  have t0 := hT.1 0 (by decide) (by decide) (by decide)
  have t1 := hT.1 1 (by decide) (by decide) (by decide)
  have t2 := hT.1 2 (by decide) (by decide) (by decide)
  have t3 := hT.1 3 (by decide) (by decide) (by decide)
  have t4 := hT.1 4 (by decide) (by decide) (by decide)
  have hL : st 4 (q / 4) < 0 := by
    rcases (show 0 ≤ st 4 (q / 4) ∨ st 4 (q / 4) < 0 by omega) with z | z
    · exfalso
      have a := h.2.2.1 q hq.1 hq.2 z
      have b := h.2.1.2.2.1 q hq.1 hq.2 hF
      rw [if_neg a, ← hf, h2] at b
      omega
    · exact z
  refine Rel_mv h hq hF hL ht hU ?_ ?_ ?_ ?_ ?_ ?_
  · intro i
    rw [up_j _ _ _ _ (by decide), up_j _ _ _ _ (by decide), up_j _ _ _ _ (by decide), cpF_w, t0, hf]
  · intro i
    rw [up_j _ _ _ _ (by decide), up_e, up_e, cpF_j (by decide), t1, ← hf, h2]
    by_cases z : i = t
    · rw [if_pos ⟨rfl, z⟩, if_pos z]
    · rw [if_neg (fun y => z y.2), if_neg z]
      by_cases z2 : i = f
      · rw [if_pos ⟨rfl, z2⟩, if_pos z2]; rfl
      · rw [if_neg (fun y => z2 y.2), if_neg z2]
  · intro i
    rw [up_e, up_j _ _ _ _ (by decide), up_j _ _ _ _ (by decide), cpF_j (by decide), t2]
    by_cases z : i = q
    · rw [if_pos ⟨rfl, z⟩, if_pos z]
    · rw [if_neg (fun y => z y.2), if_neg z]
  · rw [up_j _ _ _ _ (by decide), up_j _ _ _ _ (by decide), up_j _ _ _ _ (by decide), cpF_j (by decide), t3]
  · rw [up_j _ _ _ _ (by decide), up_j _ _ _ _ (by decide), up_j _ _ _ _ (by decide), cpF_j (by decide), t4]
  · rw [up_j _ _ _ _ (by decide), up_j _ _ _ _ (by decide), up_j _ _ _ _ (by decide), cpF_j (by decide)]
    exact hT.2
end
section
set_option maxHeartbeats 4000000 in
theorem w_Xrelocate_2 {l : Launch} {D : va_G} {w : zW} {G : zG zM} {μ : zM} {c8 : Int → Int} {r g a : Int} (ha : a = r * 4) (hr : 0 ≤ r ∧ r < 8) (hgg : 0 ≤ g ∧ g < 4) (hB : RB b_Xrelocate 6 G) (hH : RH b_Xrelocate G (w.1 0) (adX w) fxX nxX intsX boolsX) (hC : RC l D (tysX w) (wX w) R_X (rmK 1) b_Xrelocate G (w.1 0)) (hK : RK b_Xrelocate G (w.1 0)) (hR : ∀ (u : zM) (pc : Nat) (lv : zL), decode b_Xrelocate pc = .ok (.return_, 1) → (RL μ r g 4 u ∧ u 8 = c8) → G u pc lv []) :
    ∀ (n : Nat) (y3 : Int) (cur : zM), (0 ≤ y3) → (y3 ≤ 4) → (4 < y3 + n) → (RL μ r g y3 cur ∧ cur 8 = c8) → G cur 2 [(0, .ref (w.1 0)), (1, .int (zI a)), (2, .int (zI g)), (3, .int (zI y3))] [] := by
  intro n
  induction n with
  | zero =>
    intro y3 cur h1 h2 h3 hcur
    exfalso
    omega
  | succ n ih =>
    intro y3 cur h1 h2 h3 hcur
    refine rb_iload_n hB (j := 3) d_Xrelocate_2 rfl ?_
    refine rb_iconst hB d_Xrelocate_3 ?_
    refine rb_icmp_ge hB (tgt := 64) d_Xrelocate_4 (by omega) (by omega) (by decide) (fun c4 => ?_) (fun c4 => ?_)
    · have e3 : y3 = 4 := by omega
      exact hR _ _ _ d_Xrelocate_64 (by rw [e3] at hcur; exact hcur)
    · refine rb_aload_n hB (j := 0) d_Xrelocate_7 rfl ?_
      refine rh_get hH 2 (by decide) d_Xrelocate_8 rfl rfl ?_
      refine rb_iload_n hB (j := 1) d_Xrelocate_11 rfl ?_
      refine rb_iload_n hB (j := 3) d_Xrelocate_12 rfl ?_
      refine rb_iadd hB d_Xrelocate_13 ?_
      refine rh_ild hH 2 32 (by decide) d_Xrelocate_14 rfl rfl (by omega) ?_
      refine rn_istore hB (fun y => [(0, .ref (w.1 0)), (1, .int (zI a)), (2, .int (zI g)), (3, .int (zI y3)), (4, .int (zI y))]) d_Xrelocate_15 (by decide) (fun _ => rfl) (fun y4_15 ey4_15 => ?_)
      have g2 := hcur.1.2.2.2 y3 (by omega) (by omega)
      have g3 := hcur.1.1.1.2.1 (r * 4 + y3) (by omega) (by omega)
      rw [ha] at ey4_15
      refine rb_iload_n hB (j := 2) d_Xrelocate_17 rfl ?_
      refine rb_iconst hB d_Xrelocate_18 ?_
      refine rb_imul hB d_Xrelocate_19 ?_
      refine rb_iload_n hB (j := 3) d_Xrelocate_20 rfl ?_
      refine rb_iadd hB d_Xrelocate_21 ?_
      refine rn_istore hB (fun y => [(0, .ref (w.1 0)), (1, .int (zI a)), (2, .int (zI g)), (3, .int (zI y3)), (4, .int (zI y4_15)), (5, .int (zI y))]) d_Xrelocate_22 (by decide) (fun _ => rfl) (fun y5_22 ey5_22 => ?_)
      refine rb_aload_n hB (j := 0) d_Xrelocate_24 rfl ?_
      refine rb_iload hB (j := 4) d_Xrelocate_25 rfl ?_
      refine rb_iload hB (j := 5) d_Xrelocate_27 rfl ?_
      refine rc_v2 hC k_X46 (c_XcopyFrame (a := y4_15) (b := y5_22) (by omega) (by omega)) d_Xrelocate_29 (by decide) (Nat.le_of_ble_eq_true rfl) (fun u29 h29 => ?_)
      refine rb_aload_n hB (j := 0) d_Xrelocate_32 rfl ?_
      refine rh_get hH 1 (by decide) d_Xrelocate_33 rfl rfl ?_
      refine rb_iload hB (j := 4) d_Xrelocate_36 rfl ?_
      refine rb_iconst hB d_Xrelocate_38 ?_
      refine rh_ist hH 1 16 (by decide) d_Xrelocate_39 rfl rfl (by omega) ?_
      refine rb_aload_n hB (j := 0) d_Xrelocate_40 rfl ?_
      refine rh_get hH 1 (by decide) d_Xrelocate_41 rfl rfl ?_
      refine rb_iload hB (j := 5) d_Xrelocate_44 rfl ?_
      refine rb_iconst hB d_Xrelocate_46 ?_
      refine rh_ist hH 1 16 (by decide) d_Xrelocate_47 rfl rfl (by omega) ?_
      refine rb_aload_n hB (j := 0) d_Xrelocate_48 rfl ?_
      refine rh_get hH 2 (by decide) d_Xrelocate_49 rfl rfl ?_
      refine rb_iload_n hB (j := 1) d_Xrelocate_52 rfl ?_
      refine rb_iload_n hB (j := 3) d_Xrelocate_53 rfl ?_
      refine rb_iadd hB d_Xrelocate_54 ?_
      refine rb_iload hB (j := 5) d_Xrelocate_55 rfl ?_
      refine rh_ist hH 2 32 (by decide) d_Xrelocate_57 rfl rfl (by omega) ?_
      refine rn_iinc hB 3 (fun y => [(0, .ref (w.1 0)), (1, .int (zI a)), (2, .int (zI g)), (3, .int (zI y)), (4, .int (zI y4_15)), (5, .int (zI y5_22))]) d_Xrelocate_58 rfl (by decide) (fun _ => rfl) (fun y3_58 ey3_58 => ?_)
      refine rb_goto hB (tgt := 2) d_Xrelocate_61 (by decide) ?_
      refine rb_sub hB (ks := [0, 1, 2, 3]) (lv1 := [(0, .ref (w.1 0)), (1, .int (zI a)), (2, .int (zI g)), (3, .int (zI y3_58))]) rfl ?_
      rw [h29]
      exact ih y3_58 _ (by omega) (by omega) (by omega) ⟨by rw [ey3_58, ha]; exact RL_s hcur.1 hr hgg (by omega) ey4_15 ey5_22, by rw [up_j _ _ _ _ (by decide), up_j _ _ _ _ (by decide), up_j _ _ _ _ (by decide), cpF_j (by decide)]; exact hcur.2⟩
set_option maxHeartbeats 4000000 in
theorem c_Xrelocate {l : Launch} {D : va_G} {w : zW} {st μ : zM} {r g a : Int} (ha : a = r * 4) (hr : 0 ≤ r ∧ r < 8) (hgg : 0 ≤ g ∧ g < 4) (hst : RL μ r g 0 st) : CV l D (tysX w) (wX w) y_Xrelocate b_Xrelocate 6 1 [.ref (w.1 0), .int (zI a), .int (zI g)] st (fun u => RL μ r g 4 u ∧ u 8 = st 8) := by
  refine conX_v [(0, .ref (w.1 0)), (1, .int (zI a)), (2, .int (zI g))] rfl (Nat.le_of_ble_eq_true rfl) rfl (fun G hB hH hC hK hR => ?_)
  refine rb_iconst hB d_Xrelocate_0 ?_
  refine rn_istore_n hB (fun y => [(0, .ref (w.1 0)), (1, .int (zI a)), (2, .int (zI g)), (3, .int (zI y))]) d_Xrelocate_1 (by decide) (fun _ => rfl) (fun y3_1 ey3_1 => ?_)
  exact w_Xrelocate_2 ha hr hgg hB hH hC hK hR 5 y3_1 _ (by omega) (by omega) (by omega) ⟨by rw [ey3_1]; exact hst, rfl⟩
set_option maxHeartbeats 4000000 in
theorem w_Xpromote_157 {l : Launch} {D : va_G} {w : zW} {G : zG zM} {μ : zM} {c8 : Int → Int} {r y2 y3 : Int} (e2 : y2 = r * 4) (hr : 0 ≤ r ∧ r < 8) (hB : RB b_Xpromote 7 G) (hH : RH b_Xpromote G (w.1 0) (adX w) fxX nxX intsX boolsX) (hC : RC l D (tysX w) (wX w) R_X (rmK 2) b_Xpromote G (w.1 0)) (hK : RK b_Xpromote G (w.1 0)) (hR : ∀ (u : zM) (pc : Nat) (lv : zL), decode b_Xpromote pc = .ok (.return_, 1) → (Rel u μ ∧ u 8 = c8) → G u pc lv []) :
    ∀ (n : Nat) (y5 : Int) (cur : zM), (0 ≤ y5) → (y5 ≤ 4) → (4 < y5 + n) → ((Rel cur μ ∧ 0 ≤ cur 4 r) ∧ cur 8 = c8) → G cur 157 [(0, .ref (w.1 0)), (1, .int (zI r)), (2, .int (zI y2)), (3, .int (zI y3)), (5, .int (zI y5))] [] := by
  intro n
  induction n with
  | zero =>
    intro y5 cur h1 h2 h3 hcur
    exfalso
    omega
  | succ n ih =>
    intro y5 cur h1 h2 h3 hcur
    refine rb_iload hB (j := 4) d_Xpromote_157 rfl ?_
    refine rb_iconst hB d_Xpromote_159 ?_
    refine rb_icmp_ge hB (tgt := 179) d_Xpromote_160 (by omega) (by omega) (by decide) (fun c160 => ?_) (fun c160 => ?_)
    · exact hR _ _ _ d_Xpromote_179 ⟨hcur.1.1, hcur.2⟩
    · refine rb_aload_n hB (j := 0) d_Xpromote_163 rfl ?_
      refine rh_get hH 2 (by decide) d_Xpromote_164 rfl rfl ?_
      refine rb_iload_n hB (j := 2) d_Xpromote_167 rfl ?_
      refine rb_iload hB (j := 4) d_Xpromote_168 rfl ?_
      refine rb_iadd hB d_Xpromote_170 ?_
      refine rb_iconst hB d_Xpromote_171 ?_
      refine rh_ist hH 2 32 (by decide) d_Xpromote_172 rfl rfl (by omega) ?_
      refine rn_iinc hB 4 (fun y => [(0, .ref (w.1 0)), (1, .int (zI r)), (2, .int (zI y2)), (3, .int (zI y3)), (5, .int (zI y))]) d_Xpromote_173 rfl (by decide) (fun _ => rfl) (fun y5_173 ey5_173 => ?_)
      refine rb_goto hB (tgt := 157) d_Xpromote_176 (by decide) ?_
      exact ih y5_173 _ (by omega) (by omega) (by omega) ⟨⟨Rel_base hcur.1.1 hcur.1.2 (by omega), by rw [up_j _ _ _ _ (by decide)]; exact hcur.1.2⟩, by rw [up_j _ _ _ _ (by decide)]; exact hcur.2⟩
set_option maxHeartbeats 4000000 in
theorem w_Xpromote_134 {l : Launch} {D : va_G} {w : zW} {G : zG zM} {cur μ : zM} {c8 : Int → Int} {r y2 g : Int} (e2 : y2 = r * 4) (hr : 0 ≤ r ∧ r < 8) (hgg : 0 ≤ g ∧ g < 4) (hcur : RL μ r g 4 cur) (h8 : cur 8 = c8) (hB : RB b_Xpromote 7 G) (hH : RH b_Xpromote G (w.1 0) (adX w) fxX nxX intsX boolsX) (hC : RC l D (tysX w) (wX w) R_X (rmK 2) b_Xpromote G (w.1 0)) (hK : RK b_Xpromote G (w.1 0)) (hR : ∀ (u : zM) (pc : Nat) (lv : zL), decode b_Xpromote pc = .ok (.return_, 1) → (Rel u μ ∧ u 8 = c8) → G u pc lv []) : G cur 134 [(0, .ref (w.1 0)), (1, .int (zI r)), (2, .int (zI y2)), (3, .int (zI g))] [] := by
  refine rb_aload_n hB (j := 0) d_Xpromote_134 rfl ?_
  refine rh_get hH 4 (by decide) d_Xpromote_135 rfl rfl ?_
  refine rb_iload_n hB (j := 1) d_Xpromote_138 rfl ?_
  refine rb_iload_n hB (j := 3) d_Xpromote_139 rfl ?_
  refine rh_ist hH 4 8 (by decide) d_Xpromote_140 rfl rfl (by omega) ?_
  refine rb_aload_n hB (j := 0) d_Xpromote_141 rfl ?_
  refine rh_get hH 5 (by decide) d_Xpromote_142 rfl rfl ?_
  refine rb_iload_n hB (j := 3) d_Xpromote_145 rfl ?_
  refine rb_iload_n hB (j := 1) d_Xpromote_146 rfl ?_
  refine rh_ist hH 5 4 (by decide) d_Xpromote_147 rfl rfl (by omega) ?_
  have hP1 := Rel_prom hcur hr hgg
  refine rb_aload_n hB (j := 0) d_Xpromote_148 rfl ?_
  refine rb_iload_n hB (j := 1) d_Xpromote_149 rfl ?_
  refine rb_iload_n hB (j := 3) d_Xpromote_150 rfl ?_
  refine rc_v2 hC k_X43 (c_XdropOthers (r := r) (g := g) hP1.1 hr hgg) d_Xpromote_151 (by decide) (Nat.le_of_ble_eq_true rfl) (fun u151 h151 => ?_)
  refine rb_iconst hB d_Xpromote_154 ?_
  refine rn_istore hB (fun y => [(0, .ref (w.1 0)), (1, .int (zI r)), (2, .int (zI y2)), (3, .int (zI g)), (5, .int (zI y))]) d_Xpromote_155 (by decide) (fun _ => rfl) (fun y5_155 ey5_155 => ?_)
  exact w_Xpromote_157 e2 hr hB hH hC hK hR 5 y5_155 _ (by omega) (by omega) (by omega) ⟨⟨Rel_HO hP1 h151, by rw [h151.1 4 (by decide), up_j _ _ _ _ (by decide), up_s]; omega⟩, by rw [h151.1 8 (by decide), up_j _ _ _ _ (by decide), up_j _ _ _ _ (by decide)]; exact h8⟩
set_option maxHeartbeats 4000000 in
theorem w_Xpromote_22 {l : Launch} {D : va_G} {w : zW} {G : zG zM} {st μ : zM} {r y2 : Int} (e2 : y2 = r * 4) (hr : 0 ≤ r ∧ r < 8) (hst : Rel st μ) (hlg : st 4 r < 0) (hB : RB b_Xpromote 7 G) (hH : RH b_Xpromote G (w.1 0) (adX w) fxX nxX intsX boolsX) (hC : RC l D (tysX w) (wX w) R_X (rmK 2) b_Xpromote G (w.1 0)) (hK : RK b_Xpromote G (w.1 0)) (hR : ∀ (u : zM) (pc : Nat) (lv : zL), decode b_Xpromote pc = .ok (.return_, 1) → (Rel u μ ∧ u 8 = st 8) → G u pc lv []) :
    ∀ (n : Nat) (y3 : Int) (y4 : Int) (y5 : Int), (0 ≤ y5) → (y5 ≤ 4) → (4 < y5 + n) → (0 ≤ y4 ∧ y4 ≤ 1) → (∀ k : Int, 0 ≤ k → k < y5 → 0 ≤ st 2 (r * 4 + k) ∧ st 1 (st 2 (r * 4 + k)) = 1) → (y4 = 1 → ∀ k : Int, 0 ≤ k → k < y5 → st 2 (r * 4 + k) = y3 * 4 + k) → (0 < y5 → 0 ≤ y3 ∧ y3 < 4) → G st 22 [(0, .ref (w.1 0)), (1, .int (zI r)), (2, .int (zI y2)), (3, .int (zI y3)), (4, .int (zI y4)), (5, .int (zI y5))] [] := by
  intro n
  induction n with
  | zero =>
    intro y3 y4 y5 h1 h2 h3 h4 hk hin hy3
    exfalso
    omega
  | succ n ih =>
    intro y3 y4 y5 h1 h2 h3 h4 hk hin hy3
    refine rb_iload hB (j := 5) d_Xpromote_22 rfl ?_
    refine rb_iconst hB d_Xpromote_24 ?_
    refine rb_icmp_ge hB (tgt := 113) d_Xpromote_25 (by omega) (by omega) (by decide) (fun c25 => ?_) (fun c25 => ?_)
    · refine rb_iload hB (j := 4) d_Xpromote_113 rfl ?_
      refine rb_if_ne hB (tgt := 134) d_Xpromote_115 (by omega) (by decide) (fun c115 => ?_) (fun c115 => ?_)
      · refine rb_sub hB (ks := [0, 1, 2, 3]) (lv1 := [(0, .ref (w.1 0)), (1, .int (zI r)), (2, .int (zI y2)), (3, .int (zI y3))]) rfl ?_
        exact w_Xpromote_134 e2 hr (by omega) ⟨hst, hlg, fun k k0 k1 => by
          have a := hin (by omega) k k0 (by omega)
          have b := (hk k k0 (by omega)).2
          rw [a] at b
          exact ⟨a, b⟩, fun k k0 k1 => by omega⟩ rfl hB hH hC hK hR
      · refine rb_aload_n hB (j := 0) d_Xpromote_118 rfl ?_
        refine rc_i0 hC k_X35 (c_XemptyGroup hst.1) d_Xpromote_119 (by decide) (Nat.le_of_ble_eq_true rfl) (fun z119 u119 h119 => ?_)
        obtain ⟨h119, he119⟩ := h119
        rw [he119]
        refine rn_istore_n hB (fun y => [(0, .ref (w.1 0)), (1, .int (zI r)), (2, .int (zI y2)), (3, .int (zI y)), (4, .int (zI y4)), (5, .int (zI y5))]) d_Xpromote_122 (by decide) (fun _ => rfl) (fun y3_122 ey3_122 => ?_)
        have b119 : -1 ≤ z119 ∧ z119 < 4 := by rcases h119 with q9 | q9 <;> omega
        refine rb_iload_n hB (j := 3) d_Xpromote_123 rfl ?_
        refine rb_if_ge hB (tgt := 128) d_Xpromote_124 (by omega) (by decide) (fun c124 => ?_) (fun c124 => ?_)
        · have b120 : 0 ≤ z119 ∧ z119 < 4 ∧ ∀ i : Int, 0 ≤ i → i < 4 → st 1 (z119 * 4 + i) = 0 := by
            rcases h119 with q9 | q9
            · omega
            · exact q9
          refine rb_aload_n hB (j := 0) d_Xpromote_128 rfl ?_
          refine rb_iload_n hB (j := 2) d_Xpromote_129 rfl ?_
          refine rb_iload_n hB (j := 3) d_Xpromote_130 rfl ?_
          refine rc_v2 hC k_X39 (c_Xrelocate (r := r) e2 hr (by omega) ⟨hst, hlg, fun k k0 k1 => by omega, fun k k0 k1 => ⟨(hk k k0 (by omega)).1, (hk k k0 (by omega)).2, by rw [ey3_122]; exact b120.2.2 k k0 k1⟩⟩) d_Xpromote_131 (by decide) (Nat.le_of_ble_eq_true rfl) (fun u131 h131 => ?_)
          refine rb_sub hB (ks := [0, 1, 2, 3]) (lv1 := [(0, .ref (w.1 0)), (1, .int (zI r)), (2, .int (zI y2)), (3, .int (zI y3_122))]) rfl ?_
          exact w_Xpromote_134 e2 hr (by omega) h131.1 h131.2 hB hH hC hK hR
        · exact hR _ _ _ d_Xpromote_127 ⟨hst, rfl⟩
    · refine rb_aload_n hB (j := 0) d_Xpromote_28 rfl ?_
      refine rh_get hH 2 (by decide) d_Xpromote_29 rfl rfl ?_
      refine rb_iload_n hB (j := 2) d_Xpromote_32 rfl ?_
      refine rb_iload hB (j := 5) d_Xpromote_33 rfl ?_
      refine rb_iadd hB d_Xpromote_35 ?_
      refine rh_ild hH 2 32 (by decide) d_Xpromote_36 rfl rfl (by omega) ?_
      refine rn_istore hB (fun y => [(0, .ref (w.1 0)), (1, .int (zI r)), (2, .int (zI y2)), (3, .int (zI y3)), (4, .int (zI y4)), (5, .int (zI y5)), (6, .int (zI y))]) d_Xpromote_37 (by decide) (fun _ => rfl) (fun y6_37 ey6_37 => ?_)
      have g2 := hst.1.2.1 (r * 4 + y5) (by omega) (by omega)
      rw [← e2, ← ey6_37] at g2
      refine rb_iload hB (j := 6) d_Xpromote_39 rfl ?_
      refine rb_if_lt hB (tgt := 73) d_Xpromote_41 (by omega) (by decide) (fun c41 => ?_) (fun c41 => ?_)
      · exact hR _ _ _ d_Xpromote_73 ⟨hst, rfl⟩
      · refine rb_aload_n hB (j := 0) d_Xpromote_44 rfl ?_
        refine rh_get hH 1 (by decide) d_Xpromote_45 rfl rfl ?_
        refine rb_iload hB (j := 6) d_Xpromote_48 rfl ?_
        refine rh_ild hH 1 16 (by decide) d_Xpromote_50 rfl rfl (by omega) ?_
        refine rb_iconst hB d_Xpromote_51 ?_
        have g1 := hst.1.1 y6_37 (by omega) (by omega)
        refine rb_icmp_ne hB (tgt := 73) d_Xpromote_52 (by omega) (by omega) (by decide) (fun c52 => ?_) (fun c52 => ?_)
        · exact hR _ _ _ d_Xpromote_73 ⟨hst, rfl⟩
        · refine rb_aload_n hB (j := 0) d_Xpromote_55 rfl ?_
          refine rh_get hH 3 (by decide) d_Xpromote_56 rfl rfl ?_
          refine rb_iload_n hB (j := 2) d_Xpromote_59 rfl ?_
          refine rb_iload hB (j := 5) d_Xpromote_60 rfl ?_
          refine rb_iadd hB d_Xpromote_62 ?_
          refine rh_bld hH 3 32 (by decide) d_Xpromote_63 rfl rfl (by omega) ?_
          have g3 := hst.1.2.2.1 (y2 + y5) (by omega) (by omega)
          have g33 := hst.1.2.2.1 y2 (by omega) (by omega)
          refine rb_aload_n hB (j := 0) d_Xpromote_64 rfl ?_
          refine rh_get hH 3 (by decide) d_Xpromote_65 rfl rfl ?_
          refine rb_iload_n hB (j := 2) d_Xpromote_68 rfl ?_
          refine rh_bld hH 3 32 (by decide) d_Xpromote_69 rfl rfl (by omega) ?_
          refine rb_icmp_eq hB (tgt := 74) d_Xpromote_70 (by omega) (by omega) (by decide) (fun c70 => ?_) (fun c70 => ?_)
          · refine rb_iload hB (j := 5) d_Xpromote_74 rfl ?_
            refine rb_if_ne hB (tgt := 84) d_Xpromote_76 (by omega) (by decide) (fun c76 => ?_) (fun c76 => ?_)
            · refine rb_iload hB (j := 4) d_Xpromote_84 rfl ?_
              refine rb_if_eq hB (tgt := 104) d_Xpromote_86 (by omega) (by decide) (fun c86 => ?_) (fun c86 => ?_)
              · refine rb_iconst hB d_Xpromote_104 ?_
                refine rn_istore hB (fun y => [(0, .ref (w.1 0)), (1, .int (zI r)), (2, .int (zI y2)), (3, .int (zI y3)), (4, .int (zI y)), (5, .int (zI y5)), (6, .int (zI y6_37))]) d_Xpromote_105 (by decide) (fun _ => rfl) (fun y4_105 ey4_105 => ?_)
                refine rn_iinc hB 5 (fun y => [(0, .ref (w.1 0)), (1, .int (zI r)), (2, .int (zI y2)), (3, .int (zI y3)), (4, .int (zI y4_105)), (5, .int (zI y)), (6, .int (zI y6_37))]) d_Xpromote_107 rfl (by decide) (fun _ => rfl) (fun y5_107 ey5_107 => ?_)
                refine rb_goto hB (tgt := 22) d_Xpromote_110 (by decide) ?_
                refine rb_sub hB (ks := [0, 1, 2, 3, 4, 5]) (lv1 := [(0, .ref (w.1 0)), (1, .int (zI r)), (2, .int (zI y2)), (3, .int (zI y3)), (4, .int (zI y4_105)), (5, .int (zI y5_107))]) rfl ?_
                refine ih y3 y4_105 y5_107 (by omega) (by omega) (by omega) (by omega) ?_ ?_ ?_
                · intro k k0 k1
                  rcases (show k < y5 ∨ k = y5 by omega) with z | z
                  · exact hk k k0 z
                  · rw [z, ← e2]; exact ⟨by omega, by rw [← ey6_37]; omega⟩
                · intro hy4 k k0 k1
                  rcases (show k < y5 ∨ k = y5 by omega) with z | z
                  · exact hin (by omega) k k0 z
                  · rw [z, ← e2, ← ey6_37]; omega
                · omega
              · refine rb_iload hB (j := 6) d_Xpromote_89 rfl ?_
                refine rb_iload_n hB (j := 3) d_Xpromote_91 rfl ?_
                refine rb_iconst hB d_Xpromote_92 ?_
                refine rb_imul hB d_Xpromote_93 ?_
                refine rb_iload hB (j := 5) d_Xpromote_94 rfl ?_
                refine rb_iadd hB d_Xpromote_96 ?_
                refine rb_icmp_ne hB (tgt := 104) d_Xpromote_97 (by omega) (by omega) (by decide) (fun c97 => ?_) (fun c97 => ?_)
                · refine rb_iconst hB d_Xpromote_104 ?_
                  refine rn_istore hB (fun y => [(0, .ref (w.1 0)), (1, .int (zI r)), (2, .int (zI y2)), (3, .int (zI y3)), (4, .int (zI y)), (5, .int (zI y5)), (6, .int (zI y6_37))]) d_Xpromote_105 (by decide) (fun _ => rfl) (fun y4_105 ey4_105 => ?_)
                  refine rn_iinc hB 5 (fun y => [(0, .ref (w.1 0)), (1, .int (zI r)), (2, .int (zI y2)), (3, .int (zI y3)), (4, .int (zI y4_105)), (5, .int (zI y)), (6, .int (zI y6_37))]) d_Xpromote_107 rfl (by decide) (fun _ => rfl) (fun y5_107 ey5_107 => ?_)
                  refine rb_goto hB (tgt := 22) d_Xpromote_110 (by decide) ?_
                  refine rb_sub hB (ks := [0, 1, 2, 3, 4, 5]) (lv1 := [(0, .ref (w.1 0)), (1, .int (zI r)), (2, .int (zI y2)), (3, .int (zI y3)), (4, .int (zI y4_105)), (5, .int (zI y5_107))]) rfl ?_
                  refine ih y3 y4_105 y5_107 (by omega) (by omega) (by omega) (by omega) ?_ ?_ ?_
                  · intro k k0 k1
                    rcases (show k < y5 ∨ k = y5 by omega) with z | z
                    · exact hk k k0 z
                    · rw [z, ← e2]; exact ⟨by omega, by rw [← ey6_37]; omega⟩
                  · intro hy4 k k0 k1
                    rcases (show k < y5 ∨ k = y5 by omega) with z | z
                    · exact hin (by omega) k k0 z
                    · rw [z, ← e2, ← ey6_37]; omega
                  · omega
                · refine rb_iconst hB d_Xpromote_100 ?_
                  refine rb_goto hB (tgt := 105) d_Xpromote_101 (by decide) ?_
                  refine rn_istore hB (fun y => [(0, .ref (w.1 0)), (1, .int (zI r)), (2, .int (zI y2)), (3, .int (zI y3)), (4, .int (zI y)), (5, .int (zI y5)), (6, .int (zI y6_37))]) d_Xpromote_105 (by decide) (fun _ => rfl) (fun y4_105 ey4_105 => ?_)
                  refine rn_iinc hB 5 (fun y => [(0, .ref (w.1 0)), (1, .int (zI r)), (2, .int (zI y2)), (3, .int (zI y3)), (4, .int (zI y4_105)), (5, .int (zI y)), (6, .int (zI y6_37))]) d_Xpromote_107 rfl (by decide) (fun _ => rfl) (fun y5_107 ey5_107 => ?_)
                  refine rb_goto hB (tgt := 22) d_Xpromote_110 (by decide) ?_
                  refine rb_sub hB (ks := [0, 1, 2, 3, 4, 5]) (lv1 := [(0, .ref (w.1 0)), (1, .int (zI r)), (2, .int (zI y2)), (3, .int (zI y3)), (4, .int (zI y4_105)), (5, .int (zI y5_107))]) rfl ?_
                  refine ih y3 y4_105 y5_107 (by omega) (by omega) (by omega) (by omega) ?_ ?_ ?_
                  · intro k k0 k1
                    rcases (show k < y5 ∨ k = y5 by omega) with z | z
                    · exact hk k k0 z
                    · rw [z, ← e2]; exact ⟨by omega, by rw [← ey6_37]; omega⟩
                  · intro hy4 k k0 k1
                    rcases (show k < y5 ∨ k = y5 by omega) with z | z
                    · exact hin (by omega) k k0 z
                    · rw [z, ← e2, ← ey6_37]; omega
                  · omega
            · refine rb_iload hB (j := 6) d_Xpromote_79 rfl ?_
              refine rb_iconst hB d_Xpromote_81 ?_
              refine rb_shr2 hB d_Xpromote_82 (by omega) ?_
              refine rn_istore_n hB (fun y => [(0, .ref (w.1 0)), (1, .int (zI r)), (2, .int (zI y2)), (3, .int (zI y)), (4, .int (zI y4)), (5, .int (zI y5)), (6, .int (zI y6_37))]) d_Xpromote_83 (by decide) (fun _ => rfl) (fun y3_83 ey3_83 => ?_)
              refine rb_iload hB (j := 4) d_Xpromote_84 rfl ?_
              refine rb_if_eq hB (tgt := 104) d_Xpromote_86 (by omega) (by decide) (fun c86 => ?_) (fun c86 => ?_)
              · refine rb_iconst hB d_Xpromote_104 ?_
                refine rn_istore hB (fun y => [(0, .ref (w.1 0)), (1, .int (zI r)), (2, .int (zI y2)), (3, .int (zI y3_83)), (4, .int (zI y)), (5, .int (zI y5)), (6, .int (zI y6_37))]) d_Xpromote_105 (by decide) (fun _ => rfl) (fun y4_105 ey4_105 => ?_)
                refine rn_iinc hB 5 (fun y => [(0, .ref (w.1 0)), (1, .int (zI r)), (2, .int (zI y2)), (3, .int (zI y3_83)), (4, .int (zI y4_105)), (5, .int (zI y)), (6, .int (zI y6_37))]) d_Xpromote_107 rfl (by decide) (fun _ => rfl) (fun y5_107 ey5_107 => ?_)
                refine rb_goto hB (tgt := 22) d_Xpromote_110 (by decide) ?_
                refine rb_sub hB (ks := [0, 1, 2, 3, 4, 5]) (lv1 := [(0, .ref (w.1 0)), (1, .int (zI r)), (2, .int (zI y2)), (3, .int (zI y3_83)), (4, .int (zI y4_105)), (5, .int (zI y5_107))]) rfl ?_
                refine ih y3_83 y4_105 y5_107 (by omega) (by omega) (by omega) (by omega) ?_ ?_ ?_
                · intro k k0 k1
                  rcases (show k < y5 ∨ k = y5 by omega) with z | z
                  · exact hk k k0 z
                  · rw [z, ← e2]; exact ⟨by omega, by rw [← ey6_37]; omega⟩
                · intro hy4 k k0 k1
                  rcases (show k < y5 ∨ k = y5 by omega) with z | z
                  · omega
                  · rw [z, ← e2, ← ey6_37]; omega
                · omega
              · refine rb_iload hB (j := 6) d_Xpromote_89 rfl ?_
                refine rb_iload_n hB (j := 3) d_Xpromote_91 rfl ?_
                refine rb_iconst hB d_Xpromote_92 ?_
                refine rb_imul hB d_Xpromote_93 ?_
                refine rb_iload hB (j := 5) d_Xpromote_94 rfl ?_
                refine rb_iadd hB d_Xpromote_96 ?_
                refine rb_icmp_ne hB (tgt := 104) d_Xpromote_97 (by omega) (by omega) (by decide) (fun c97 => ?_) (fun c97 => ?_)
                · refine rb_iconst hB d_Xpromote_104 ?_
                  refine rn_istore hB (fun y => [(0, .ref (w.1 0)), (1, .int (zI r)), (2, .int (zI y2)), (3, .int (zI y3_83)), (4, .int (zI y)), (5, .int (zI y5)), (6, .int (zI y6_37))]) d_Xpromote_105 (by decide) (fun _ => rfl) (fun y4_105 ey4_105 => ?_)
                  refine rn_iinc hB 5 (fun y => [(0, .ref (w.1 0)), (1, .int (zI r)), (2, .int (zI y2)), (3, .int (zI y3_83)), (4, .int (zI y4_105)), (5, .int (zI y)), (6, .int (zI y6_37))]) d_Xpromote_107 rfl (by decide) (fun _ => rfl) (fun y5_107 ey5_107 => ?_)
                  refine rb_goto hB (tgt := 22) d_Xpromote_110 (by decide) ?_
                  refine rb_sub hB (ks := [0, 1, 2, 3, 4, 5]) (lv1 := [(0, .ref (w.1 0)), (1, .int (zI r)), (2, .int (zI y2)), (3, .int (zI y3_83)), (4, .int (zI y4_105)), (5, .int (zI y5_107))]) rfl ?_
                  refine ih y3_83 y4_105 y5_107 (by omega) (by omega) (by omega) (by omega) ?_ ?_ ?_
                  · intro k k0 k1
                    rcases (show k < y5 ∨ k = y5 by omega) with z | z
                    · exact hk k k0 z
                    · rw [z, ← e2]; exact ⟨by omega, by rw [← ey6_37]; omega⟩
                  · intro hy4 k k0 k1
                    rcases (show k < y5 ∨ k = y5 by omega) with z | z
                    · omega
                    · rw [z, ← e2, ← ey6_37]; omega
                  · omega
                · refine rb_iconst hB d_Xpromote_100 ?_
                  refine rb_goto hB (tgt := 105) d_Xpromote_101 (by decide) ?_
                  refine rn_istore hB (fun y => [(0, .ref (w.1 0)), (1, .int (zI r)), (2, .int (zI y2)), (3, .int (zI y3_83)), (4, .int (zI y)), (5, .int (zI y5)), (6, .int (zI y6_37))]) d_Xpromote_105 (by decide) (fun _ => rfl) (fun y4_105 ey4_105 => ?_)
                  refine rn_iinc hB 5 (fun y => [(0, .ref (w.1 0)), (1, .int (zI r)), (2, .int (zI y2)), (3, .int (zI y3_83)), (4, .int (zI y4_105)), (5, .int (zI y)), (6, .int (zI y6_37))]) d_Xpromote_107 rfl (by decide) (fun _ => rfl) (fun y5_107 ey5_107 => ?_)
                  refine rb_goto hB (tgt := 22) d_Xpromote_110 (by decide) ?_
                  refine rb_sub hB (ks := [0, 1, 2, 3, 4, 5]) (lv1 := [(0, .ref (w.1 0)), (1, .int (zI r)), (2, .int (zI y2)), (3, .int (zI y3_83)), (4, .int (zI y4_105)), (5, .int (zI y5_107))]) rfl ?_
                  refine ih y3_83 y4_105 y5_107 (by omega) (by omega) (by omega) (by omega) ?_ ?_ ?_
                  · intro k k0 k1
                    rcases (show k < y5 ∨ k = y5 by omega) with z | z
                    · exact hk k k0 z
                    · rw [z, ← e2]; exact ⟨by omega, by rw [← ey6_37]; omega⟩
                  · intro hy4 k k0 k1
                    rcases (show k < y5 ∨ k = y5 by omega) with z | z
                    · omega
                    · rw [z, ← e2, ← ey6_37]; omega
                  · omega
          · exact hR _ _ _ d_Xpromote_73 ⟨hst, rfl⟩
set_option maxHeartbeats 4000000 in
theorem c_Xpromote {l : Launch} {D : va_G} {w : zW} {st μ : zM} {r : Int} (hr : 0 ≤ r ∧ r < 8) (hst : Rel st μ) : CV l D (tysX w) (wX w) y_Xpromote b_Xpromote 7 2 [.ref (w.1 0), .int (zI r)] st (fun u => Rel u μ ∧ u 8 = st 8) := by
  refine conX_v [(0, .ref (w.1 0)), (1, .int (zI r))] rfl (Nat.le_of_ble_eq_true rfl) rfl (fun G hB hH hC hK hR => ?_)
  refine rb_aload_n hB (j := 0) d_Xpromote_0 rfl ?_
  refine rh_get hH 4 (by decide) d_Xpromote_1 rfl rfl ?_
  refine rb_iload_n hB (j := 1) d_Xpromote_4 rfl ?_
  refine rh_ild hH 4 8 (by decide) d_Xpromote_5 rfl rfl (by omega) ?_
  have g4 := hst.1.2.2.2.1 r (by omega) (by omega)
  refine rb_if_lt hB (tgt := 10) d_Xpromote_6 (by omega) (by decide) (fun c6 => ?_) (fun c6 => ?_)
  · refine rb_iload_n hB (j := 1) d_Xpromote_10 rfl ?_
    refine rb_iconst hB d_Xpromote_11 ?_
    refine rb_imul hB d_Xpromote_12 ?_
    refine rn_istore_n hB (fun y => [(0, .ref (w.1 0)), (1, .int (zI r)), (2, .int (zI y))]) d_Xpromote_13 (by decide) (fun _ => rfl) (fun y2_13 ey2_13 => ?_)
    refine rb_iconst hB d_Xpromote_14 ?_
    refine rn_istore_n hB (fun y => [(0, .ref (w.1 0)), (1, .int (zI r)), (2, .int (zI y2_13)), (3, .int (zI y))]) d_Xpromote_15 (by decide) (fun _ => rfl) (fun y3_15 ey3_15 => ?_)
    refine rb_iconst hB d_Xpromote_16 ?_
    refine rn_istore hB (fun y => [(0, .ref (w.1 0)), (1, .int (zI r)), (2, .int (zI y2_13)), (3, .int (zI y3_15)), (4, .int (zI y))]) d_Xpromote_17 (by decide) (fun _ => rfl) (fun y4_17 ey4_17 => ?_)
    refine rb_iconst hB d_Xpromote_19 ?_
    refine rn_istore hB (fun y => [(0, .ref (w.1 0)), (1, .int (zI r)), (2, .int (zI y2_13)), (3, .int (zI y3_15)), (4, .int (zI y4_17)), (5, .int (zI y))]) d_Xpromote_20 (by decide) (fun _ => rfl) (fun y5_20 ey5_20 => ?_)
    exact w_Xpromote_22 ey2_13 hr hst (by omega) hB hH hC hK hR 5 y3_15 y4_17 y5_20 (by omega) (by omega) (by omega) (by omega) (fun k k0 k1 => by omega) (fun _ k k0 k1 => by omega) (by omega)
  · exact hR _ _ _ d_Xpromote_9 ⟨hst, rfl⟩
set_option maxHeartbeats 4000000 in
theorem c_Xremove {l : Launch} {D : va_G} {w : zW} {st μ : zM} {q : Int} (hst : Rel st μ) (hq : 0 ≤ q ∧ q < 32) (hF : 0 ≤ fr st q) : CV l D (tysX w) (wX w) y_Xremove b_Xremove 4 2 [.ref (w.1 0), .int (zI q)] st (fun u => Rel u (remM μ q)) := by
  refine conX_v [(0, .ref (w.1 0)), (1, .int (zI q))] rfl (Nat.le_of_ble_eq_true rfl) rfl (fun G hB hH hC hK hR => ?_)
  refine rb_iload_n hB (j := 1) d_Xremove_0 rfl ?_
  refine rb_iconst hB d_Xremove_1 ?_
  refine rb_shr2 hB d_Xremove_2 (by omega) ?_
  refine rn_istore_n hB (fun y => [(0, .ref (w.1 0)), (1, .int (zI q)), (2, .int (zI y))]) d_Xremove_3 (by decide) (fun _ => rfl) (fun y2_3 ey2_3 => ?_)
  refine rb_aload_n hB (j := 0) d_Xremove_4 rfl ?_
  refine rb_iload_n hB (j := 2) d_Xremove_5 rfl ?_
  refine rc_v1 hC k_X66 (c_Xdemote (r := y2_3) hst.1 (by omega)) d_Xremove_6 (by decide) (Nat.le_of_ble_eq_true rfl) (fun u6 h6 => ?_)
  have hR1 : Rel u6 μ := by rw [h6, ey2_3]; exact Rel_dem hst (by omega)
  have hL1 : u6 4 (q / 4) < 0 := by
    have a := hst.1.2.2.2.1 (q / 4) (by omega) (by omega)
    rw [h6, ey2_3, dem_4]
    split <;> omega
  have hf1 : fr u6 q = fr st q := by rw [h6]; exact fr_dem hq.1
  have hf2 : u6 2 q = fr st q := by rw [← hf1, fr_sm hL1]
  have hfb := Rel_frb hst hq.1 hq.2
  refine rb_aload_n hB (j := 0) d_Xremove_9 rfl ?_
  refine rh_get hH 2 (by decide) d_Xremove_10 rfl rfl ?_
  refine rb_iload_n hB (j := 1) d_Xremove_13 rfl ?_
  refine rh_ild hH 2 32 (by decide) d_Xremove_14 rfl rfl (by omega) ?_
  refine rn_istore_n hB (fun y => [(0, .ref (w.1 0)), (1, .int (zI q)), (2, .int (zI y2_3)), (3, .int (zI y))]) d_Xremove_15 (by decide) (fun _ => rfl) (fun y3_15 ey3_15 => ?_)
  refine rb_aload_n hB (j := 0) d_Xremove_16 rfl ?_
  refine rh_get hH 1 (by decide) d_Xremove_17 rfl rfl ?_
  refine rb_iload_n hB (j := 3) d_Xremove_20 rfl ?_
  refine rb_aload_n hB (j := 0) d_Xremove_21 rfl ?_
  refine rh_get hH 1 (by decide) d_Xremove_22 rfl rfl ?_
  refine rb_iload_n hB (j := 3) d_Xremove_25 rfl ?_
  refine rh_ild hH 1 16 (by decide) d_Xremove_26 rfl rfl (by omega) ?_
  refine rb_iconst hB d_Xremove_27 ?_
  refine rb_isub hB d_Xremove_28 ?_
  refine rh_ist hH 1 16 (by decide) d_Xremove_29 rfl rfl (by omega) ?_
  refine rb_aload_n hB (j := 0) d_Xremove_30 rfl ?_
  refine rh_get hH 2 (by decide) d_Xremove_31 rfl rfl ?_
  refine rb_iload_n hB (j := 1) d_Xremove_34 rfl ?_
  refine rb_iconst hB d_Xremove_35 ?_
  refine rh_ist hH 2 32 (by decide) d_Xremove_36 rfl rfl (by omega) ?_
  have hR2 := Rel_out hR1 hq hL1 ey3_15 (by omega)
  refine rb_aload_n hB (j := 0) d_Xremove_37 rfl ?_
  refine rb_iload_n hB (j := 2) d_Xremove_38 rfl ?_
  refine rc_v1 hC k_X70 (c_Xrelease (r := y2_3) hR2.1 (by omega)) d_Xremove_39 (by decide) (Nat.le_of_ble_eq_true rfl) (fun u39 h39 => ?_)
  exact hR _ _ _ d_Xremove_42 (Rel_HO hR2 h39)
set_option maxHeartbeats 4000000 in
theorem w_XbringIn_42 {l : Launch} {D : va_G} {w : zW} {G : zG zM} {st uT μ : zM} {q f y3 : Int} (hst : Rel st μ) (hq : 0 ≤ q ∧ q < 32) (hF : fr st q < 0) (hn : nIU μ ≠ 16) (hT : TK st uT) (hf : 0 ≤ f ∧ f < 16) (hU : st 1 f = 0) (hB : RB b_XbringIn 5 G) (hH : RH b_XbringIn G (w.1 0) (adX w) fxX nxX intsX boolsX) (hC : RC l D (tysX w) (wX w) R_X (rmK 3) b_XbringIn G (w.1 0)) (hK : RK b_XbringIn G (w.1 0)) (hR : ∀ (u : zM) (pc : Nat) (lv : zL) (z : Int), decode b_XbringIn pc = .ok (.ireturn, 1) → narrow .int (.int (zI z)) = .int (zI z) → (z = touchR μ q ∧ Rel u (touchM μ q) ∧ u 8 = st 8) → G u pc lv [.int (zI z)]) :
    ∀ (n : Nat) (y4 : Int) (cur : zM), (0 ≤ y4) → (y4 ≤ 4) → (4 < y4 + n) → (cur = zwF uT f y4) → G cur 42 [(0, .ref (w.1 0)), (1, .int (zI q)), (2, .int (zI f)), (3, .int (zI y3)), (4, .int (zI y4))] [] := by
  intro n
  induction n with
  | zero =>
    intro y4 cur h1 h2 h3 hcur
    exfalso
    omega
  | succ n ih =>
    intro y4 cur h1 h2 h3 hcur
    refine rb_iload hB (j := 4) d_XbringIn_42 rfl ?_
    refine rb_iconst hB d_XbringIn_44 ?_
    refine rb_icmp_ge hB (tgt := 66) d_XbringIn_45 (by omega) (by omega) (by decide) (fun c45 => ?_) (fun c45 => ?_)
    · refine rb_aload_n hB (j := 0) d_XbringIn_66 rfl ?_
      refine rh_get hH 1 (by decide) d_XbringIn_67 rfl rfl ?_
      refine rb_iload_n hB (j := 2) d_XbringIn_70 rfl ?_
      refine rb_iconst hB d_XbringIn_71 ?_
      refine rh_ist hH 1 16 (by decide) d_XbringIn_72 rfl rfl (by omega) ?_
      refine rb_aload_n hB (j := 0) d_XbringIn_73 rfl ?_
      refine rh_get hH 2 (by decide) d_XbringIn_74 rfl rfl ?_
      refine rb_iload_n hB (j := 1) d_XbringIn_77 rfl ?_
      refine rb_iload_n hB (j := 2) d_XbringIn_78 rfl ?_
      refine rh_ist hH 2 32 (by decide) d_XbringIn_79 rfl rfl (by omega) ?_
      refine rb_aload_n hB (j := 0) d_XbringIn_80 rfl ?_
      refine rh_get hH 3 (by decide) d_XbringIn_81 rfl rfl ?_
      refine rb_iload_n hB (j := 1) d_XbringIn_84 rfl ?_
      refine rb_iconst hB d_XbringIn_85 ?_
      refine rh_bst hH 3 32 (by decide) d_XbringIn_86 rfl rfl (by omega) (by omega) ?_
      have e4 : y4 = 4 := by omega
      rw [hcur, e4]
      have hR1 := Rel_bring hst hT hq hF hf hU
      refine rb_aload_n hB (j := 0) d_XbringIn_87 rfl ?_
      refine rb_iload_n hB (j := 1) d_XbringIn_88 rfl ?_
      refine rb_iconst hB d_XbringIn_89 ?_
      refine rb_shr2 hB d_XbringIn_90 (by omega) ?_
      refine rc_v1 hC k_X89 (c_Xpromote (μ := tM μ q) (r := q / 4) (by omega) hR1) d_XbringIn_91 (by decide) (Nat.le_of_ble_eq_true rfl) (fun u91 h91 => ?_)
      refine rb_iconst hB d_XbringIn_94 ?_
      have a := (Rel_pres hst hq.1 hq.2).1.mpr hF
      exact hR _ _ _ _ d_XbringIn_95 rfl ⟨by unfold touchR; rw [if_neg (fun y => y a), if_neg hn], by unfold touchM; rw [if_neg (fun y => y a), if_neg hn]; exact h91.1, by rw [h91.2, up_j _ _ _ _ (by decide), up_j _ _ _ _ (by decide), up_j _ _ _ _ (by decide), zwF_j (by decide)]; exact hT.1 8 (by decide) (by decide) (by decide)⟩
    · refine rb_aload_n hB (j := 0) d_XbringIn_48 rfl ?_
      refine rh_get hH 0 (by decide) d_XbringIn_49 rfl rfl ?_
      refine rb_iload_n hB (j := 2) d_XbringIn_52 rfl ?_
      refine rb_iconst hB d_XbringIn_53 ?_
      refine rb_imul hB d_XbringIn_54 ?_
      refine rb_iload hB (j := 4) d_XbringIn_55 rfl ?_
      refine rb_iadd hB d_XbringIn_57 ?_
      refine rb_iconst hB d_XbringIn_58 ?_
      refine rh_ist hH 0 64 (by decide) d_XbringIn_59 rfl rfl (by omega) ?_
      refine rn_iinc hB 4 (fun y => [(0, .ref (w.1 0)), (1, .int (zI q)), (2, .int (zI f)), (3, .int (zI y3)), (4, .int (zI y))]) d_XbringIn_60 rfl (by decide) (fun _ => rfl) (fun y4_60 ey4_60 => ?_)
      refine rb_goto hB (tgt := 42) d_XbringIn_63 (by decide) ?_
      exact ih y4_60 _ (by omega) (by omega) (by omega) (by rw [hcur, zwF_s _ _ _ h1, ey4_60])
set_option maxHeartbeats 4000000 in
theorem c_XbringIn {l : Launch} {D : va_G} {w : zW} {st μ : zM} {q : Int} (hst : Rel st μ) (hq : 0 ≤ q ∧ q < 32) : CI l D (tysX w) (wX w) y_XbringIn b_XbringIn 5 .int 3 [.ref (w.1 0), .int (zI q)] st (fun z u => z = touchR μ q ∧ Rel u (touchM μ q) ∧ u 8 = st 8) := by
  refine conX_i [(0, .ref (w.1 0)), (1, .int (zI q))] rfl (Nat.le_of_ble_eq_true rfl) rfl (fun G hB hH hC hK hR => ?_)
  refine rb_aload_n hB (j := 0) d_XbringIn_0 rfl ?_
  refine rb_iload_n hB (j := 1) d_XbringIn_1 rfl ?_
  refine rc_i1 hC k_X80 (c_XframeOf (q := q) hst.1 hq) d_XbringIn_2 (by decide) (Nat.le_of_ble_eq_true rfl) (fun z2 u2 h2 => ?_)
  obtain ⟨h2, he2⟩ := h2
  rw [he2]
  refine rn_istore_n hB (fun y => [(0, .ref (w.1 0)), (1, .int (zI q)), (2, .int (zI y))]) d_XbringIn_5 (by decide) (fun _ => rfl) (fun y2_5 ey2_5 => ?_)
  have hb := Rel_frb hst hq.1 hq.2
  have hp := Rel_pres hst hq.1 hq.2
  refine rb_iload_n hB (j := 2) d_XbringIn_6 rfl ?_
  refine rb_if_lt hB (tgt := 12) d_XbringIn_7 (by omega) (by decide) (fun c7 => ?_) (fun c7 => ?_)
  · refine rb_aload_n hB (j := 0) d_XbringIn_12 rfl ?_
    refine rc_i0 hC k_X83 (c_XframesInUse hst.1) d_XbringIn_13 (by decide) (Nat.le_of_ble_eq_true rfl) (fun z13 u13 h13 => ?_)
    obtain ⟨h13, he13⟩ := h13
    rw [he13]
    refine rn_istore_n hB (fun y => [(0, .ref (w.1 0)), (1, .int (zI q)), (2, .int (zI y2_5)), (3, .int (zI y))]) d_XbringIn_16 (by decide) (fun _ => rfl) (fun y3_16 ey3_16 => ?_)
    have hc := Rel_count hst
    have hnb := nU_b (st 1)
    refine rb_iload_n hB (j := 3) d_XbringIn_17 rfl ?_
    refine rb_bipush hB d_XbringIn_18 (by decide) ?_
    refine rb_icmp_ne hB (tgt := 26) d_XbringIn_20 (by omega) (by omega) (by decide) (fun c20 => ?_) (fun c20 => ?_)
    · refine rb_aload_n hB (j := 0) d_XbringIn_26 rfl ?_
      refine rb_iload_n hB (j := 1) d_XbringIn_27 rfl ?_
      refine rc_i1 hC k_X86 (c_XtakeFrame (q := q) hst.1 hq (nU_free hst.1 (by omega))) d_XbringIn_28 (by decide) (Nat.le_of_ble_eq_true rfl) (fun z28 u28 h28 => ?_)
      refine rn_istore_n hB (fun y => [(0, .ref (w.1 0)), (1, .int (zI q)), (2, .int (zI y)), (3, .int (zI y3_16))]) d_XbringIn_31 (by decide) (fun _ => rfl) (fun y2_31 ey2_31 => ?_)
      have hn : nIU μ ≠ 16 := by omega
      refine rb_iload_n hB (j := 2) d_XbringIn_32 rfl ?_
      refine rb_if_ge hB (tgt := 39) d_XbringIn_33 (by omega) (by decide) (fun c33 => ?_) (fun c33 => ?_)
      · refine rb_iconst hB d_XbringIn_39 ?_
        refine rn_istore hB (fun y => [(0, .ref (w.1 0)), (1, .int (zI q)), (2, .int (zI y2_31)), (3, .int (zI y3_16)), (4, .int (zI y))]) d_XbringIn_40 (by decide) (fun _ => rfl) (fun y4_40 ey4_40 => ?_)
        exact w_XbringIn_42 hst hq (by omega) hn (by exact h28.2.2.2) (by omega) (by rw [ey2_31]; exact h28.2.2.1) hB hH hC hK hR 5 y4_40 _ (by omega) (by omega) (by omega) (by rw [ey4_40, zwF_0])
      · exfalso
        omega
    · refine rb_bipush hB d_XbringIn_23 (by decide) ?_
      exact hR _ _ _ _ d_XbringIn_25 rfl ⟨by unfold touchR; rw [if_neg (by omega), if_pos (by omega)], by unfold touchM; rw [if_neg (by omega), if_pos (by omega)]; exact hst, rfl⟩
  · refine rb_iconst hB d_XbringIn_10 ?_
    exact hR _ _ _ _ d_XbringIn_11 rfl ⟨by unfold touchR; rw [if_pos (by omega)], by unfold touchM; rw [if_pos (by omega)]; exact hst, rfl⟩
set_option maxHeartbeats 4000000 in
theorem c_Xopen {l : Launch} {D : va_G} {w : zW} {st μ : zM} {q : Int} (hst : Rel st μ) (hq : 0 ≤ q ∧ q < 32) : CI l D (tysX w) (wX w) y_Xopen b_Xopen 5 .int 4 [.ref (w.1 0), .int (zI q)] st (fun z u => z = ownR μ q ∧ Rel u (ownM μ q) ∧ u 8 = st 8) := by
  refine conX_i [(0, .ref (w.1 0)), (1, .int (zI q))] rfl (Nat.le_of_ble_eq_true rfl) rfl (fun G hB hH hC hK hR => ?_)
  refine rb_aload_n hB (j := 0) d_Xopen_0 rfl ?_
  refine rb_iload_n hB (j := 1) d_Xopen_1 rfl ?_
  refine rc_i1 hC k_X80 (c_XframeOf (q := q) hst.1 hq) d_Xopen_2 (by decide) (Nat.le_of_ble_eq_true rfl) (fun z2 u2 h2 => ?_)
  obtain ⟨h2, he2⟩ := h2
  rw [he2]
  refine rn_istore_n hB (fun y => [(0, .ref (w.1 0)), (1, .int (zI q)), (2, .int (zI y))]) d_Xopen_5 (by decide) (fun _ => rfl) (fun y2_5 ey2_5 => ?_)
  have hb := Rel_frb hst hq.1 hq.2
  have hp := Rel_pres hst hq.1 hq.2
  refine rb_iload_n hB (j := 2) d_Xopen_6 rfl ?_
  refine rb_if_ge hB (tgt := 26) d_Xopen_7 (by omega) (by decide) (fun c7 => ?_) (fun c7 => ?_)
  · refine rb_aload_n hB (j := 0) d_Xopen_26 rfl ?_
    refine rh_get hH 3 (by decide) d_Xopen_27 rfl rfl ?_
    refine rb_iload_n hB (j := 1) d_Xopen_30 rfl ?_
    refine rh_bld hH 3 32 (by decide) d_Xopen_31 rfl rfl (by omega) ?_
    have g3 := hst.1.2.2.1 q hq.1 hq.2
    have hl := hp.2.1 (by omega)
    refine rb_if_eq hB (tgt := 38) d_Xopen_32 (by omega) (by decide) (fun c32 => ?_) (fun c32 => ?_)
    · refine rb_aload_n hB (j := 0) d_Xopen_38 rfl ?_
      refine rh_get hH 1 (by decide) d_Xopen_39 rfl rfl ?_
      refine rb_iload_n hB (j := 2) d_Xopen_42 rfl ?_
      refine rh_ild hH 1 16 (by decide) d_Xopen_43 rfl rfl (by omega) ?_
      have hus := Rel_users hst hq.1 hq.2 (by omega)
      rw [← h2, ← ey2_5] at hus
      refine rb_iconst hB d_Xopen_44 ?_
      refine rb_icmp_ne hB (tgt := 50) d_Xopen_45 (by omega) (by omega) (by decide) (fun c45 => ?_) (fun c45 => ?_)
      · refine rb_aload_n hB (j := 0) d_Xopen_50 rfl ?_
        refine rc_i0 hC k_X83 (c_XframesInUse hst.1) d_Xopen_51 (by decide) (Nat.le_of_ble_eq_true rfl) (fun z51 u51 h51 => ?_)
        obtain ⟨h51, he51⟩ := h51
        rw [he51]
        refine rn_istore_n hB (fun y => [(0, .ref (w.1 0)), (1, .int (zI q)), (2, .int (zI y2_5)), (3, .int (zI y))]) d_Xopen_54 (by decide) (fun _ => rfl) (fun y3_54 ey3_54 => ?_)
        have hc := Rel_count hst
        have hnb := nU_b (st 1)
        refine rb_iload_n hB (j := 3) d_Xopen_55 rfl ?_
        refine rb_bipush hB d_Xopen_56 (by decide) ?_
        refine rb_icmp_ne hB (tgt := 64) d_Xopen_58 (by omega) (by omega) (by decide) (fun c58 => ?_) (fun c58 => ?_)
        · refine rb_aload_n hB (j := 0) d_Xopen_64 rfl ?_
          refine rb_iload_n hB (j := 1) d_Xopen_65 rfl ?_
          refine rc_i1 hC k_X86 (c_XtakeFrame (q := q) hst.1 hq (nU_free hst.1 (by omega))) d_Xopen_66 (by decide) (Nat.le_of_ble_eq_true rfl) (fun z66 u66 h66 => ?_)
          refine rn_istore hB (fun y => [(0, .ref (w.1 0)), (1, .int (zI q)), (2, .int (zI y2_5)), (3, .int (zI y3_54)), (4, .int (zI y))]) d_Xopen_69 (by decide) (fun _ => rfl) (fun y4_69 ey4_69 => ?_)
          refine rb_iload hB (j := 4) d_Xopen_71 rfl ?_
          refine rb_if_ge hB (tgt := 79) d_Xopen_73 (by omega) (by decide) (fun c73 => ?_) (fun c73 => ?_)
          · refine rb_aload_n hB (j := 0) d_Xopen_79 rfl ?_
            refine rb_iload_n hB (j := 2) d_Xopen_80 rfl ?_
            refine rb_iload hB (j := 4) d_Xopen_81 rfl ?_
            refine rc_v2 hC k_X46 (c_XcopyFrame (a := y2_5) (b := y4_69) (by omega) (by omega)) d_Xopen_83 (by decide) (Nat.le_of_ble_eq_true rfl) (fun u83 h83 => ?_)
            rw [h83]
            refine rb_aload_n hB (j := 0) d_Xopen_86 rfl ?_
            refine rh_get hH 1 (by decide) d_Xopen_87 rfl rfl ?_
            refine rb_iload_n hB (j := 2) d_Xopen_90 rfl ?_
            refine rb_iconst hB d_Xopen_91 ?_
            refine rh_ist hH 1 16 (by decide) d_Xopen_92 rfl rfl (by omega) ?_
            refine rb_aload_n hB (j := 0) d_Xopen_93 rfl ?_
            refine rh_get hH 1 (by decide) d_Xopen_94 rfl rfl ?_
            refine rb_iload hB (j := 4) d_Xopen_97 rfl ?_
            refine rb_iconst hB d_Xopen_99 ?_
            refine rh_ist hH 1 16 (by decide) d_Xopen_100 rfl rfl (by omega) ?_
            refine rb_aload_n hB (j := 0) d_Xopen_101 rfl ?_
            refine rh_get hH 2 (by decide) d_Xopen_102 rfl rfl ?_
            refine rb_iload_n hB (j := 1) d_Xopen_105 rfl ?_
            refine rb_iload hB (j := 4) d_Xopen_106 rfl ?_
            refine rh_ist hH 2 32 (by decide) d_Xopen_108 rfl rfl (by omega) ?_
            have hR1 := Rel_own hst h66.2.2.2 hq (by omega) (show y2_5 = fr st q by omega) (by omega) (show 0 ≤ y4_69 ∧ y4_69 < 16 by omega) (by rw [ey4_69]; exact h66.2.2.1)
            refine rb_aload_n hB (j := 0) d_Xopen_109 rfl ?_
            refine rb_iload_n hB (j := 1) d_Xopen_110 rfl ?_
            refine rb_iconst hB d_Xopen_111 ?_
            refine rb_shr2 hB d_Xopen_112 (by omega) ?_
            refine rc_v1 hC k_X70 (c_Xrelease (r := q / 4) hR1.1 (by omega)) d_Xopen_113 (by decide) (Nat.le_of_ble_eq_true rfl) (fun u113 h113 => ?_)
            have hR2 := Rel_HO hR1 h113
            refine rb_aload_n hB (j := 0) d_Xopen_116 rfl ?_
            refine rb_iload_n hB (j := 1) d_Xopen_117 rfl ?_
            refine rb_iconst hB d_Xopen_118 ?_
            refine rb_shr2 hB d_Xopen_119 (by omega) ?_
            refine rc_v1 hC k_X89 (c_Xpromote (r := q / 4) (by omega) hR2) d_Xopen_120 (by decide) (Nat.le_of_ble_eq_true rfl) (fun u120 h120 => ?_)
            refine rb_aload_n hB (j := 0) d_Xopen_123 rfl ?_
            refine rb_iload_n hB (j := 1) d_Xopen_124 rfl ?_
            refine rb_iconst hB d_Xopen_125 ?_
            refine rb_shr2 hB d_Xopen_126 (by omega) ?_
            refine rb_iconst hB d_Xopen_127 ?_
            refine rb_xor4 hB d_Xopen_128 (by omega) ?_
            refine rc_v1 hC k_X89 (c_Xpromote (r := if q / 4 < 4 then q / 4 + 4 else q / 4 - 4) (by split <;> omega) h120.1) d_Xopen_129 (by decide) (Nat.le_of_ble_eq_true rfl) (fun u129 h129 => ?_)
            refine rb_iconst hB d_Xopen_132 ?_
            exact hR _ _ _ _ d_Xopen_133 rfl ⟨by unfold ownR; rw [if_neg (by omega), if_neg (by omega), if_pos (by omega), if_neg (by omega)], by unfold ownM; rw [if_neg (by omega), if_neg (by omega), if_pos (by omega), if_neg (by omega)]; exact h129.1, by rw [h129.2, h120.2, h113.1 8 (by decide), up_j _ _ _ _ (by decide), up_j _ _ _ _ (by decide), up_j _ _ _ _ (by decide), cpF_j (by decide)]; exact h66.2.2.2.1 8 (by decide) (by decide) (by decide)⟩
          · exfalso
            omega
        · refine rb_bipush hB d_Xopen_61 (by decide) ?_
          exact hR _ _ _ _ d_Xopen_63 rfl ⟨by unfold ownR; rw [if_neg (by omega), if_neg (by omega), if_pos (by omega), if_pos (by omega)], by unfold ownM; rw [if_neg (by omega), if_neg (by omega), if_pos (by omega), if_pos (by omega)]; exact hst, rfl⟩
      · refine rb_iconst hB d_Xopen_48 ?_
        exact hR _ _ _ _ d_Xopen_49 rfl ⟨by unfold ownR; rw [if_neg (by omega), if_neg (by omega), if_neg (by omega)], by unfold ownM; rw [if_neg (by omega), if_neg (by omega), if_neg (by omega)]; exact hst, rfl⟩
    · refine rb_bipush hB d_Xopen_35 (by decide) ?_
      exact hR _ _ _ _ d_Xopen_37 rfl ⟨by unfold ownR; rw [if_pos (by omega)], by unfold ownM; rw [if_pos (by omega)]; exact hst, rfl⟩
  · refine rb_aload_n hB (j := 0) d_Xopen_10 rfl ?_
    refine rb_iload_n hB (j := 1) d_Xopen_11 rfl ?_
    refine rc_i1 hC k_X77 (c_XbringIn (q := q) hst hq) d_Xopen_12 (by decide) (Nat.le_of_ble_eq_true rfl) (fun z12 u12 h12 => ?_)
    obtain ⟨p12, q12⟩ := h12
    refine rn_istore_n hB (fun y => [(0, .ref (w.1 0)), (1, .int (zI q)), (2, .int (zI y2_5)), (3, .int (zI y))]) d_Xopen_15 (by decide) (fun _ => rfl) (fun y3_15 ey3_15 => ?_)
    have a0 := hp.1.mpr (by omega)
    have b12 : touchR μ q = if nIU μ = 16 then -2 else 1 := by unfold touchR; rw [if_neg (fun y => y a0)]
    have b13 : -2 ≤ touchR μ q ∧ touchR μ q ≤ 1 := by rw [b12]; split <;> omega
    refine rb_iload_n hB (j := 3) d_Xopen_16 rfl ?_
    refine rb_if_ge hB (tgt := 24) d_Xopen_17 (by omega) (by decide) (fun c17 => ?_) (fun c17 => ?_)
    · refine rb_iconst hB d_Xopen_24 ?_
      exact hR _ _ _ _ d_Xopen_25 rfl ⟨by unfold ownR; rw [if_neg (by omega), if_pos a0]; split <;> omega, by unfold ownM; rw [if_neg (by omega), if_pos a0]; exact q12.1, q12.2⟩
    · refine rb_iload_n hB (j := 3) d_Xopen_20 rfl ?_
      refine rb_goto hB (tgt := 25) d_Xopen_21 (by decide) ?_
      exact hR _ _ _ _ d_Xopen_25 rfl ⟨by unfold ownR; rw [if_neg (by omega), if_pos a0, ey3_15, p12, b12]; split <;> omega, by unfold ownM; rw [if_neg (by omega), if_pos a0]; exact q12.1, q12.2⟩
end
section
/-! what the calls answer (sR_..) and leave (sM_..), out of the reference's state -/
def sR_touch (μ : zM) (p v : Int) : Int := if 0 ≤ p ∧ p ≤ 1 ∧ 0 ≤ v ∧ v ≤ 15 then touchR μ (16 * p + v) else -1
def sM_touch (μ : zM) (p v : Int) : zM := if 0 ≤ p ∧ p ≤ 1 ∧ 0 ≤ v ∧ v ≤ 15 then touchM μ (16 * p + v) else μ
def wrM (μ : zM) (q w x : Int) : zM := if ownR μ q = 0 then up (ownM μ q) 1 (4 * q + w) x else ownM μ q
def sR_write (μ : zM) (p v w : Int) : Int := if (0 ≤ p ∧ p ≤ 1 ∧ 0 ≤ v ∧ v ≤ 15) ∧ 0 ≤ w ∧ w ≤ 3 then ownR μ (16 * p + v) else -1
def sM_write (μ : zM) (p v w x : Int) : zM := if (0 ≤ p ∧ p ≤ 1 ∧ 0 ≤ v ∧ v ≤ 15) ∧ 0 ≤ w ∧ w ≤ 3 then wrM μ (16 * p + v) w x else μ
def sR_read (μ : zM) (p v w : Int) : Int := if (0 ≤ p ∧ p ≤ 1 ∧ 0 ≤ v ∧ v ≤ 15) ∧ 0 ≤ w ∧ w ≤ 3 then rd μ (16 * p + v) w else 0
def unM (μ : zM) (q : Int) : zM := if μ 0 q = 0 then μ else remM μ q
def sR_unmap (μ : zM) (p v : Int) : Int := if 0 ≤ p ∧ p ≤ 1 ∧ 0 ≤ v ∧ v ≤ 15 then (if μ 0 (16 * p + v) = 0 then -3 else 0) else -1
def sM_unmap (μ : zM) (p v : Int) : zM := if 0 ≤ p ∧ p ≤ 1 ∧ 0 ≤ v ∧ v ≤ 15 then unM μ (16 * p + v) else μ
def sR_protect (μ : zM) (p v : Int) : Int := if 0 ≤ p ∧ p ≤ 1 ∧ 0 ≤ v ∧ v ≤ 15 then (if μ 0 (16 * p + v) = 0 then -3 else μ 0 (16 * p + v) - 1) else -1
def sM_protect (μ : zM) (p v x : Int) : zM := if 0 ≤ p ∧ p ≤ 1 ∧ 0 ≤ v ∧ v ≤ 15 then (if μ 0 (16 * p + v) = 0 then μ else up μ 0 (16 * p + v) (if x = 0 then 1 else 2)) else μ
def sR_state (μ : zM) (p v : Int) : Int := if 0 ≤ p ∧ p ≤ 1 ∧ 0 ≤ v ∧ v ≤ 15 then μ 0 (16 * p + v) else -1
def sR_shared (μ : zM) (v : Int) : Int := if (0 ≤ v ∧ v ≤ 15) ∧ μ 2 v ≠ 0 then 1 else 0
def sR_present (μ : zM) (p : Int) : Int := if 0 ≤ p ∧ p ≤ 1 then pr μ p else -1
def dg (μ : zM) (p : Int) : Int := smz 16 (fun v => smz 4 (fun w => rd μ (16 * p + v) w * (4 * v + w + 1)))
def sR_digest (μ : zM) (p : Int) : Int := if 0 ≤ p ∧ p ≤ 1 then dg μ p else 0
def urM (μ : zM) (p v : Int) : Nat → zM
  | 0 => μ
  | n + 1 => urM (unM μ (16 * p + v)) p (v + 1) n
def urR (μ : zM) (p v : Int) : Nat → Int
  | 0 => 0
  | n + 1 => (if μ 0 (16 * p + v) = 0 then 0 else 1) + urR (unM μ (16 * p + v)) p (v + 1) n
def sR_ur (μ : zM) (p a b : Int) : Int := if (0 ≤ p ∧ p ≤ 1 ∧ 0 ≤ a ∧ a ≤ 15) ∧ 0 ≤ p ∧ p ≤ 1 ∧ 0 ≤ b ∧ b ≤ 15 then urR μ p a (b + 1 - a).toNat else -1
def sM_ur (μ : zM) (p a b : Int) : zM := if (0 ≤ p ∧ p ≤ 1 ∧ 0 ≤ a ∧ a ≤ 15) ∧ 0 ≤ p ∧ p ≤ 1 ∧ 0 ≤ b ∧ b ≤ 15 then urM μ p a (b + 1 - a).toNat else μ
/-- copy: n words written -/
def cpL (μ : zM) (a b n : Int) : zM := fun j i => if j = 1 ∧ 4 * b ≤ i ∧ i < 4 * b + n then rd μ a (i - 4 * b) else ownM μ b j i
def cpM (μ : zM) (a b : Int) : zM := if ownR μ b = 0 then cpL μ a b 4 else ownM μ b
def sR_copy (μ : zM) (p v x : Int) : Int := if (0 ≤ p ∧ p ≤ 1 ∧ 0 ≤ v ∧ v ≤ 15) ∧ 0 ≤ p ∧ p ≤ 1 ∧ 0 ≤ x ∧ x ≤ 15 then ownR μ (16 * p + x) else -1
def sM_copy (μ : zM) (p v x : Int) : zM := if (0 ≤ p ∧ p ≤ 1 ∧ 0 ≤ v ∧ v ≤ 15) ∧ 0 ≤ p ∧ p ≤ 1 ∧ 0 ≤ x ∧ x ≤ 15 then cpM μ (16 * p + v) (16 * p + x) else μ
/-- split: n pages of the other process written -/
def spL (μ : zM) (p n : Int) : zM := fun j i => if j = 0 ∧ 16 * (1 - p) ≤ i ∧ i < 16 * (1 - p) + n then μ 0 (i - 16 * (1 - p) + 16 * p) else if j = 1 ∧ 64 * (1 - p) ≤ i ∧ i < 64 * (1 - p) + 4 * n then μ 1 (i - 64 * (1 - p) + 64 * p) else if j = 2 ∧ 0 ≤ i ∧ i < n then (if μ 0 (16 * p + i) = 0 then 0 else 1) else μ j i
def sR_split (μ : zM) (p : Int) : Int := if 0 ≤ p ∧ p ≤ 1 then pr μ p else -1
def sM_split (μ : zM) (p : Int) : zM := if 0 ≤ p ∧ p ≤ 1 then spL μ p 16 else μ
/-- what of the reference's state its own methods rest on -/
def MI (μ : zM) : Prop := (∀ q : Int, 0 ≤ q → q < 32 → 0 ≤ μ 0 q ∧ μ 0 q ≤ 2) ∧ (∀ v : Int, 0 ≤ v → v < 16 → 0 ≤ μ 2 v ∧ μ 2 v ≤ 1) ∧ ∀ q : Int, 0 ≤ q → q < 32 → μ 0 q = 0 → μ 2 (q % 16) = 0
theorem Rel.MI {st μ : zM} (h : Rel st μ) : MI μ := by
  refine ⟨fun q q0 q1 => (Rel_pres h q0 q1).2.2, fun v v0 v1 => Rel_com h v0 v1, fun q q0 q1 e => ?_⟩
  have a := (Rel_pres h q0 q1).1.mp e
  have b := h.2.2.2.2.2 (q % 16) (by omega) (by omega)
  rw [b]
  refine if_neg (fun y => ?_)
  rcases (show q < 16 ∨ 16 ≤ q by omega) with z | z
  · rw [show q % 16 = q by omega] at y; omega
  · rw [show q % 16 = q - 16 by omega, show 16 + (q - 16) = q by omega] at y; omega
theorem tM_e (μ : zM) (q : Int) (j : Nat) (i : Int) : tM μ q j i = if j = 0 ∧ i = q then 1 else if j = 1 ∧ 4 * q ≤ i ∧ i < 4 * q + 4 then 0 else μ j i := rfl
/-- what 'own' makes of the page that it lets write -/
theorem own_ok {μ : zM} {q : Int} (h : MI μ) (hq : 0 ≤ q ∧ q < 32) (ho : ownR μ q = 0) :
    ownM μ q 0 q = 1 ∧ ownM μ q 2 (q % 16) = 0 ∧ (∀ r : Int, r ≠ q → ownM μ q 0 r = μ 0 r) ∧ (∀ a w : Int, 0 ≤ w → w < 4 → (a ≠ q ∨ μ 0 q ≠ 0) → ownM μ q 1 (4 * a + w) = μ 1 (4 * a + w)) ∧ (∀ w : Int, 0 ≤ w → w < 4 → μ 0 q = 0 → ownM μ q 1 (4 * q + w) = 0) := by
  have hb := h.1 q hq.1 hq.2
  unfold ownR at ho
  unfold ownM
  by_cases e2 : μ 0 q = 2
  · rw [if_pos e2] at ho; omega
  · rw [if_neg e2] at ho ⊢
    by_cases e0 : μ 0 q = 0
    · rw [if_pos e0] at ho ⊢
      have hn : ¬ nIU μ = 16 := fun y => by rw [if_pos y] at ho; omega
      have et : touchM μ q = tM μ q := by unfold touchM; rw [if_neg (fun y => y e0), if_neg hn]
      rw [et]
      refine ⟨by rw [tM_e, if_pos ⟨rfl, rfl⟩], by rw [tM_e, if_neg (by omega), if_neg (by omega)]; exact h.2.2 q hq.1 hq.2 e0, fun r hr => by rw [tM_e, if_neg (fun y => hr y.2), if_neg (by omega)], fun a w w0 w1 ha => ?_, fun w w0 w1 _ => by rw [tM_e, if_neg (by omega), if_pos (by omega)]⟩
      rw [tM_e, if_neg (by omega), if_neg (by omega)]
    · rw [if_neg e0] at ho ⊢
      by_cases ec : μ 2 (q % 16) ≠ 0
      · rw [if_pos ec] at ho ⊢
        have hn : ¬ nIU μ = 16 := fun y => by rw [if_pos y] at ho; omega
        rw [if_neg hn]
        refine ⟨by rw [up_j _ _ _ _ (by decide)]; omega, up_s _ _ _ _, fun r _ => by rw [up_j _ _ _ _ (by decide)], fun a w _ _ _ => by rw [up_j _ _ _ _ (by decide)], fun w _ _ z => absurd z e0⟩
      · rw [if_neg ec]
        exact ⟨by omega, by omega, fun _ _ => rfl, fun _ _ _ _ _ => rfl, fun w _ _ z => absurd z e0⟩
theorem own_idem {ν : zM} {q : Int} (h0 : ν 0 q = 1) (h2 : ν 2 (q % 16) = 0) : ownR ν q = 0 ∧ ownM ν q = ν := by
  unfold ownR ownM
  rw [if_neg (by omega), if_neg (by omega), if_neg (by omega), if_neg (by omega), if_neg (by omega), if_neg (by omega)]
  exact ⟨rfl, rfl⟩
theorem cpL_s (μ : zM) (a b n : Int) (h : 0 ≤ n) : up (cpL μ a b n) 1 (4 * b + n) (rd μ a n) = cpL μ a b (n + 1) := by
  funext j i
  simp only [cpL, up_e]
  (repeat' split) <;> first | rfl | omega | (congr 1; omega)
theorem cpL_0 (μ : zM) (a b : Int) : cpL μ a b 0 = ownM μ b := by
  funext j i
  unfold cpL
  rw [if_neg (by omega)]
theorem cpL_j {μ : zM} {a b n : Int} {j : Nat} (h : j ≠ 1) : cpL μ a b n j = ownM μ b j := by
  funext i
  unfold cpL
  rw [if_neg (fun y => h y.1)]
/-- in the midst of a copy the source reads as at its start -/
theorem cpL_rd {μ : zM} {a b n : Int} (h : MI μ) (hb : 0 ≤ b ∧ b < 32) (ho : ownR μ b = 0) (hn : 0 ≤ n ∧ n < 4) : rd (cpL μ a b n) a n = rd μ a n := by
  obtain ⟨o1, o2, o3, o4, o5⟩ := own_ok h hb ho
  unfold rd
  rw [cpL_j (by decide)]
  have ew : ∀ c : Int, cpL μ a b n 1 (4 * c + n) = ownM μ b 1 (4 * c + n) := by
    intro c
    show (if 1 = 1 ∧ 4 * b ≤ 4 * c + n ∧ 4 * c + n < 4 * b + n then rd μ a (4 * c + n - 4 * b) else ownM μ b 1 (4 * c + n)) = _
    rw [if_neg (by omega)]
  rw [ew]
  by_cases e : a = b
  · rw [e, o1, if_neg (by decide)]
    by_cases z : μ 0 b = 0
    · rw [if_pos z, o5 n hn.1 hn.2 z]
    · rw [if_neg z, o4 b n hn.1 hn.2 (Or.inr z)]
  · rw [o3 a e, o4 a n hn.1 hn.2 (Or.inl e)]
/-- unmapRange on the reference -/
theorem unM_e (μ : zM) (q : Int) (hq : 0 ≤ q) : (∀ r : Int, unM μ q 0 r = if r = q then 0 else μ 0 r) ∧ unM μ q 1 = μ 1 ∧ (∀ v : Int, unM μ q 2 v = if v = q % 16 ∧ μ 0 q ≠ 0 then 0 else μ 2 v) := by
  unfold unM
  by_cases z : μ 0 q = 0
  · rw [if_pos z]
    refine ⟨fun r => ?_, rfl, fun v => by rw [if_neg (fun y => y.2 z)]⟩
    by_cases e : r = q
    · rw [if_pos e, e, z]
    · rw [if_neg e]
  · rw [if_neg z]
    unfold remM
    refine ⟨fun r => ?_, by rw [up_j _ _ _ _ (by decide), up_j _ _ _ _ (by decide)], fun v => ?_⟩
    · rw [up_j _ _ _ _ (by decide), up_e]
      by_cases e : r = q
      · rw [if_pos ⟨rfl, e⟩, if_pos e]
      · rw [if_neg (fun y => e y.2), if_neg e]
    · rw [up_e, up_j _ _ _ _ (by decide)]
      by_cases e : v = q % 16
      · rw [if_pos ⟨rfl, e⟩, if_pos ⟨e, z⟩]
      · rw [if_neg (fun y => e y.2), if_neg (fun y => e y.1)]
theorem urM_e (p : Int) (hp : 0 ≤ p ∧ p ≤ 1) : ∀ (n : Nat) (μ : zM) (v : Int), 0 ≤ v → v + n ≤ 16 →
    (∀ r : Int, urM μ p v n 0 r = if 16 * p + v ≤ r ∧ r < 16 * p + v + n then 0 else μ 0 r) ∧ urM μ p v n 1 = μ 1 ∧
    (∀ x : Int, urM μ p v n 2 x = if v ≤ x ∧ x < v + n ∧ μ 0 (16 * p + x) ≠ 0 then 0 else μ 2 x) := by
  intro n
  induction n with
  | zero =>
    intro μ v v0 v1
    refine ⟨fun r => ?_, rfl, fun x => ?_⟩
    · rw [if_neg (by omega)]; rfl
    · rw [if_neg (by omega)]; rfl
  | succ n ih =>
    intro μ v v0 v1
    obtain ⟨a0, a1, a2⟩ := ih (unM μ (16 * p + v)) (v + 1) (by omega) (by omega)
    obtain ⟨b0, b1, b2⟩ := unM_e μ (16 * p + v) (by omega)
    refine ⟨fun r => ?_, ?_, fun x => ?_⟩
    · show urM (unM μ (16 * p + v)) p (v + 1) n 0 r = _
      rw [a0, b0]
      by_cases e : r = 16 * p + v
      · rw [if_neg (by omega), if_pos e, if_pos (by omega)]
      · rw [if_neg e]
        by_cases z : 16 * p + v ≤ r ∧ r < 16 * p + v + ((n + 1 : Nat) : Int)
        · rw [if_pos (by omega), if_pos z]
        · rw [if_neg (by omega), if_neg z]
    · show urM (unM μ (16 * p + v)) p (v + 1) n 1 = _
      rw [a1, b1]
    · show urM (unM μ (16 * p + v)) p (v + 1) n 2 x = _
      rw [a2, b2, b0]
      by_cases e : x = v
      · rw [if_neg (by omega)]
        by_cases z : μ 0 (16 * p + v) ≠ 0
        · rw [if_pos ⟨by omega, z⟩, if_pos ⟨by omega, by omega, by rw [e]; exact z⟩]
        · rw [if_neg (fun y => z y.2), if_neg (fun y => z (by rw [← e]; exact y.2.2))]
      · rw [if_neg (show ¬ 16 * p + x = 16 * p + v by omega)]
        by_cases z : v + 1 ≤ x ∧ x < v + 1 + n ∧ μ 0 (16 * p + x) ≠ 0
        · rw [if_pos z, if_pos ⟨by omega, by omega, z.2.2⟩]
        · rw [if_neg z, if_neg (show ¬ (x = (16 * p + v) % 16 ∧ μ 0 (16 * p + v) ≠ 0) by omega), if_neg (fun y => z ⟨by omega, by omega, y.2.2⟩)]
/-- the unmapped page in the relation -/
theorem MI_un {μ : zM} {q : Int} (h : MI μ) (hq : 0 ≤ q ∧ q < 32) : MI (unM μ q) := by
  obtain ⟨b0, b1, b2⟩ := unM_e μ q hq.1
  refine ⟨fun r r0 r1 => ?_, fun v v0 v1 => ?_, fun r r0 r1 e => ?_⟩
  · have a := h.1 r r0 r1
    rw [b0]; split <;> omega
  · have a := h.2.1 v v0 v1
    rw [b2]; split <;> omega
  · rw [b2]
    rw [b0] at e
    split
    · rfl
    · rename_i z
      by_cases e2 : r = q
      · have : μ 0 q = 0 := by
          by_cases y : μ 0 q = 0
          · exact y
          · exact absurd ⟨by rw [e2], y⟩ z
        rw [e2]
        exact h.2.2 q hq.1 hq.2 this
      · rw [if_neg e2] at e
        exact h.2.2 r r0 r1 e
/-- a page comes to share the other's frame -/
theorem Rel_share {st u μ ν : zM} {q : Int} (h : Rel st μ) (hq : 0 ≤ q ∧ q < 32) (hF : fr st q < 0) (ho : 0 ≤ fr st (oth q)) (hL : st 4 (oth q / 4) < 0)
    (e0 : u 0 = st 0) (e1 : ∀ i : Int, u 1 i = if i = fr st (oth q) then 2 else st 1 i) (e2 : ∀ i : Int, u 2 i = if i = q then fr st (oth q) else st 2 i)
    (e3 : ∀ i : Int, u 3 i = if i = q then st 3 (oth q) else st 3 i) (e4 : u 4 = st 4) (e5 : u 5 = st 5)
    (n0 : ∀ r : Int, 0 ≤ r → r < 32 → ν 0 r = if r = q then μ 0 (oth q) else μ 0 r) (n1 : ∀ r w : Int, 0 ≤ r → r < 32 → 0 ≤ w → w < 4 → ν 1 (4 * r + w) = if r = q then μ 1 (4 * oth q + w) else μ 1 (4 * r + w))
    (n2 : ∀ v : Int, 0 ≤ v → v < 16 → ν 2 v = if v = q % 16 then 1 else μ 2 v) : Rel u ν := by
  obtain ⟨g, c, L, m0, m1, m2⟩ := h
  obtain ⟨p0, p1, p2, p3⟩ := oth_in hq.1 hq.2
  have hlq := fr_neg hq.1 hF
  have eF : ∀ r : Int, 0 ≤ r → r < 32 → fr u r = if r = q then fr st (oth q) else fr st r := by
    intro r r0 r1
    unfold fr FF
    rw [e4, e2]
    by_cases z : r = q
    · rw [if_pos z, z, if_neg (by omega), if_pos rfl]; rfl
    · rw [if_neg z, if_neg z]
  have hb := c.1 (oth q) p0 p1
  have c2 : Cr (fr u) (u 1) := Cr_share c hq hF ho eF (fun i _ _ => e1 i)
  refine ⟨⟨?_, ?_, ?_, by rw [e4]; exact g.2.2.2.1, by rw [e5]; exact g.2.2.2.2⟩, c2, ?_, ?_, ?_, ?_⟩
  · intro i i0 i1
    have a := g.1 i i0 i1
    rw [e1]; split <;> omega
  · intro i i0 i1
    have a := g.2.1 i i0 i1
    rw [e2]; split <;> omega
  · intro i i0 i1
    have a := g.2.2.1 i i0 i1
    have b := g.2.2.1 (oth q) p0 p1
    rw [e3]; split <;> omega
  · intro r r0 r1 hl
    obtain ⟨o0, o1, o2, o3⟩ := oth_in r0 r1
    rw [e4] at hl
    rw [eF r r0 r1, eF _ o0 o1]
    have hn : r ≠ q := fun z => by rw [z] at hl; omega
    have hn2 : oth r ≠ q := fun z => by
      rw [← z, o2] at hL
      omega
    rw [if_neg hn, if_neg hn2]
    exact L r r0 r1 hl
  · intro r r0 r1
    rw [n0 r r0 r1, eF r r0 r1, e3]
    by_cases z : r = q
    · rw [if_pos z, if_pos z, if_pos z, if_pos ho, m0 _ p0 p1, if_pos ho]
    · rw [if_neg z, if_neg z, if_neg z]
      exact m0 r r0 r1
  · intro r x r0 r1 x0 x1 hp
    rw [n1 r x r0 r1 x0 x1]
    rw [eF r r0 r1] at hp ⊢
    rw [e0]
    by_cases z : r = q
    · rw [if_pos z, if_pos z]
      exact m1 _ x p0 p1 x0 x1 ho
    · rw [if_neg z] at hp
      rw [if_neg z, if_neg z]
      exact m1 r x r0 r1 x0 x1 hp
  · intro v v0 v1
    rw [n2 v v0 v1, eF v v0 (by omega), eF (16 + v) (by omega) (by omega)]
    by_cases z : v = q % 16
    · rw [if_pos z]
      symm
      by_cases z2 : v = q
      · rw [if_pos z2, if_neg (show ¬ 16 + v = q by omega)]
        refine if_pos ⟨ho, ?_⟩
        rw [← z2, oth_lo v1]
      · have z3 : 16 + v = q := by omega
        rw [if_neg z2, if_pos z3]
        have : oth q = v := by rw [← z3]; exact oth_hi v0
        rw [this]
        rw [this] at ho
        exact if_pos ⟨ho, rfl⟩
    · rw [if_neg z, if_neg (show ¬ v = q by omega), if_neg (show ¬ 16 + v = q by omega)]
      exact m2 v v0 v1
theorem spL_2 {μ : zM} {p n v : Int} (h : 0 ≤ v) : spL μ p n 2 v = if v < n then (if μ 0 (16 * p + v) = 0 then 0 else 1) else μ 2 v := by
  unfold spL
  rw [if_neg (by omega), if_neg (by omega)]
  by_cases z : v < n
  · rw [if_pos ⟨rfl, h, z⟩, if_pos z]
  · rw [if_neg (fun y => z y.2.2), if_neg z]
/-- split's loop, a page that isn't there -/
theorem Rel_sp0 {st μ : zM} {p n : Int} (hp : 0 ≤ p ∧ p ≤ 1) (hn : 0 ≤ n ∧ n < 16) (hz : ∀ q : Int, 16 * (1 - p) ≤ q → q < 16 * (1 - p) + 16 → μ 0 q = 0) (hc : ∀ v : Int, 0 ≤ v → v < 16 → μ 2 v = 0) (h : Rel st (spL μ p n)) (ha : μ 0 (16 * p + n) = 0) : Rel st (spL μ p (n + 1)) := by
  refine Rel_mu h (fun q q0 q1 => ?_) (fun q w q0 q1 w0 w1 hq => ?_) (fun v v0 v1 => ?_)
  · unfold spL
    by_cases e : q = 16 * (1 - p) + n
    · rw [if_pos (by omega), if_neg (by omega), if_neg (by omega), if_neg (by omega), hz q (by omega) (by omega), show q - 16 * (1 - p) + 16 * p = 16 * p + n by omega, ha]
    · by_cases z : 16 * (1 - p) ≤ q ∧ q < 16 * (1 - p) + n
      · rw [if_pos (by omega), if_pos (by omega)]
      · rw [if_neg (by omega), if_neg (by omega), if_neg (by omega), if_neg (by omega), if_neg (by omega), if_neg (by omega)]
  · have hne : q ≠ 16 * (1 - p) + n := by
      intro e
      apply hq
      unfold spL
      rw [if_neg (by omega), if_neg (by omega), if_neg (by omega)]
      exact hz q (by omega) (by omega)
    unfold spL
    rw [if_neg (by omega), if_neg (show ¬ (1 = 0 ∧ 16 * (1 - p) ≤ 4 * q + w ∧ 4 * q + w < 16 * (1 - p) + n) by omega)]
    by_cases z : 64 * (1 - p) ≤ 4 * q + w ∧ 4 * q + w < 64 * (1 - p) + 4 * n
    · rw [if_pos (by omega), if_pos (by omega)]
    · rw [if_neg (by omega), if_neg (by omega), if_neg (by omega), if_neg (by omega)]
  · rw [spL_2 v0, spL_2 v0]
    by_cases e : v = n
    · rw [if_pos (show v < n + 1 by omega), if_neg (show ¬ v < n by omega), e, ha, if_pos rfl, hc n hn.1 hn.2]
    · by_cases z : v < n
      · rw [if_pos (show v < n + 1 by omega), if_pos z]
      · rw [if_neg (show ¬ v < n + 1 by omega), if_neg z]
/-- split's loop, a page that is shared -/
theorem Rel_sp1 {st u μ : zM} {p n f : Int} (hp : 0 ≤ p ∧ p ≤ 1) (hn : 0 ≤ n ∧ n < 16) (hz : ∀ q : Int, 16 * (1 - p) ≤ q → q < 16 * (1 - p) + 16 → μ 0 q = 0) (h : Rel st (spL μ p n)) (hL : st 4 ((16 * p + n) / 4) < 0) (hf : f = st 2 (16 * p + n)) (hf0 : 0 ≤ f)
    (e : u = up (up (up st 2 (16 * (1 - p) + n) f) 3 (16 * (1 - p) + n) (st 3 (16 * p + n))) 1 f 2) : Rel u (spL μ p (n + 1)) ∧ μ 0 (16 * p + n) ≠ 0 := by
  have ho : oth (16 * (1 - p) + n) = 16 * p + n := by unfold oth; split <;> omega
  have hfr : fr st (16 * p + n) = f := by rw [fr_sm hL, hf]
  have s0 : ∀ r : Int, 0 ≤ r → r < 32 → (16 * (1 - p) + n ≤ r ∧ r < 16 * (1 - p) + 16 ∨ r < 16 * (1 - p) ∨ 16 * (1 - p) + 16 ≤ r) → spL μ p n 0 r = μ 0 r := by
    intro r r0 r1 hr
    unfold spL
    rw [if_neg (by omega), if_neg (by omega), if_neg (by omega)]
  have hpn := Rel_pres h (q := 16 * p + n) (by omega) (by omega)
  have hon := Rel_pres h (q := 16 * (1 - p) + n) (by omega) (by omega)
  rw [s0 (16 * p + n) (by omega) (by omega) (by omega)] at hpn
  rw [s0 (16 * (1 - p) + n) (by omega) (by omega) (by omega), hz (16 * (1 - p) + n) (by omega) (by omega)] at hon
  have hnz : μ 0 (16 * p + n) ≠ 0 := fun y => by
    have := hpn.1.mp y
    omega
  refine ⟨?_, hnz⟩
  refine Rel_share (q := 16 * (1 - p) + n) h (by omega) (hon.1.mp rfl) (by rw [ho, hfr]; exact hf0) (by rw [ho]; exact hL) ?_ ?_ ?_ ?_ ?_ ?_ ?_ ?_ ?_
  · rw [e, up_j _ _ _ _ (by decide), up_j _ _ _ _ (by decide), up_j _ _ _ _ (by decide)]
  · intro i
    rw [e, ho, hfr, up_e, up_j _ _ _ _ (by decide), up_j _ _ _ _ (by decide)]
    by_cases z : i = f
    · rw [if_pos ⟨rfl, z⟩, if_pos z]
    · rw [if_neg (fun y => z y.2), if_neg z]
  · intro i
    rw [e, ho, hfr, up_j _ _ _ _ (by decide), up_j _ _ _ _ (by decide), up_e]
    by_cases z : i = 16 * (1 - p) + n
    · rw [if_pos ⟨rfl, z⟩, if_pos z]
    · rw [if_neg (fun y => z y.2), if_neg z]
  · intro i
    rw [e, ho, up_j _ _ _ _ (by decide), up_e, up_j _ _ _ _ (by decide)]
    by_cases z : i = 16 * (1 - p) + n
    · rw [if_pos ⟨rfl, z⟩, if_pos z]
    · rw [if_neg (fun y => z y.2), if_neg z]
  · rw [e, up_j _ _ _ _ (by decide), up_j _ _ _ _ (by decide), up_j _ _ _ _ (by decide)]
  · rw [e, up_j _ _ _ _ (by decide), up_j _ _ _ _ (by decide), up_j _ _ _ _ (by decide)]
  · intro r r0 r1
    rw [ho, s0 (16 * p + n) (by omega) (by omega) (by omega)]
    unfold spL
    by_cases z : r = 16 * (1 - p) + n
    · rw [if_pos (by omega), if_pos z, show r - 16 * (1 - p) + 16 * p = 16 * p + n by omega]
    · rw [if_neg z]
      by_cases z2 : 16 * (1 - p) ≤ r ∧ r < 16 * (1 - p) + n
      · rw [if_pos (by omega), if_pos (by omega)]
      · rw [if_neg (by omega), if_neg (by omega), if_neg (by omega), if_neg (by omega), if_neg (by omega), if_neg (by omega)]
  · intro r w r0 r1 w0 w1
    rw [ho]
    have e1 : spL μ p n 1 (4 * (16 * p + n) + w) = μ 1 (4 * (16 * p + n) + w) := by
      unfold spL
      rw [if_neg (by omega), if_neg (by omega), if_neg (by omega)]
    rw [e1]
    unfold spL
    rw [if_neg (by omega), if_neg (show ¬ (1 = 0 ∧ 16 * (1 - p) ≤ 4 * r + w ∧ 4 * r + w < 16 * (1 - p) + n) by omega)]
    by_cases z : r = 16 * (1 - p) + n
    · rw [if_pos (by omega), if_pos z]
      congr 1; omega
    · rw [if_neg z]
      by_cases z2 : 64 * (1 - p) ≤ 4 * r + w ∧ 4 * r + w < 64 * (1 - p) + 4 * n
      · rw [if_pos (by omega), if_pos (by omega)]
      · rw [if_neg (by omega), if_neg (by omega), if_neg (by omega), if_neg (by omega)]
  · intro v v0 v1
    rw [show (16 * (1 - p) + n) % 16 = n by omega]
    rw [spL_2 v0, spL_2 v0]
    by_cases z : v = n
    · rw [if_pos (show v < n + 1 by omega), if_pos z, z, if_neg hnz]
    · rw [if_neg z]
      by_cases z2 : v < n
      · rw [if_pos (show v < n + 1 by omega), if_pos z2]
      · rw [if_neg (show ¬ v < n + 1 by omega), if_neg z2]
theorem spL_0 (μ : zM) (p : Int) : spL μ p 0 = μ := by
  funext j i
  unfold spL
  rw [if_neg (by omega), if_neg (by omega), if_neg (by omega)]
/-- split's end: what was unmapped ahead of it makes no difference -/
theorem Rel_spE {st μ ν : zM} {p : Int} (hp : 0 ≤ p ∧ p ≤ 1) (e0 : ∀ q : Int, 16 * p ≤ q → q < 16 * p + 16 → ν 0 q = μ 0 q) (e1 : ν 1 = μ 1) (h : Rel st (spL ν p 16)) : Rel st (spL μ p 16) := by
  refine Rel_mu h (fun q q0 q1 => ?_) (fun q w q0 q1 w0 w1 _ => ?_) (fun v v0 v1 => ?_)
  · unfold spL
    by_cases z : 16 * (1 - p) ≤ q ∧ q < 16 * (1 - p) + 16
    · rw [if_pos (by omega), if_pos (by omega), e0 _ (by omega) (by omega)]
    · rw [if_neg (by omega), if_neg (by omega), if_neg (by omega), if_neg (by omega), if_neg (by omega), if_neg (by omega), e0 q (by omega) (by omega)]
  · unfold spL
    rw [e1]
    by_cases z : 64 * (1 - p) ≤ 4 * q + w ∧ 4 * q + w < 64 * (1 - p) + 4 * 16
    · rw [if_neg (by omega), if_pos (by omega), if_neg (by omega), if_pos (by omega)]
    · rw [if_neg (by omega), if_neg (by omega), if_neg (by omega), if_neg (by omega), if_neg (by omega), if_neg (by omega)]
  · rw [spL_2 v0, spL_2 v0, if_pos v1, if_pos v1, e0 (16 * p + v) (by omega) (by omega)]
/-- a word read by the class -/
theorem Rel_rd {st μ : zM} {q w : Int} (h : Rel st μ) (hq : 0 ≤ q ∧ q < 32) (hw : 0 ≤ w ∧ w < 4) : rd μ q w = if 0 ≤ fr st q then st 0 (fr st q * 4 + w) else 0 := by
  have a := (Rel_pres h hq.1 hq.2).1
  unfold rd
  by_cases z : 0 ≤ fr st q
  · rw [if_pos z, if_neg (fun y => by have := a.mp y; omega)]
    exact h.2.2.2.2.1 q w hq.1 hq.2 hw.1 hw.2 z
  · rw [if_neg z, if_pos (a.mpr (by omega))]
end
section
set_option maxHeartbeats 4000000 in
theorem c_Xtouch {l : Launch} {D : va_G} {w : zW} {st μ : zM} {p v : Int} (hst : Rel st μ) (hp : -2147483648 ≤ p ∧ p ≤ 2147483647) (hv : -2147483648 ≤ v ∧ v ≤ 2147483647) : CI l D (tysX w) (wX w) y_Xtouch b_Xtouch 3 .int 4 [.ref (w.1 0), .int (zI p), .int (zI v)] st (fun z u => z = sR_touch μ p v ∧ Rel u (sM_touch μ p v)) := by
  refine conX_i [(0, .ref (w.1 0)), (1, .int (zI p)), (2, .int (zI v))] rfl (Nat.le_of_ble_eq_true rfl) rfl (fun G hB hH hC hK hR => ?_)
  refine rb_aload_n hB (j := 0) d_Xtouch_0 rfl ?_
  refine rb_iload_n hB (j := 1) d_Xtouch_1 rfl ?_
  refine rb_iload_n hB (j := 2) d_Xtouch_2 rfl ?_
  refine rc_i2 hC k_X73 (c_Xbad (p := p) (v := v) (by omega) (by omega)) d_Xtouch_3 (by decide) (Nat.le_of_ble_eq_true rfl) (fun z3 u3 h3 => ?_)
  obtain ⟨h3, he3⟩ := h3
  rw [he3]
  have b3 : (z3 = 0 ∧ (0 ≤ p ∧ p ≤ 1 ∧ 0 ≤ v ∧ v ≤ 15)) ∨ (z3 = 1 ∧ ¬ (0 ≤ p ∧ p ≤ 1 ∧ 0 ≤ v ∧ v ≤ 15)) := by
    rw [h3]
    by_cases zz : (0 ≤ p ∧ p ≤ 1 ∧ 0 ≤ v ∧ v ≤ 15)
    · exact Or.inl ⟨if_pos zz, zz⟩
    · exact Or.inr ⟨if_neg zz, zz⟩
  refine rb_if_eq hB (tgt := 11) d_Xtouch_6 (by omega) (by decide) (fun c6 => ?_) (fun c6 => ?_)
  · refine rb_aload_n hB (j := 0) d_Xtouch_11 rfl ?_
    refine rb_iload_n hB (j := 1) d_Xtouch_12 rfl ?_
    refine rb_bipush hB d_Xtouch_13 (by decide) ?_
    refine rb_imul hB d_Xtouch_15 ?_
    refine rb_iload_n hB (j := 2) d_Xtouch_16 rfl ?_
    refine rb_iadd hB d_Xtouch_17 ?_
    rw [show p * 16 + v = 16 * p + v by omega]
    refine rc_i1 hC k_X77 (c_XbringIn (q := 16 * p + v) hst (by omega)) d_Xtouch_18 (by decide) (Nat.le_of_ble_eq_true rfl) (fun z18 u18 h18 => ?_)
    exact hR _ _ _ _ d_Xtouch_21 rfl ⟨by unfold sR_touch; rw [if_pos (by omega)]; exact h18.1, by unfold sM_touch; rw [if_pos (by omega)]; exact h18.2.1⟩
  · refine rb_iconst hB d_Xtouch_9 ?_
    exact hR _ _ _ _ d_Xtouch_10 rfl ⟨by unfold sR_touch; rw [if_neg (by omega)], by unfold sM_touch; rw [if_neg (by omega)]; exact hst⟩
set_option maxHeartbeats 4000000 in
theorem c_Xwrite {l : Launch} {D : va_G} {w : zW} {st μ : zM} {p v k x : Int} (hst : Rel st μ) (hp : -2147483648 ≤ p ∧ p ≤ 2147483647) (hv : -2147483648 ≤ v ∧ v ≤ 2147483647) (hk : -2147483648 ≤ k ∧ k ≤ 2147483647) : CI l D (tysX w) (wX w) y_Xwrite b_Xwrite 7 .int 5 [.ref (w.1 0), .int (zI p), .int (zI v), .int (zI k), .int (zI x)] st (fun z u => z = sR_write μ p v k ∧ Rel u (sM_write μ p v k x)) := by
  refine conX_i [(0, .ref (w.1 0)), (1, .int (zI p)), (2, .int (zI v)), (3, .int (zI k)), (4, .int (zI x))] rfl (Nat.le_of_ble_eq_true rfl) rfl (fun G hB hH hC hK hR => ?_)
  refine rb_aload_n hB (j := 0) d_Xwrite_0 rfl ?_
  refine rb_iload_n hB (j := 1) d_Xwrite_1 rfl ?_
  refine rb_iload_n hB (j := 2) d_Xwrite_2 rfl ?_
  refine rc_i2 hC k_X73 (c_Xbad (p := p) (v := v) (by omega) (by omega)) d_Xwrite_3 (by decide) (Nat.le_of_ble_eq_true rfl) (fun z3 u3 h3 => ?_)
  obtain ⟨h3, he3⟩ := h3
  rw [he3]
  have b3 : (z3 = 0 ∧ (0 ≤ p ∧ p ≤ 1 ∧ 0 ≤ v ∧ v ≤ 15)) ∨ (z3 = 1 ∧ ¬ (0 ≤ p ∧ p ≤ 1 ∧ 0 ≤ v ∧ v ≤ 15)) := by
    rw [h3]
    by_cases zz : (0 ≤ p ∧ p ≤ 1 ∧ 0 ≤ v ∧ v ≤ 15)
    · exact Or.inl ⟨if_pos zz, zz⟩
    · exact Or.inr ⟨if_neg zz, zz⟩
  refine rb_if_ne hB (tgt := 18) d_Xwrite_6 (by omega) (by decide) (fun c6 => ?_) (fun c6 => ?_)
  · refine rb_iconst hB d_Xwrite_18 ?_
    exact hR _ _ _ _ d_Xwrite_19 rfl ⟨by unfold sR_write; rw [if_neg (by omega)], by unfold sM_write; rw [if_neg (by omega)]; exact hst⟩
  · refine rb_iload_n hB (j := 3) d_Xwrite_9 rfl ?_
    refine rb_if_lt hB (tgt := 18) d_Xwrite_10 (by omega) (by decide) (fun c10 => ?_) (fun c10 => ?_)
    · refine rb_iconst hB d_Xwrite_18 ?_
      exact hR _ _ _ _ d_Xwrite_19 rfl ⟨by unfold sR_write; rw [if_neg (by omega)], by unfold sM_write; rw [if_neg (by omega)]; exact hst⟩
    · refine rb_iload_n hB (j := 3) d_Xwrite_13 rfl ?_
      refine rb_iconst hB d_Xwrite_14 ?_
      refine rb_icmp_le hB (tgt := 20) d_Xwrite_15 (by omega) (by omega) (by decide) (fun c15 => ?_) (fun c15 => ?_)
      · refine rb_aload_n hB (j := 0) d_Xwrite_20 rfl ?_
        refine rb_iload_n hB (j := 1) d_Xwrite_21 rfl ?_
        refine rb_bipush hB d_Xwrite_22 (by decide) ?_
        refine rb_imul hB d_Xwrite_24 ?_
        refine rb_iload_n hB (j := 2) d_Xwrite_25 rfl ?_
        refine rb_iadd hB d_Xwrite_26 ?_
        rw [show p * 16 + v = 16 * p + v by omega]
        refine rc_i1 hC k_X92 (c_Xopen (q := 16 * p + v) hst (by omega)) d_Xwrite_27 (by decide) (Nat.le_of_ble_eq_true rfl) (fun z27 u27 h27 => ?_)
        obtain ⟨p27, q27, r27⟩ := h27
        refine rn_istore hB (fun y => [(0, .ref (w.1 0)), (1, .int (zI p)), (2, .int (zI v)), (3, .int (zI k)), (4, .int (zI x)), (5, .int (zI y))]) d_Xwrite_30 (by decide) (fun _ => rfl) (fun y5_30 ey5_30 => ?_)
        have b27 : -4 ≤ ownR μ (16 * p + v) ∧ ownR μ (16 * p + v) ≤ 0 := by unfold ownR; (repeat' split) <;> omega
        refine rb_iload hB (j := 5) d_Xwrite_32 rfl ?_
        refine rb_if_ge hB (tgt := 40) d_Xwrite_34 (by omega) (by decide) (fun c34 => ?_) (fun c34 => ?_)
        · refine rb_aload_n hB (j := 0) d_Xwrite_40 rfl ?_
          refine rb_iload_n hB (j := 1) d_Xwrite_41 rfl ?_
          refine rb_bipush hB d_Xwrite_42 (by decide) ?_
          refine rb_imul hB d_Xwrite_44 ?_
          refine rb_iload_n hB (j := 2) d_Xwrite_45 rfl ?_
          refine rb_iadd hB d_Xwrite_46 ?_
          rw [show p * 16 + v = 16 * p + v by omega]
          have ho : ownR μ (16 * p + v) = 0 := by omega
          obtain ⟨o1, o2, -⟩ := own_ok hst.MI (show 0 ≤ 16 * p + v ∧ 16 * p + v < 32 by omega) ho
          have hpp := Rel_pres q27 (q := 16 * p + v) (by omega) (by omega)
          have hfb := Rel_frb q27 (q := 16 * p + v) (by omega) (by omega)
          refine rc_i1 hC k_X80 (c_XframeOf (q := 16 * p + v) q27.1 (by omega)) d_Xwrite_47 (by decide) (Nat.le_of_ble_eq_true rfl) (fun z47 u47 h47 => ?_)
          obtain ⟨h47, he47⟩ := h47
          rw [he47]
          refine rn_istore hB (fun y => [(0, .ref (w.1 0)), (1, .int (zI p)), (2, .int (zI v)), (3, .int (zI k)), (4, .int (zI x)), (5, .int (zI y5_30)), (6, .int (zI y))]) d_Xwrite_50 (by decide) (fun _ => rfl) (fun y6_50 ey6_50 => ?_)
          refine rb_aload_n hB (j := 0) d_Xwrite_52 rfl ?_
          refine rh_get hH 0 (by decide) d_Xwrite_53 rfl rfl ?_
          refine rb_iload hB (j := 6) d_Xwrite_56 rfl ?_
          refine rb_iconst hB d_Xwrite_58 ?_
          refine rb_imul hB d_Xwrite_59 ?_
          refine rb_iload_n hB (j := 3) d_Xwrite_60 rfl ?_
          refine rb_iadd hB d_Xwrite_61 ?_
          refine rb_iload hB (j := 4) d_Xwrite_62 rfl ?_
          refine rh_ist hH 0 64 (by decide) d_Xwrite_64 rfl rfl (by omega) ?_
          refine rb_iconst hB d_Xwrite_65 ?_
          exact hR _ _ _ _ d_Xwrite_66 rfl ⟨by unfold sR_write; rw [if_pos (by omega)]; omega, by unfold sM_write wrM; rw [if_pos (by omega), if_pos ho]; exact Rel_word q27 (by omega) (by omega) (by omega) o2 (by rw [ey6_50, h47])⟩
        · refine rb_iload hB (j := 5) d_Xwrite_37 rfl ?_
          exact hR _ _ _ _ d_Xwrite_39 rfl ⟨by unfold sR_write; rw [if_pos (by omega)]; omega, by unfold sM_write wrM; rw [if_pos (by omega), if_neg (by omega)]; exact q27⟩
      · refine rb_iconst hB d_Xwrite_18 ?_
        exact hR _ _ _ _ d_Xwrite_19 rfl ⟨by unfold sR_write; rw [if_neg (by omega)], by unfold sM_write; rw [if_neg (by omega)]; exact hst⟩
set_option maxHeartbeats 4000000 in
theorem c_Xread {l : Launch} {D : va_G} {w : zW} {st μ : zM} {p v k : Int} (hst : Rel st μ) (hp : -2147483648 ≤ p ∧ p ≤ 2147483647) (hv : -2147483648 ≤ v ∧ v ≤ 2147483647) (hk : -2147483648 ≤ k ∧ k ≤ 2147483647) : CI l D (tysX w) (wX w) y_Xread b_Xread 5 .int 1 [.ref (w.1 0), .int (zI p), .int (zI v), .int (zI k)] st (fun z u => z = sR_read μ p v k ∧ u = st) := by
  refine conX_i [(0, .ref (w.1 0)), (1, .int (zI p)), (2, .int (zI v)), (3, .int (zI k))] rfl (Nat.le_of_ble_eq_true rfl) rfl (fun G hB hH hC hK hR => ?_)
  refine rb_aload_n hB (j := 0) d_Xread_0 rfl ?_
  refine rb_iload_n hB (j := 1) d_Xread_1 rfl ?_
  refine rb_iload_n hB (j := 2) d_Xread_2 rfl ?_
  refine rc_i2 hC k_X73 (c_Xbad (p := p) (v := v) (by omega) (by omega)) d_Xread_3 (by decide) (Nat.le_of_ble_eq_true rfl) (fun z3 u3 h3 => ?_)
  obtain ⟨h3, he3⟩ := h3
  rw [he3]
  have b3 : (z3 = 0 ∧ (0 ≤ p ∧ p ≤ 1 ∧ 0 ≤ v ∧ v ≤ 15)) ∨ (z3 = 1 ∧ ¬ (0 ≤ p ∧ p ≤ 1 ∧ 0 ≤ v ∧ v ≤ 15)) := by
    rw [h3]
    by_cases zz : (0 ≤ p ∧ p ≤ 1 ∧ 0 ≤ v ∧ v ≤ 15)
    · exact Or.inl ⟨if_pos zz, zz⟩
    · exact Or.inr ⟨if_neg zz, zz⟩
  refine rb_if_ne hB (tgt := 18) d_Xread_6 (by omega) (by decide) (fun c6 => ?_) (fun c6 => ?_)
  · refine rb_iconst hB d_Xread_18 ?_
    exact hR _ _ _ _ d_Xread_19 rfl ⟨by unfold sR_read; rw [if_neg (by omega)], rfl⟩
  · refine rb_iload_n hB (j := 3) d_Xread_9 rfl ?_
    refine rb_if_lt hB (tgt := 18) d_Xread_10 (by omega) (by decide) (fun c10 => ?_) (fun c10 => ?_)
    · refine rb_iconst hB d_Xread_18 ?_
      exact hR _ _ _ _ d_Xread_19 rfl ⟨by unfold sR_read; rw [if_neg (by omega)], rfl⟩
    · refine rb_iload_n hB (j := 3) d_Xread_13 rfl ?_
      refine rb_iconst hB d_Xread_14 ?_
      refine rb_icmp_le hB (tgt := 20) d_Xread_15 (by omega) (by omega) (by decide) (fun c15 => ?_) (fun c15 => ?_)
      · refine rb_aload_n hB (j := 0) d_Xread_20 rfl ?_
        refine rb_iload_n hB (j := 1) d_Xread_21 rfl ?_
        refine rb_bipush hB d_Xread_22 (by decide) ?_
        refine rb_imul hB d_Xread_24 ?_
        refine rb_iload_n hB (j := 2) d_Xread_25 rfl ?_
        refine rb_iadd hB d_Xread_26 ?_
        rw [show p * 16 + v = 16 * p + v by omega]
        have hfb := Rel_frb hst (q := 16 * p + v) (by omega) (by omega)
        have hrd := Rel_rd hst (q := 16 * p + v) (w := k) (by omega) (by omega)
        refine rc_i1 hC k_X80 (c_XframeOf (q := 16 * p + v) hst.1 (by omega)) d_Xread_27 (by decide) (Nat.le_of_ble_eq_true rfl) (fun z27 u27 h27 => ?_)
        obtain ⟨h27, he27⟩ := h27
        rw [he27]
        refine rn_istore hB (fun y => [(0, .ref (w.1 0)), (1, .int (zI p)), (2, .int (zI v)), (3, .int (zI k)), (4, .int (zI y))]) d_Xread_30 (by decide) (fun _ => rfl) (fun y4_30 ey4_30 => ?_)
        refine rb_iload hB (j := 4) d_Xread_32 rfl ?_
        refine rb_if_ge hB (tgt := 41) d_Xread_34 (by omega) (by decide) (fun c34 => ?_) (fun c34 => ?_)
        · refine rb_aload_n hB (j := 0) d_Xread_41 rfl ?_
          refine rh_get hH 0 (by decide) d_Xread_42 rfl rfl ?_
          refine rb_iload hB (j := 4) d_Xread_45 rfl ?_
          refine rb_iconst hB d_Xread_47 ?_
          refine rb_imul hB d_Xread_48 ?_
          refine rb_iload_n hB (j := 3) d_Xread_49 rfl ?_
          refine rb_iadd hB d_Xread_50 ?_
          refine rh_ild hH 0 64 (by decide) d_Xread_51 rfl rfl (by omega) ?_
          exact hR _ _ _ _ d_Xread_52 rfl ⟨by unfold sR_read; rw [if_pos (by omega), hrd, if_pos (by omega)]; rw [ey4_30, h27], rfl⟩
        · refine rb_iconst hB d_Xread_37 ?_
          refine rb_goto hB (tgt := 52) d_Xread_38 (by decide) ?_
          exact hR _ _ _ _ d_Xread_52 rfl ⟨by unfold sR_read; rw [if_pos (by omega), hrd, if_neg (by omega)], rfl⟩
      · refine rb_iconst hB d_Xread_18 ?_
        exact hR _ _ _ _ d_Xread_19 rfl ⟨by unfold sR_read; rw [if_neg (by omega)], rfl⟩
set_option maxHeartbeats 4000000 in
theorem c_Xunmap {l : Launch} {D : va_G} {w : zW} {st μ : zM} {p v : Int} (hst : Rel st μ) (hp : -2147483648 ≤ p ∧ p ≤ 2147483647) (hv : -2147483648 ≤ v ∧ v ≤ 2147483647) : CI l D (tysX w) (wX w) y_Xunmap b_Xunmap 4 .int 3 [.ref (w.1 0), .int (zI p), .int (zI v)] st (fun z u => z = sR_unmap μ p v ∧ Rel u (sM_unmap μ p v)) := by
  refine conX_i [(0, .ref (w.1 0)), (1, .int (zI p)), (2, .int (zI v))] rfl (Nat.le_of_ble_eq_true rfl) rfl (fun G hB hH hC hK hR => ?_)
  refine rb_aload_n hB (j := 0) d_Xunmap_0 rfl ?_
  refine rb_iload_n hB (j := 1) d_Xunmap_1 rfl ?_
  refine rb_iload_n hB (j := 2) d_Xunmap_2 rfl ?_
  refine rc_i2 hC k_X73 (c_Xbad (p := p) (v := v) (by omega) (by omega)) d_Xunmap_3 (by decide) (Nat.le_of_ble_eq_true rfl) (fun z3 u3 h3 => ?_)
  obtain ⟨h3, he3⟩ := h3
  rw [he3]
  have b3 : (z3 = 0 ∧ (0 ≤ p ∧ p ≤ 1 ∧ 0 ≤ v ∧ v ≤ 15)) ∨ (z3 = 1 ∧ ¬ (0 ≤ p ∧ p ≤ 1 ∧ 0 ≤ v ∧ v ≤ 15)) := by
    rw [h3]
    by_cases zz : (0 ≤ p ∧ p ≤ 1 ∧ 0 ≤ v ∧ v ≤ 15)
    · exact Or.inl ⟨if_pos zz, zz⟩
    · exact Or.inr ⟨if_neg zz, zz⟩
  refine rb_if_eq hB (tgt := 11) d_Xunmap_6 (by omega) (by decide) (fun c6 => ?_) (fun c6 => ?_)
  · refine rb_aload_n hB (j := 0) d_Xunmap_11 rfl ?_
    refine rb_iload_n hB (j := 1) d_Xunmap_12 rfl ?_
    refine rb_bipush hB d_Xunmap_13 (by decide) ?_
    refine rb_imul hB d_Xunmap_15 ?_
    refine rb_iload_n hB (j := 2) d_Xunmap_16 rfl ?_
    refine rb_iadd hB d_Xunmap_17 ?_
    rw [show p * 16 + v = 16 * p + v by omega]
    have hfb := Rel_frb hst (q := 16 * p + v) (by omega) (by omega)
    have hpp := Rel_pres hst (q := 16 * p + v) (by omega) (by omega)
    refine rc_i1 hC k_X80 (c_XframeOf (q := 16 * p + v) hst.1 (by omega)) d_Xunmap_18 (by decide) (Nat.le_of_ble_eq_true rfl) (fun z18 u18 h18 => ?_)
    obtain ⟨h18, he18⟩ := h18
    rw [he18]
    refine rn_istore_n hB (fun y => [(0, .ref (w.1 0)), (1, .int (zI p)), (2, .int (zI v)), (3, .int (zI y))]) d_Xunmap_21 (by decide) (fun _ => rfl) (fun y3_21 ey3_21 => ?_)
    refine rb_iload_n hB (j := 3) d_Xunmap_22 rfl ?_
    refine rb_if_ge hB (tgt := 29) d_Xunmap_23 (by omega) (by decide) (fun c23 => ?_) (fun c23 => ?_)
    · refine rb_aload_n hB (j := 0) d_Xunmap_29 rfl ?_
      refine rb_iload_n hB (j := 1) d_Xunmap_30 rfl ?_
      refine rb_bipush hB d_Xunmap_31 (by decide) ?_
      refine rb_imul hB d_Xunmap_33 ?_
      refine rb_iload_n hB (j := 2) d_Xunmap_34 rfl ?_
      refine rb_iadd hB d_Xunmap_35 ?_
      rw [show p * 16 + v = 16 * p + v by omega]
      refine rc_v1 hC k_X95 (c_Xremove (q := 16 * p + v) hst (by omega) (by omega)) d_Xunmap_36 (by decide) (Nat.le_of_ble_eq_true rfl) (fun u36 h36 => ?_)
      refine rb_iconst hB d_Xunmap_39 ?_
      exact hR _ _ _ _ d_Xunmap_40 rfl ⟨by unfold sR_unmap; rw [if_pos (by omega), if_neg (by omega)], by unfold sM_unmap unM; rw [if_pos (by omega), if_neg (by omega)]; exact h36⟩
    · refine rb_bipush hB d_Xunmap_26 (by decide) ?_
      exact hR _ _ _ _ d_Xunmap_28 rfl ⟨by unfold sR_unmap; rw [if_pos (by omega), if_pos (by omega)], by unfold sM_unmap unM; rw [if_pos (by omega), if_pos (by omega)]; exact hst⟩
  · refine rb_iconst hB d_Xunmap_9 ?_
    exact hR _ _ _ _ d_Xunmap_10 rfl ⟨by unfold sR_unmap; rw [if_neg (by omega)], by unfold sM_unmap; rw [if_neg (by omega)]; exact hst⟩
set_option maxHeartbeats 4000000 in
theorem w_Xprotect_52 {l : Launch} {D : va_G} {w : zW} {G : zG zM} {st μ : zM} {p v x q f y6 : Int} (hst : Rel st μ) (hok : 0 ≤ p ∧ p ≤ 1 ∧ 0 ≤ v ∧ v ≤ 15) (hx : -2147483648 ≤ x ∧ x ≤ 2147483647) (hq : q = 16 * p + v) (hF : 0 ≤ fr st (16 * p + v)) (hpp : (μ 0 (16 * p + v) = 0 ↔ fr st (16 * p + v) < 0) ∧ (0 ≤ fr st (16 * p + v) → μ 0 (16 * p + v) = 1 + st 3 (16 * p + v)) ∧ (0 ≤ μ 0 (16 * p + v) ∧ μ 0 (16 * p + v) ≤ 2)) (h6 : y6 = st 3 q) (hB : RB b_Xprotect 7 G) (hH : RH b_Xprotect G (w.1 0) (adX w) fxX nxX intsX boolsX) (hC : RC l D (tysX w) (wX w) R_X (rmK 3) b_Xprotect G (w.1 0)) (hK : RK b_Xprotect G (w.1 0)) (hR : ∀ (u : zM) (pc : Nat) (lv : zL) (z : Int), decode b_Xprotect pc = .ok (.ireturn, 1) → narrow .int (.int (zI z)) = .int (zI z) → (z = sR_protect μ p v ∧ Rel u (sM_protect μ p v x)) → G u pc lv [.int (zI z)]) : G st 52 [(0, .ref (w.1 0)), (1, .int (zI p)), (2, .int (zI v)), (3, .int (zI x)), (4, .int (zI q)), (5, .int (zI f)), (6, .int (zI y6))] [] := by
  have hq3 : st 3 q = st 3 (16 * p + v) := by rw [hq]
  have hfq : fr st q = fr st (16 * p + v) := by rw [hq]
  refine rb_aload_n hB (j := 0) d_Xprotect_52 rfl ?_
  refine rh_get hH 3 (by decide) d_Xprotect_53 rfl rfl ?_
  refine rb_iload hB (j := 4) d_Xprotect_56 rfl ?_
  refine rh_bld hH 3 32 (by decide) d_Xprotect_58 rfl rfl (by omega) ?_
  have g3 := hst.1.2.2.1 q (by omega) (by omega)
  have hl := hpp.2.1 hF
  refine rb_iload_n hB (j := 3) d_Xprotect_59 rfl ?_
  refine rb_if_eq hB (tgt := 67) d_Xprotect_60 (by omega) (by decide) (fun c60 => ?_) (fun c60 => ?_)
  · refine rb_iconst hB d_Xprotect_67 ?_
    refine rb_icmp_eq hB (tgt := 103) d_Xprotect_68 (by omega) (by omega) (by decide) (fun c68 => ?_) (fun c68 => ?_)
    · refine rb_iload hB (j := 6) d_Xprotect_103 rfl ?_
      exact hR _ _ _ _ d_Xprotect_105 rfl ⟨by unfold sR_protect; rw [if_pos (by omega), if_neg (by omega)]; omega, by unfold sM_protect; rw [if_pos (by omega), if_neg (by omega)]; rw [up_id (by rw [hpp.2.1 hF]; split <;> omega)]; exact hst⟩
    · refine rb_aload_n hB (j := 0) d_Xprotect_71 rfl ?_
      refine rb_iload hB (j := 4) d_Xprotect_72 rfl ?_
      refine rb_iconst hB d_Xprotect_74 ?_
      refine rb_shr2 hB d_Xprotect_75 (by omega) ?_
      refine rc_v1 hC k_X66 (c_Xdemote (r := q / 4) hst.1 (by omega)) d_Xprotect_76 (by decide) (Nat.le_of_ble_eq_true rfl) (fun u76 h76 => ?_)
      have hR1 : Rel u76 μ := by rw [h76]; exact Rel_dem hst (by omega)
      have hf1 : fr u76 q = fr st q := by rw [h76]; exact fr_dem (by omega)
      refine rb_aload_n hB (j := 0) d_Xprotect_79 rfl ?_
      refine rh_get hH 3 (by decide) d_Xprotect_80 rfl rfl ?_
      refine rb_iload hB (j := 4) d_Xprotect_83 rfl ?_
      refine rb_iload_n hB (j := 3) d_Xprotect_85 rfl ?_
      refine rb_if_eq hB (tgt := 93) d_Xprotect_86 (by omega) (by decide) (fun c86 => ?_) (fun c86 => ?_)
      · refine rb_iconst hB d_Xprotect_93 ?_
        refine rh_bst hH 3 32 (by decide) d_Xprotect_94 rfl rfl (by omega) (by omega) ?_
        have hR2 := Rel_lock (q := q) (b := 0) hR1 (by omega) (by omega) (by omega) rfl
        refine rb_aload_n hB (j := 0) d_Xprotect_95 rfl ?_
        refine rb_iload hB (j := 4) d_Xprotect_96 rfl ?_
        refine rb_iconst hB d_Xprotect_98 ?_
        refine rb_shr2 hB d_Xprotect_99 (by omega) ?_
        refine rc_v1 hC k_X89 (c_Xpromote (r := q / 4) (by omega) hR2) d_Xprotect_100 (by decide) (Nat.le_of_ble_eq_true rfl) (fun u100 h100 => ?_)
        have hfin : Rel u100 (up μ 0 (16 * p + v) (if x = 0 then 1 else 2)) := by
          have := h100.1
          rw [hq] at this
          split
          · first | exact this | omega
          · first | exact this | omega
        refine rb_iload hB (j := 6) d_Xprotect_103 rfl ?_
        exact hR _ _ _ _ d_Xprotect_105 rfl ⟨by unfold sR_protect; rw [if_pos (by omega), if_neg (by omega)]; omega, by unfold sM_protect; rw [if_pos (by omega), if_neg (by omega)]; exact hfin⟩
      · refine rb_iconst hB d_Xprotect_89 ?_
        refine rb_goto hB (tgt := 94) d_Xprotect_90 (by decide) ?_
        refine rh_bst hH 3 32 (by decide) d_Xprotect_94 rfl rfl (by omega) (by omega) ?_
        have hR2 := Rel_lock (q := q) (b := 1) hR1 (by omega) (by omega) (by omega) rfl
        refine rb_aload_n hB (j := 0) d_Xprotect_95 rfl ?_
        refine rb_iload hB (j := 4) d_Xprotect_96 rfl ?_
        refine rb_iconst hB d_Xprotect_98 ?_
        refine rb_shr2 hB d_Xprotect_99 (by omega) ?_
        refine rc_v1 hC k_X89 (c_Xpromote (r := q / 4) (by omega) hR2) d_Xprotect_100 (by decide) (Nat.le_of_ble_eq_true rfl) (fun u100 h100 => ?_)
        have hfin : Rel u100 (up μ 0 (16 * p + v) (if x = 0 then 1 else 2)) := by
          have := h100.1
          rw [hq] at this
          split
          · first | exact this | omega
          · first | exact this | omega
        refine rb_iload hB (j := 6) d_Xprotect_103 rfl ?_
        exact hR _ _ _ _ d_Xprotect_105 rfl ⟨by unfold sR_protect; rw [if_pos (by omega), if_neg (by omega)]; omega, by unfold sM_protect; rw [if_pos (by omega), if_neg (by omega)]; exact hfin⟩
  · refine rb_iconst hB d_Xprotect_63 ?_
    refine rb_goto hB (tgt := 68) d_Xprotect_64 (by decide) ?_
    refine rb_icmp_eq hB (tgt := 103) d_Xprotect_68 (by omega) (by omega) (by decide) (fun c68 => ?_) (fun c68 => ?_)
    · refine rb_iload hB (j := 6) d_Xprotect_103 rfl ?_
      exact hR _ _ _ _ d_Xprotect_105 rfl ⟨by unfold sR_protect; rw [if_pos (by omega), if_neg (by omega)]; omega, by unfold sM_protect; rw [if_pos (by omega), if_neg (by omega)]; rw [up_id (by rw [hpp.2.1 hF]; split <;> omega)]; exact hst⟩
    · refine rb_aload_n hB (j := 0) d_Xprotect_71 rfl ?_
      refine rb_iload hB (j := 4) d_Xprotect_72 rfl ?_
      refine rb_iconst hB d_Xprotect_74 ?_
      refine rb_shr2 hB d_Xprotect_75 (by omega) ?_
      refine rc_v1 hC k_X66 (c_Xdemote (r := q / 4) hst.1 (by omega)) d_Xprotect_76 (by decide) (Nat.le_of_ble_eq_true rfl) (fun u76 h76 => ?_)
      have hR1 : Rel u76 μ := by rw [h76]; exact Rel_dem hst (by omega)
      have hf1 : fr u76 q = fr st q := by rw [h76]; exact fr_dem (by omega)
      refine rb_aload_n hB (j := 0) d_Xprotect_79 rfl ?_
      refine rh_get hH 3 (by decide) d_Xprotect_80 rfl rfl ?_
      refine rb_iload hB (j := 4) d_Xprotect_83 rfl ?_
      refine rb_iload_n hB (j := 3) d_Xprotect_85 rfl ?_
      refine rb_if_eq hB (tgt := 93) d_Xprotect_86 (by omega) (by decide) (fun c86 => ?_) (fun c86 => ?_)
      · refine rb_iconst hB d_Xprotect_93 ?_
        refine rh_bst hH 3 32 (by decide) d_Xprotect_94 rfl rfl (by omega) (by omega) ?_
        have hR2 := Rel_lock (q := q) (b := 0) hR1 (by omega) (by omega) (by omega) rfl
        refine rb_aload_n hB (j := 0) d_Xprotect_95 rfl ?_
        refine rb_iload hB (j := 4) d_Xprotect_96 rfl ?_
        refine rb_iconst hB d_Xprotect_98 ?_
        refine rb_shr2 hB d_Xprotect_99 (by omega) ?_
        refine rc_v1 hC k_X89 (c_Xpromote (r := q / 4) (by omega) hR2) d_Xprotect_100 (by decide) (Nat.le_of_ble_eq_true rfl) (fun u100 h100 => ?_)
        have hfin : Rel u100 (up μ 0 (16 * p + v) (if x = 0 then 1 else 2)) := by
          have := h100.1
          rw [hq] at this
          split
          · first | exact this | omega
          · first | exact this | omega
        refine rb_iload hB (j := 6) d_Xprotect_103 rfl ?_
        exact hR _ _ _ _ d_Xprotect_105 rfl ⟨by unfold sR_protect; rw [if_pos (by omega), if_neg (by omega)]; omega, by unfold sM_protect; rw [if_pos (by omega), if_neg (by omega)]; exact hfin⟩
      · refine rb_iconst hB d_Xprotect_89 ?_
        refine rb_goto hB (tgt := 94) d_Xprotect_90 (by decide) ?_
        refine rh_bst hH 3 32 (by decide) d_Xprotect_94 rfl rfl (by omega) (by omega) ?_
        have hR2 := Rel_lock (q := q) (b := 1) hR1 (by omega) (by omega) (by omega) rfl
        refine rb_aload_n hB (j := 0) d_Xprotect_95 rfl ?_
        refine rb_iload hB (j := 4) d_Xprotect_96 rfl ?_
        refine rb_iconst hB d_Xprotect_98 ?_
        refine rb_shr2 hB d_Xprotect_99 (by omega) ?_
        refine rc_v1 hC k_X89 (c_Xpromote (r := q / 4) (by omega) hR2) d_Xprotect_100 (by decide) (Nat.le_of_ble_eq_true rfl) (fun u100 h100 => ?_)
        have hfin : Rel u100 (up μ 0 (16 * p + v) (if x = 0 then 1 else 2)) := by
          have := h100.1
          rw [hq] at this
          split
          · first | exact this | omega
          · first | exact this | omega
        refine rb_iload hB (j := 6) d_Xprotect_103 rfl ?_
        exact hR _ _ _ _ d_Xprotect_105 rfl ⟨by unfold sR_protect; rw [if_pos (by omega), if_neg (by omega)]; omega, by unfold sM_protect; rw [if_pos (by omega), if_neg (by omega)]; exact hfin⟩
set_option maxHeartbeats 4000000 in
theorem c_Xprotect {l : Launch} {D : va_G} {w : zW} {st μ : zM} {p v x : Int} (hst : Rel st μ) (hp : -2147483648 ≤ p ∧ p ≤ 2147483647) (hv : -2147483648 ≤ v ∧ v ≤ 2147483647) (hx : -2147483648 ≤ x ∧ x ≤ 2147483647) : CI l D (tysX w) (wX w) y_Xprotect b_Xprotect 7 .int 3 [.ref (w.1 0), .int (zI p), .int (zI v), .int (zI x)] st (fun z u => z = sR_protect μ p v ∧ Rel u (sM_protect μ p v x)) := by
  refine conX_i [(0, .ref (w.1 0)), (1, .int (zI p)), (2, .int (zI v)), (3, .int (zI x))] rfl (Nat.le_of_ble_eq_true rfl) rfl (fun G hB hH hC hK hR => ?_)
  refine rb_aload_n hB (j := 0) d_Xprotect_0 rfl ?_
  refine rb_iload_n hB (j := 1) d_Xprotect_1 rfl ?_
  refine rb_iload_n hB (j := 2) d_Xprotect_2 rfl ?_
  refine rc_i2 hC k_X73 (c_Xbad (p := p) (v := v) (by omega) (by omega)) d_Xprotect_3 (by decide) (Nat.le_of_ble_eq_true rfl) (fun z3 u3 h3 => ?_)
  obtain ⟨h3, he3⟩ := h3
  rw [he3]
  have b3 : (z3 = 0 ∧ (0 ≤ p ∧ p ≤ 1 ∧ 0 ≤ v ∧ v ≤ 15)) ∨ (z3 = 1 ∧ ¬ (0 ≤ p ∧ p ≤ 1 ∧ 0 ≤ v ∧ v ≤ 15)) := by
    rw [h3]
    by_cases zz : (0 ≤ p ∧ p ≤ 1 ∧ 0 ≤ v ∧ v ≤ 15)
    · exact Or.inl ⟨if_pos zz, zz⟩
    · exact Or.inr ⟨if_neg zz, zz⟩
  refine rb_if_eq hB (tgt := 11) d_Xprotect_6 (by omega) (by decide) (fun c6 => ?_) (fun c6 => ?_)
  · refine rb_iload_n hB (j := 1) d_Xprotect_11 rfl ?_
    refine rb_bipush hB d_Xprotect_12 (by decide) ?_
    refine rb_imul hB d_Xprotect_14 ?_
    refine rb_iload_n hB (j := 2) d_Xprotect_15 rfl ?_
    refine rb_iadd hB d_Xprotect_16 ?_
    refine rn_istore hB (fun y => [(0, .ref (w.1 0)), (1, .int (zI p)), (2, .int (zI v)), (3, .int (zI x)), (4, .int (zI y))]) d_Xprotect_17 (by decide) (fun _ => rfl) (fun y4_17 ey4_17 => ?_)
    have hfb := Rel_frb hst (q := 16 * p + v) (by omega) (by omega)
    have hpp := Rel_pres hst (q := 16 * p + v) (by omega) (by omega)
    refine rb_aload_n hB (j := 0) d_Xprotect_19 rfl ?_
    refine rb_iload hB (j := 4) d_Xprotect_20 rfl ?_
    refine rc_i1 hC k_X80 (c_XframeOf (q := y4_17) hst.1 (by omega)) d_Xprotect_22 (by decide) (Nat.le_of_ble_eq_true rfl) (fun z22 u22 h22 => ?_)
    obtain ⟨h22, he22⟩ := h22
    rw [he22]
    rw [show y4_17 = 16 * p + v by omega] at h22
    refine rn_istore hB (fun y => [(0, .ref (w.1 0)), (1, .int (zI p)), (2, .int (zI v)), (3, .int (zI x)), (4, .int (zI y4_17)), (5, .int (zI y))]) d_Xprotect_25 (by decide) (fun _ => rfl) (fun y5_25 ey5_25 => ?_)
    refine rb_iload hB (j := 5) d_Xprotect_27 rfl ?_
    refine rb_if_ge hB (tgt := 35) d_Xprotect_29 (by omega) (by decide) (fun c29 => ?_) (fun c29 => ?_)
    · refine rb_aload_n hB (j := 0) d_Xprotect_35 rfl ?_
      refine rh_get hH 3 (by decide) d_Xprotect_36 rfl rfl ?_
      refine rb_iload hB (j := 4) d_Xprotect_39 rfl ?_
      refine rh_bld hH 3 32 (by decide) d_Xprotect_41 rfl rfl (by omega) ?_
      have g3 := hst.1.2.2.1 y4_17 (by omega) (by omega)
      refine rb_if_eq hB (tgt := 49) d_Xprotect_42 (by omega) (by decide) (fun c42 => ?_) (fun c42 => ?_)
      · refine rb_iconst hB d_Xprotect_49 ?_
        refine rn_istore hB (fun y => [(0, .ref (w.1 0)), (1, .int (zI p)), (2, .int (zI v)), (3, .int (zI x)), (4, .int (zI y4_17)), (5, .int (zI y5_25)), (6, .int (zI y))]) d_Xprotect_50 (by decide) (fun _ => rfl) (fun y6_50 ey6_50 => ?_)
        exact w_Xprotect_52 hst (by omega) hx (by omega) (by omega) hpp (by omega) hB hH hC hK hR
      · refine rb_iconst hB d_Xprotect_45 ?_
        refine rb_goto hB (tgt := 50) d_Xprotect_46 (by decide) ?_
        refine rn_istore hB (fun y => [(0, .ref (w.1 0)), (1, .int (zI p)), (2, .int (zI v)), (3, .int (zI x)), (4, .int (zI y4_17)), (5, .int (zI y5_25)), (6, .int (zI y))]) d_Xprotect_50 (by decide) (fun _ => rfl) (fun y6_50 ey6_50 => ?_)
        exact w_Xprotect_52 hst (by omega) hx (by omega) (by omega) hpp (by omega) hB hH hC hK hR
    · refine rb_bipush hB d_Xprotect_32 (by decide) ?_
      exact hR _ _ _ _ d_Xprotect_34 rfl ⟨by unfold sR_protect; rw [if_pos (by omega), if_pos (by omega)], by unfold sM_protect; rw [if_pos (by omega), if_pos (by omega)]; exact hst⟩
  · refine rb_iconst hB d_Xprotect_9 ?_
    exact hR _ _ _ _ d_Xprotect_10 rfl ⟨by unfold sR_protect; rw [if_neg (by omega)], by unfold sM_protect; rw [if_neg (by omega)]; exact hst⟩
set_option maxHeartbeats 4000000 in
theorem c_Xstate {l : Launch} {D : va_G} {w : zW} {st μ : zM} {p v : Int} (hst : Rel st μ) (hp : -2147483648 ≤ p ∧ p ≤ 2147483647) (hv : -2147483648 ≤ v ∧ v ≤ 2147483647) : CI l D (tysX w) (wX w) y_Xstate b_Xstate 4 .int 1 [.ref (w.1 0), .int (zI p), .int (zI v)] st (fun z u => z = sR_state μ p v ∧ u = st) := by
  refine conX_i [(0, .ref (w.1 0)), (1, .int (zI p)), (2, .int (zI v))] rfl (Nat.le_of_ble_eq_true rfl) rfl (fun G hB hH hC hK hR => ?_)
  refine rb_aload_n hB (j := 0) d_Xstate_0 rfl ?_
  refine rb_iload_n hB (j := 1) d_Xstate_1 rfl ?_
  refine rb_iload_n hB (j := 2) d_Xstate_2 rfl ?_
  refine rc_i2 hC k_X73 (c_Xbad (p := p) (v := v) (by omega) (by omega)) d_Xstate_3 (by decide) (Nat.le_of_ble_eq_true rfl) (fun z3 u3 h3 => ?_)
  obtain ⟨h3, he3⟩ := h3
  rw [he3]
  have b3 : (z3 = 0 ∧ (0 ≤ p ∧ p ≤ 1 ∧ 0 ≤ v ∧ v ≤ 15)) ∨ (z3 = 1 ∧ ¬ (0 ≤ p ∧ p ≤ 1 ∧ 0 ≤ v ∧ v ≤ 15)) := by
    rw [h3]
    by_cases zz : (0 ≤ p ∧ p ≤ 1 ∧ 0 ≤ v ∧ v ≤ 15)
    · exact Or.inl ⟨if_pos zz, zz⟩
    · exact Or.inr ⟨if_neg zz, zz⟩
  refine rb_if_eq hB (tgt := 11) d_Xstate_6 (by omega) (by decide) (fun c6 => ?_) (fun c6 => ?_)
  · refine rb_aload_n hB (j := 0) d_Xstate_11 rfl ?_
    refine rb_iload_n hB (j := 1) d_Xstate_12 rfl ?_
    refine rb_bipush hB d_Xstate_13 (by decide) ?_
    refine rb_imul hB d_Xstate_15 ?_
    refine rb_iload_n hB (j := 2) d_Xstate_16 rfl ?_
    refine rb_iadd hB d_Xstate_17 ?_
    rw [show p * 16 + v = 16 * p + v by omega]
    have hfb := Rel_frb hst (q := 16 * p + v) (by omega) (by omega)
    have hpp := Rel_pres hst (q := 16 * p + v) (by omega) (by omega)
    refine rc_i1 hC k_X80 (c_XframeOf (q := 16 * p + v) hst.1 (by omega)) d_Xstate_18 (by decide) (Nat.le_of_ble_eq_true rfl) (fun z18 u18 h18 => ?_)
    obtain ⟨h18, he18⟩ := h18
    rw [he18]
    refine rn_istore_n hB (fun y => [(0, .ref (w.1 0)), (1, .int (zI p)), (2, .int (zI v)), (3, .int (zI y))]) d_Xstate_21 (by decide) (fun _ => rfl) (fun y3_21 ey3_21 => ?_)
    refine rb_iload_n hB (j := 3) d_Xstate_22 rfl ?_
    refine rb_if_ge hB (tgt := 28) d_Xstate_23 (by omega) (by decide) (fun c23 => ?_) (fun c23 => ?_)
    · refine rb_aload_n hB (j := 0) d_Xstate_28 rfl ?_
      refine rh_get hH 3 (by decide) d_Xstate_29 rfl rfl ?_
      refine rb_iload_n hB (j := 1) d_Xstate_32 rfl ?_
      refine rb_bipush hB d_Xstate_33 (by decide) ?_
      refine rb_imul hB d_Xstate_35 ?_
      refine rb_iload_n hB (j := 2) d_Xstate_36 rfl ?_
      refine rb_iadd hB d_Xstate_37 ?_
      rw [show p * 16 + v = 16 * p + v by omega]
      refine rh_bld hH 3 32 (by decide) d_Xstate_38 rfl rfl (by omega) ?_
      have g3 := hst.1.2.2.1 (16 * p + v) (by omega) (by omega)
      have hl := hpp.2.1 (by omega)
      refine rb_if_eq hB (tgt := 46) d_Xstate_39 (by omega) (by decide) (fun c39 => ?_) (fun c39 => ?_)
      · refine rb_iconst hB d_Xstate_46 ?_
        exact hR _ _ _ _ d_Xstate_47 rfl ⟨by unfold sR_state; rw [if_pos (by omega)]; omega, rfl⟩
      · refine rb_iconst hB d_Xstate_42 ?_
        refine rb_goto hB (tgt := 47) d_Xstate_43 (by decide) ?_
        exact hR _ _ _ _ d_Xstate_47 rfl ⟨by unfold sR_state; rw [if_pos (by omega)]; omega, rfl⟩
    · refine rb_iconst hB d_Xstate_26 ?_
      exact hR _ _ _ _ d_Xstate_27 rfl ⟨by unfold sR_state; rw [if_pos (by omega)]; omega, rfl⟩
  · refine rb_iconst hB d_Xstate_9 ?_
    exact hR _ _ _ _ d_Xstate_10 rfl ⟨by unfold sR_state; rw [if_neg (by omega)], rfl⟩
set_option maxHeartbeats 4000000 in
theorem c_Xshared {l : Launch} {D : va_G} {w : zW} {st μ : zM} {v : Int} (hst : Rel st μ) (hv : -2147483648 ≤ v ∧ v ≤ 2147483647) : CI l D (tysX w) (wX w) y_Xshared b_Xshared 4 .boolean 1 [.ref (w.1 0), .int (zI v)] st (fun z u => z = sR_shared μ v ∧ u = st) := by
  refine conX_i [(0, .ref (w.1 0)), (1, .int (zI v))] rfl (Nat.le_of_ble_eq_true rfl) rfl (fun G hB hH hC hK hR => ?_)
  refine rb_iload_n hB (j := 1) d_Xshared_0 rfl ?_
  refine rb_if_lt hB (tgt := 10) d_Xshared_1 (by omega) (by decide) (fun c1 => ?_) (fun c1 => ?_)
  · refine rb_iconst hB d_Xshared_10 ?_
    exact hR _ _ _ _ d_Xshared_11 (by decide) ⟨by unfold sR_shared; rw [if_neg (by omega)], rfl⟩
  · refine rb_iload_n hB (j := 1) d_Xshared_4 rfl ?_
    refine rb_bipush hB d_Xshared_5 (by decide) ?_
    refine rb_icmp_le hB (tgt := 12) d_Xshared_7 (by omega) (by omega) (by decide) (fun c7 => ?_) (fun c7 => ?_)
    · refine rb_aload_n hB (j := 0) d_Xshared_12 rfl ?_
      refine rb_iload_n hB (j := 1) d_Xshared_13 rfl ?_
      have hfb := Rel_frb hst (q := v) (by omega) (by omega)
      refine rc_i1 hC k_X80 (c_XframeOf (q := v) hst.1 (by omega)) d_Xshared_14 (by decide) (Nat.le_of_ble_eq_true rfl) (fun z14 u14 h14 => ?_)
      obtain ⟨h14, he14⟩ := h14
      rw [he14]
      refine rn_istore_n hB (fun y => [(0, .ref (w.1 0)), (1, .int (zI v)), (2, .int (zI y))]) d_Xshared_17 (by decide) (fun _ => rfl) (fun y2_17 ey2_17 => ?_)
      refine rb_aload_n hB (j := 0) d_Xshared_18 rfl ?_
      refine rb_bipush hB d_Xshared_19 (by decide) ?_
      refine rb_iload_n hB (j := 1) d_Xshared_21 rfl ?_
      refine rb_iadd hB d_Xshared_22 ?_
      have hfb2 := Rel_frb hst (q := 16 + v) (by omega) (by omega)
      have hm := hst.2.2.2.2.2 v (by omega) (by omega)
      refine rc_i1 hC k_X80 (c_XframeOf (q := 16 + v) hst.1 (by omega)) d_Xshared_23 (by decide) (Nat.le_of_ble_eq_true rfl) (fun z23 u23 h23 => ?_)
      obtain ⟨h23, he23⟩ := h23
      rw [he23]
      refine rn_istore_n hB (fun y => [(0, .ref (w.1 0)), (1, .int (zI v)), (2, .int (zI y2_17)), (3, .int (zI y))]) d_Xshared_26 (by decide) (fun _ => rfl) (fun y3_26 ey3_26 => ?_)
      refine rb_iload_n hB (j := 2) d_Xshared_27 rfl ?_
      refine rb_if_lt hB (tgt := 40) d_Xshared_28 (by omega) (by decide) (fun c28 => ?_) (fun c28 => ?_)
      · refine rb_iconst hB d_Xshared_40 ?_
        exact hR _ _ _ _ d_Xshared_41 (by decide) ⟨by unfold sR_shared; rw [if_neg (by omega)] at hm; rw [if_neg (by omega)], rfl⟩
      · refine rb_iload_n hB (j := 2) d_Xshared_31 rfl ?_
        refine rb_iload_n hB (j := 3) d_Xshared_32 rfl ?_
        refine rb_icmp_ne hB (tgt := 40) d_Xshared_33 (by omega) (by omega) (by decide) (fun c33 => ?_) (fun c33 => ?_)
        · refine rb_iconst hB d_Xshared_40 ?_
          exact hR _ _ _ _ d_Xshared_41 (by decide) ⟨by unfold sR_shared; rw [if_neg (by omega)] at hm; rw [if_neg (by omega)], rfl⟩
        · refine rb_iconst hB d_Xshared_36 ?_
          refine rb_goto hB (tgt := 41) d_Xshared_37 (by decide) ?_
          exact hR _ _ _ _ d_Xshared_41 (by decide) ⟨by unfold sR_shared; rw [if_pos (by omega)] at hm; rw [if_pos (by omega)], rfl⟩
    · refine rb_iconst hB d_Xshared_10 ?_
      exact hR _ _ _ _ d_Xshared_11 (by decide) ⟨by unfold sR_shared; rw [if_neg (by omega)], rfl⟩
set_option maxHeartbeats 4000000 in
theorem w_Xpresent_15 {l : Launch} {D : va_G} {w : zW} {G : zG zM} {st μ : zM} {p : Int} (hst : Rel st μ) (hp : 0 ≤ p ∧ p ≤ 1) (hB : RB b_Xpresent 5 G) (hH : RH b_Xpresent G (w.1 0) (adX w) fxX nxX intsX boolsX) (hC : RC l D (tysX w) (wX w) R_X (rmK 1) b_Xpresent G (w.1 0)) (hK : RK b_Xpresent G (w.1 0)) (hR : ∀ (u : zM) (pc : Nat) (lv : zL) (z : Int), decode b_Xpresent pc = .ok (.ireturn, 1) → narrow .int (.int (zI z)) = .int (zI z) → (z = sR_present μ p ∧ u = st) → G u pc lv [.int (zI z)]) :
    ∀ (n : Nat) (i : Nat) (y2 : Int) (y3 : Int), (i ≤ 16) → (16 < i + n) → (y3 = (i : Int)) → (y2 = smz i (fun v => if μ 0 (16 * p + v) ≠ 0 then 1 else 0)) → G st 15 [(0, .ref (w.1 0)), (1, .int (zI p)), (2, .int (zI y2)), (3, .int (zI y3))] [] := by
  intro n
  induction n with
  | zero =>
    intro i y2 y3 h1 h2 e3 e2
    exfalso
    omega
  | succ n ih =>
    intro i y2 y3 h1 h2 e3 e2
    refine rb_iload_n hB (j := 3) d_Xpresent_15 rfl ?_
    refine rb_bipush hB d_Xpresent_16 (by decide) ?_
    refine rb_icmp_ge hB (tgt := 47) d_Xpresent_18 (by omega) (by omega) (by decide) (fun c18 => ?_) (fun c18 => ?_)
    · refine rb_iload_n hB (j := 2) d_Xpresent_47 rfl ?_
      have ei : i = 16 := by omega
      subst ei
      exact hR _ _ _ _ d_Xpresent_48 rfl ⟨by unfold sR_present; rw [if_pos hp]; exact e2, rfl⟩
    · refine rb_aload_n hB (j := 0) d_Xpresent_21 rfl ?_
      refine rb_iload_n hB (j := 1) d_Xpresent_22 rfl ?_
      refine rb_bipush hB d_Xpresent_23 (by decide) ?_
      refine rb_imul hB d_Xpresent_25 ?_
      refine rb_iload_n hB (j := 3) d_Xpresent_26 rfl ?_
      refine rb_iadd hB d_Xpresent_27 ?_
      rw [show p * 16 + y3 = 16 * p + y3 by omega]
      have hfb := Rel_frb hst (q := 16 * p + y3) (by omega) (by omega)
      have hpp := Rel_pres hst (q := 16 * p + y3) (by omega) (by omega)
      refine rc_i1 hC k_X80 (c_XframeOf (q := 16 * p + y3) hst.1 (by omega)) d_Xpresent_28 (by decide) (Nat.le_of_ble_eq_true rfl) (fun z28 u28 h28 => ?_)
      obtain ⟨h28, he28⟩ := h28
      rw [he28]
      refine rn_istore hB (fun y => [(0, .ref (w.1 0)), (1, .int (zI p)), (2, .int (zI y2)), (3, .int (zI y3)), (4, .int (zI y))]) d_Xpresent_31 (by decide) (fun _ => rfl) (fun y4_31 ey4_31 => ?_)
      refine rb_iload hB (j := 4) d_Xpresent_33 rfl ?_
      refine rb_if_lt hB (tgt := 41) d_Xpresent_35 (by omega) (by decide) (fun c35 => ?_) (fun c35 => ?_)
      · refine rn_iinc hB 3 (fun y => [(0, .ref (w.1 0)), (1, .int (zI p)), (2, .int (zI y2)), (3, .int (zI y)), (4, .int (zI y4_31))]) d_Xpresent_41 rfl (by decide) (fun _ => rfl) (fun y3_41 ey3_41 => ?_)
        refine rb_goto hB (tgt := 15) d_Xpresent_44 (by decide) ?_
        refine rb_sub hB (ks := [0, 1, 2, 3]) (lv1 := [(0, .ref (w.1 0)), (1, .int (zI p)), (2, .int (zI y2)), (3, .int (zI y3_41))]) rfl ?_
        exact ih (i + 1) y2 y3_41 (by omega) (by omega) (by omega) (by rw [smz_s, ← e3]; rw [if_neg (by omega)]; omega)
      · refine rn_iinc hB 2 (fun y => [(0, .ref (w.1 0)), (1, .int (zI p)), (2, .int (zI y)), (3, .int (zI y3)), (4, .int (zI y4_31))]) d_Xpresent_38 rfl (by decide) (fun _ => rfl) (fun y2_38 ey2_38 => ?_)
        refine rn_iinc hB 3 (fun y => [(0, .ref (w.1 0)), (1, .int (zI p)), (2, .int (zI y2_38)), (3, .int (zI y)), (4, .int (zI y4_31))]) d_Xpresent_41 rfl (by decide) (fun _ => rfl) (fun y3_41 ey3_41 => ?_)
        refine rb_goto hB (tgt := 15) d_Xpresent_44 (by decide) ?_
        refine rb_sub hB (ks := [0, 1, 2, 3]) (lv1 := [(0, .ref (w.1 0)), (1, .int (zI p)), (2, .int (zI y2_38)), (3, .int (zI y3_41))]) rfl ?_
        exact ih (i + 1) y2_38 y3_41 (by omega) (by omega) (by omega) (by rw [smz_s, ← e3]; rw [if_pos (by omega)]; omega)
set_option maxHeartbeats 4000000 in
theorem c_Xpresent {l : Launch} {D : va_G} {w : zW} {st μ : zM} {p : Int} (hst : Rel st μ) (hp : -2147483648 ≤ p ∧ p ≤ 2147483647) : CI l D (tysX w) (wX w) y_Xpresent b_Xpresent 5 .int 1 [.ref (w.1 0), .int (zI p)] st (fun z u => z = sR_present μ p ∧ u = st) := by
  refine conX_i [(0, .ref (w.1 0)), (1, .int (zI p))] rfl (Nat.le_of_ble_eq_true rfl) rfl (fun G hB hH hC hK hR => ?_)
  refine rb_iload_n hB (j := 1) d_Xpresent_0 rfl ?_
  refine rb_if_lt hB (tgt := 9) d_Xpresent_1 (by omega) (by decide) (fun c1 => ?_) (fun c1 => ?_)
  · refine rb_iconst hB d_Xpresent_9 ?_
    exact hR _ _ _ _ d_Xpresent_10 rfl ⟨by unfold sR_present; rw [if_neg (by omega)], rfl⟩
  · refine rb_iload_n hB (j := 1) d_Xpresent_4 rfl ?_
    refine rb_iconst hB d_Xpresent_5 ?_
    refine rb_icmp_le hB (tgt := 11) d_Xpresent_6 (by omega) (by omega) (by decide) (fun c6 => ?_) (fun c6 => ?_)
    · refine rb_iconst hB d_Xpresent_11 ?_
      refine rn_istore_n hB (fun y => [(0, .ref (w.1 0)), (1, .int (zI p)), (2, .int (zI y))]) d_Xpresent_12 (by decide) (fun _ => rfl) (fun y2_12 ey2_12 => ?_)
      refine rb_iconst hB d_Xpresent_13 ?_
      refine rn_istore_n hB (fun y => [(0, .ref (w.1 0)), (1, .int (zI p)), (2, .int (zI y2_12)), (3, .int (zI y))]) d_Xpresent_14 (by decide) (fun _ => rfl) (fun y3_14 ey3_14 => ?_)
      exact w_Xpresent_15 hst (by omega) hB hH hC hK hR 17 0 y2_12 y3_14 (by omega) (by omega) (by omega) (by rw [ey2_12]; rfl)
    · refine rb_iconst hB d_Xpresent_9 ?_
      exact hR _ _ _ _ d_Xpresent_10 rfl ⟨by unfold sR_present; rw [if_neg (by omega)], rfl⟩
set_option maxHeartbeats 4000000 in
theorem c_XinUse {l : Launch} {D : va_G} {w : zW} {st μ : zM} (hst : Rel st μ) : CI l D (tysX w) (wX w) y_XinUse b_XinUse 1 .int 1 [.ref (w.1 0)] st (fun z u => z = nIU μ ∧ u = st) := by
  refine conX_i [(0, .ref (w.1 0))] rfl (Nat.le_of_ble_eq_true rfl) rfl (fun G hB hH hC hK hR => ?_)
  refine rb_aload_n hB (j := 0) d_XinUse_0 rfl ?_
  refine rc_i0 hC k_X83 (c_XframesInUse hst.1) d_XinUse_1 (by decide) (Nat.le_of_ble_eq_true rfl) (fun z1 u1 h1 => ?_)
  obtain ⟨h1, he1⟩ := h1
  rw [he1]
  exact hR _ _ _ _ d_XinUse_4 rfl ⟨by rw [h1]; exact Rel_count hst, rfl⟩

set_option maxHeartbeats 4000000 in
theorem w_Xdigest_24 {l : Launch} {D : va_G} {w : zW} {G : zG zM} {st μ : zM} {p y3 S : Int} (hst : Rel st μ) (hp : 0 ≤ p ∧ p ≤ 1) (h3 : 0 ≤ y3 ∧ y3 < 16) (hB : RB b_Xdigest 6 G) (hH : RH b_Xdigest G (w.1 0) (adX w) fxX nxX intsX boolsX) (hC : RC l D (tysX w) (wX w) R_X (rmK 2) b_Xdigest G (w.1 0)) (hK : RK b_Xdigest G (w.1 0)) (hR : ∀ (u : zM) (pc : Nat) (lv : zL) (z : Int), decode b_Xdigest pc = .ok (.ireturn, 1) → narrow .int (.int (zI z)) = .int (zI z) → (z = sR_digest μ p ∧ u = st) → G u pc lv [.int (zI z)]) (hout : ∀ y2 z3 : Int, y2 = S + smz 4 (fun k => rd μ (16 * p + y3) k * (4 * y3 + k + 1)) → z3 = y3 + 1 → G st 15 [(0, .ref (w.1 0)), (1, .int (zI p)), (2, .int (zI y2)), (3, .int (zI z3))] []) :
    ∀ (n : Nat) (j : Nat) (y2 : Int) (y4 : Int), (j ≤ 4) → (4 < j + n) → (y4 = (j : Int)) → (y2 = S + smz j (fun k => rd μ (16 * p + y3) k * (4 * y3 + k + 1))) → G st 24 [(0, .ref (w.1 0)), (1, .int (zI p)), (2, .int (zI y2)), (3, .int (zI y3)), (4, .int (zI y4))] [] := by
  intro n
  induction n with
  | zero =>
    intro j y2 y4 h1 h2 e4 e2
    exfalso
    omega
  | succ n ih =>
    intro j y2 y4 h1 h2 e4 e2
    refine rb_iload hB (j := 4) d_Xdigest_24 rfl ?_
    refine rb_iconst hB d_Xdigest_26 ?_
    refine rb_icmp_ge hB (tgt := 60) d_Xdigest_27 (by omega) (by omega) (by decide) (fun c27 => ?_) (fun c27 => ?_)
    · refine rn_iinc hB 3 (fun y => [(0, .ref (w.1 0)), (1, .int (zI p)), (2, .int (zI y2)), (3, .int (zI y)), (4, .int (zI y4))]) d_Xdigest_60 rfl (by decide) (fun _ => rfl) (fun y3_60 ey3_60 => ?_)
      refine rb_goto hB (tgt := 15) d_Xdigest_63 (by decide) ?_
      refine rb_sub hB (ks := [0, 1, 2, 3]) (lv1 := [(0, .ref (w.1 0)), (1, .int (zI p)), (2, .int (zI y2)), (3, .int (zI y3_60))]) rfl ?_
      have ej : j = 4 := by omega
      subst ej
      exact hout y2 y3_60 e2 (by omega)
    · refine rb_aload_n hB (j := 0) d_Xdigest_30 rfl ?_
      refine rb_iload_n hB (j := 1) d_Xdigest_31 rfl ?_
      refine rb_iload_n hB (j := 3) d_Xdigest_32 rfl ?_
      refine rb_iload hB (j := 4) d_Xdigest_33 rfl ?_
      refine rc_i3 hC k_X102 (c_Xread (μ := μ) (p := p) (v := y3) (k := y4) hst (by omega) (by omega) (by omega)) d_Xdigest_35 (by decide) (Nat.le_of_ble_eq_true rfl) (fun z35 u35 h35 => ?_)
      obtain ⟨h35, he35⟩ := h35
      rw [he35]
      refine rn_istore hB (fun y => [(0, .ref (w.1 0)), (1, .int (zI p)), (2, .int (zI y2)), (3, .int (zI y3)), (4, .int (zI y4)), (5, .int (zI y))]) d_Xdigest_38 (by decide) (fun _ => rfl) (fun y5_38 ey5_38 => ?_)
      refine rb_iload_n hB (j := 2) d_Xdigest_40 rfl ?_
      refine rb_iload hB (j := 5) d_Xdigest_41 rfl ?_
      refine rb_iconst hB d_Xdigest_43 ?_
      refine rb_iload_n hB (j := 3) d_Xdigest_44 rfl ?_
      refine rb_imul hB d_Xdigest_45 ?_
      refine rb_iload hB (j := 4) d_Xdigest_46 rfl ?_
      refine rb_iadd hB d_Xdigest_48 ?_
      refine rb_iconst hB d_Xdigest_49 ?_
      refine rb_iadd hB d_Xdigest_50 ?_
      refine rb_imul hB d_Xdigest_51 ?_
      refine rb_iadd hB d_Xdigest_52 ?_
      refine rn_istore_n hB (fun y => [(0, .ref (w.1 0)), (1, .int (zI p)), (2, .int (zI y)), (3, .int (zI y3)), (4, .int (zI y4)), (5, .int (zI y5_38))]) d_Xdigest_53 (by decide) (fun _ => rfl) (fun y2_53 ey2_53 => ?_)
      refine rn_iinc hB 4 (fun y => [(0, .ref (w.1 0)), (1, .int (zI p)), (2, .int (zI y2_53)), (3, .int (zI y3)), (4, .int (zI y)), (5, .int (zI y5_38))]) d_Xdigest_54 rfl (by decide) (fun _ => rfl) (fun y4_54 ey4_54 => ?_)
      refine rb_goto hB (tgt := 24) d_Xdigest_57 (by decide) ?_
      refine rb_sub hB (ks := [0, 1, 2, 3, 4]) (lv1 := [(0, .ref (w.1 0)), (1, .int (zI p)), (2, .int (zI y2_53)), (3, .int (zI y3)), (4, .int (zI y4_54))]) rfl ?_
      exact ih (j + 1) y2_53 y4_54 (by omega) (by omega) (by omega) (by rw [smz_s, ← e4, ey2_53, ey5_38, h35, e2]; unfold sR_read; rw [if_pos (by omega)]; exact Int.add_assoc _ _ _)
set_option maxHeartbeats 4000000 in
theorem w_Xdigest_15 {l : Launch} {D : va_G} {w : zW} {G : zG zM} {st μ : zM} {p : Int} (hst : Rel st μ) (hp : 0 ≤ p ∧ p ≤ 1) (hB : RB b_Xdigest 6 G) (hH : RH b_Xdigest G (w.1 0) (adX w) fxX nxX intsX boolsX) (hC : RC l D (tysX w) (wX w) R_X (rmK 2) b_Xdigest G (w.1 0)) (hK : RK b_Xdigest G (w.1 0)) (hR : ∀ (u : zM) (pc : Nat) (lv : zL) (z : Int), decode b_Xdigest pc = .ok (.ireturn, 1) → narrow .int (.int (zI z)) = .int (zI z) → (z = sR_digest μ p ∧ u = st) → G u pc lv [.int (zI z)]) :
    ∀ (n : Nat) (i : Nat) (y2 : Int) (y3 : Int), (i ≤ 16) → (16 < i + n) → (y3 = (i : Int)) → (y2 = smz i (fun v => smz 4 (fun k => rd μ (16 * p + v) k * (4 * v + k + 1)))) → G st 15 [(0, .ref (w.1 0)), (1, .int (zI p)), (2, .int (zI y2)), (3, .int (zI y3))] [] := by
  intro n
  induction n with
  | zero =>
    intro i y2 y3 h1 h2 e3 e2
    exfalso
    omega
  | succ n ih =>
    intro i y2 y3 h1 h2 e3 e2
    refine rb_iload_n hB (j := 3) d_Xdigest_15 rfl ?_
    refine rb_bipush hB d_Xdigest_16 (by decide) ?_
    refine rb_icmp_ge hB (tgt := 66) d_Xdigest_18 (by omega) (by omega) (by decide) (fun c18 => ?_) (fun c18 => ?_)
    · refine rb_iload_n hB (j := 2) d_Xdigest_66 rfl ?_
      have ei : i = 16 := by omega
      subst ei
      exact hR _ _ _ _ d_Xdigest_67 rfl ⟨by unfold sR_digest; rw [if_pos hp]; exact e2, rfl⟩
    · refine rb_iconst hB d_Xdigest_21 ?_
      refine rn_istore hB (fun y => [(0, .ref (w.1 0)), (1, .int (zI p)), (2, .int (zI y2)), (3, .int (zI y3)), (4, .int (zI y))]) d_Xdigest_22 (by decide) (fun _ => rfl) (fun y4_22 ey4_22 => ?_)
      refine w_Xdigest_24 hst hp (by omega) hB hH hC hK hR (S := y2) (fun a b ha hb => ?_) 5 0 y2 y4_22 (by omega) (by omega) (by omega) (by show y2 = y2 + 0; omega)
      exact ih (i + 1) a b (by omega) (by omega) (by omega) (by rw [smz_s, ← e2, ← e3]; exact ha)
set_option maxHeartbeats 4000000 in
theorem c_Xdigest {l : Launch} {D : va_G} {w : zW} {st μ : zM} {p : Int} (hst : Rel st μ) (hp : -2147483648 ≤ p ∧ p ≤ 2147483647) : CI l D (tysX w) (wX w) y_Xdigest b_Xdigest 6 .int 2 [.ref (w.1 0), .int (zI p)] st (fun z u => z = sR_digest μ p ∧ u = st) := by
  refine conX_i [(0, .ref (w.1 0)), (1, .int (zI p))] rfl (Nat.le_of_ble_eq_true rfl) rfl (fun G hB hH hC hK hR => ?_)
  refine rb_iload_n hB (j := 1) d_Xdigest_0 rfl ?_
  refine rb_if_lt hB (tgt := 9) d_Xdigest_1 (by omega) (by decide) (fun c1 => ?_) (fun c1 => ?_)
  · refine rb_iconst hB d_Xdigest_9 ?_
    exact hR _ _ _ _ d_Xdigest_10 rfl ⟨by unfold sR_digest; rw [if_neg (by omega)], rfl⟩
  · refine rb_iload_n hB (j := 1) d_Xdigest_4 rfl ?_
    refine rb_iconst hB d_Xdigest_5 ?_
    refine rb_icmp_le hB (tgt := 11) d_Xdigest_6 (by omega) (by omega) (by decide) (fun c6 => ?_) (fun c6 => ?_)
    · refine rb_iconst hB d_Xdigest_11 ?_
      refine rn_istore_n hB (fun y => [(0, .ref (w.1 0)), (1, .int (zI p)), (2, .int (zI y))]) d_Xdigest_12 (by decide) (fun _ => rfl) (fun y2_12 ey2_12 => ?_)
      refine rb_iconst hB d_Xdigest_13 ?_
      refine rn_istore_n hB (fun y => [(0, .ref (w.1 0)), (1, .int (zI p)), (2, .int (zI y2_12)), (3, .int (zI y))]) d_Xdigest_14 (by decide) (fun _ => rfl) (fun y3_14 ey3_14 => ?_)
      exact w_Xdigest_15 hst (by omega) hB hH hC hK hR 17 0 y2_12 y3_14 (by omega) (by omega) (by omega) (by rw [ey2_12]; rfl)
    · refine rb_iconst hB d_Xdigest_9 ?_
      exact hR _ _ _ _ d_Xdigest_10 rfl ⟨by unfold sR_digest; rw [if_neg (by omega)], rfl⟩
end
section
set_option maxHeartbeats 4000000 in
theorem w_XunmapRange_26 {l : Launch} {D : va_G} {w : zW} {G : zG zM} {N : zM} {p a b R : Int} (hp : 0 ≤ p ∧ p ≤ 1) (hb : 0 ≤ b ∧ b ≤ 15) (hB : RB b_XunmapRange 7 G) (hH : RH b_XunmapRange G (w.1 0) (adX w) fxX nxX intsX boolsX) (hC : RC l D (tysX w) (wX w) R_X (rmK 3) b_XunmapRange G (w.1 0)) (hK : RK b_XunmapRange G (w.1 0)) (hR : ∀ (u : zM) (pc : Nat) (lv : zL) (z : Int), decode b_XunmapRange pc = .ok (.ireturn, 1) → narrow .int (.int (zI z)) = .int (zI z) → (z = R ∧ Rel u N) → G u pc lv [.int (zI z)]) :
    ∀ (n : Nat) (y4 : Int) (y5 : Int) (cur : zM) (ν : zM), ((b + 1 - y5).toNat < n) → (0 ≤ y5 ∧ y5 ≤ 16) → (Rel cur ν) → (y4 + urR ν p y5 (b + 1 - y5).toNat = R) → (urM ν p y5 (b + 1 - y5).toNat = N) → G cur 26 [(0, .ref (w.1 0)), (1, .int (zI p)), (2, .int (zI a)), (3, .int (zI b)), (4, .int (zI y4)), (5, .int (zI y5))] [] := by
  intro n
  induction n with
  | zero =>
    intro y4 y5 cur ν h1 h2 hcur hR1 hN1
    exfalso
    omega
  | succ n ih =>
    intro y4 y5 cur ν h1 h2 hcur hR1 hN1
    refine rb_iload hB (j := 5) d_XunmapRange_26 rfl ?_
    refine rb_iload_n hB (j := 3) d_XunmapRange_28 rfl ?_
    refine rb_icmp_gt hB (tgt := 70) d_XunmapRange_29 (by omega) (by omega) (by decide) (fun c29 => ?_) (fun c29 => ?_)
    · refine rb_iload hB (j := 4) d_XunmapRange_70 rfl ?_
      have hk : (b + 1 - y5).toNat = 0 := by omega
      rw [hk] at hR1 hN1
      have hR2 : y4 + 0 = R := hR1
      have hN2 : ν = N := hN1
      exact hR _ _ _ _ d_XunmapRange_72 rfl ⟨by omega, by rw [← hN2]; exact hcur⟩
    · refine rb_aload_n hB (j := 0) d_XunmapRange_32 rfl ?_
      refine rb_iload_n hB (j := 1) d_XunmapRange_33 rfl ?_
      refine rb_bipush hB d_XunmapRange_34 (by decide) ?_
      refine rb_imul hB d_XunmapRange_36 ?_
      refine rb_iload hB (j := 5) d_XunmapRange_37 rfl ?_
      refine rb_iadd hB d_XunmapRange_39 ?_
      rw [show p * 16 + y5 = 16 * p + y5 by omega]
      have hfb := Rel_frb hcur (q := 16 * p + y5) (by omega) (by omega)
      have hpp := Rel_pres hcur (q := 16 * p + y5) (by omega) (by omega)
      refine rc_i1 hC k_X80 (c_XframeOf (q := 16 * p + y5) hcur.1 (by omega)) d_XunmapRange_40 (by decide) (Nat.le_of_ble_eq_true rfl) (fun z40 u40 h40 => ?_)
      obtain ⟨h40, he40⟩ := h40
      rw [he40]
      refine rn_istore hB (fun y => [(0, .ref (w.1 0)), (1, .int (zI p)), (2, .int (zI a)), (3, .int (zI b)), (4, .int (zI y4)), (5, .int (zI y5)), (6, .int (zI y))]) d_XunmapRange_43 (by decide) (fun _ => rfl) (fun y6_43 ey6_43 => ?_)
      refine rb_iload hB (j := 6) d_XunmapRange_45 rfl ?_
      refine rb_if_lt hB (tgt := 64) d_XunmapRange_47 (by omega) (by decide) (fun c47 => ?_) (fun c47 => ?_)
      · refine rn_iinc hB 5 (fun y => [(0, .ref (w.1 0)), (1, .int (zI p)), (2, .int (zI a)), (3, .int (zI b)), (4, .int (zI y4)), (5, .int (zI y)), (6, .int (zI y6_43))]) d_XunmapRange_64 rfl (by decide) (fun _ => rfl) (fun y5_64 ey5_64 => ?_)
        refine rb_goto hB (tgt := 26) d_XunmapRange_67 (by decide) ?_
        refine rb_sub hB (ks := [0, 1, 2, 3, 4, 5]) (lv1 := [(0, .ref (w.1 0)), (1, .int (zI p)), (2, .int (zI a)), (3, .int (zI b)), (4, .int (zI y4)), (5, .int (zI y5_64))]) rfl ?_
        have hk : (b + 1 - y5).toNat = (b + 1 - y5_64).toNat + 1 := by omega
        rw [hk] at hR1 hN1
        have hR2 : y4 + ((if ν 0 (16 * p + y5) = 0 then 0 else 1) + urR (unM ν (16 * p + y5)) p (y5 + 1) (b + 1 - y5_64).toNat) = R := hR1
        have hN2 : urM (unM ν (16 * p + y5)) p (y5 + 1) (b + 1 - y5_64).toNat = N := hN1
        rw [← ey5_64] at hR2 hN2
        have hu : unM ν (16 * p + y5) = ν := by unfold unM; rw [if_pos (by omega)]
        rw [hu] at hR2 hN2
        rw [if_pos (by omega)] at hR2
        exact ih y4 y5_64 _ _ (by omega) (by omega) hcur (by omega) hN2
      · refine rb_aload_n hB (j := 0) d_XunmapRange_50 rfl ?_
        refine rb_iload_n hB (j := 1) d_XunmapRange_51 rfl ?_
        refine rb_bipush hB d_XunmapRange_52 (by decide) ?_
        refine rb_imul hB d_XunmapRange_54 ?_
        refine rb_iload hB (j := 5) d_XunmapRange_55 rfl ?_
        refine rb_iadd hB d_XunmapRange_57 ?_
        rw [show p * 16 + y5 = 16 * p + y5 by omega]
        refine rc_v1 hC k_X95 (c_Xremove (q := 16 * p + y5) hcur (by omega) (by omega)) d_XunmapRange_58 (by decide) (Nat.le_of_ble_eq_true rfl) (fun u58 h58 => ?_)
        refine rn_iinc hB 4 (fun y => [(0, .ref (w.1 0)), (1, .int (zI p)), (2, .int (zI a)), (3, .int (zI b)), (4, .int (zI y)), (5, .int (zI y5)), (6, .int (zI y6_43))]) d_XunmapRange_61 rfl (by decide) (fun _ => rfl) (fun y4_61 ey4_61 => ?_)
        refine rn_iinc hB 5 (fun y => [(0, .ref (w.1 0)), (1, .int (zI p)), (2, .int (zI a)), (3, .int (zI b)), (4, .int (zI y4_61)), (5, .int (zI y)), (6, .int (zI y6_43))]) d_XunmapRange_64 rfl (by decide) (fun _ => rfl) (fun y5_64 ey5_64 => ?_)
        refine rb_goto hB (tgt := 26) d_XunmapRange_67 (by decide) ?_
        refine rb_sub hB (ks := [0, 1, 2, 3, 4, 5]) (lv1 := [(0, .ref (w.1 0)), (1, .int (zI p)), (2, .int (zI a)), (3, .int (zI b)), (4, .int (zI y4_61)), (5, .int (zI y5_64))]) rfl ?_
        have hk : (b + 1 - y5).toNat = (b + 1 - y5_64).toNat + 1 := by omega
        rw [hk] at hR1 hN1
        have hR2 : y4 + ((if ν 0 (16 * p + y5) = 0 then 0 else 1) + urR (unM ν (16 * p + y5)) p (y5 + 1) (b + 1 - y5_64).toNat) = R := hR1
        have hN2 : urM (unM ν (16 * p + y5)) p (y5 + 1) (b + 1 - y5_64).toNat = N := hN1
        rw [← ey5_64] at hR2 hN2
        have hu : unM ν (16 * p + y5) = remM ν (16 * p + y5) := by unfold unM; rw [if_neg (by omega)]
        rw [hu] at hR2 hN2
        rw [if_neg (by omega)] at hR2
        exact ih y4_61 y5_64 _ _ (by omega) (by omega) h58 (by omega) hN2
set_option maxHeartbeats 4000000 in
theorem c_XunmapRange {l : Launch} {D : va_G} {w : zW} {st μ : zM} {p a b : Int} (hst : Rel st μ) (hp : -2147483648 ≤ p ∧ p ≤ 2147483647) (ha : -2147483648 ≤ a ∧ a ≤ 2147483647) (hb : -2147483648 ≤ b ∧ b ≤ 2147483647) : CI l D (tysX w) (wX w) y_XunmapRange b_XunmapRange 7 .int 3 [.ref (w.1 0), .int (zI p), .int (zI a), .int (zI b)] st (fun z u => z = sR_ur μ p a b ∧ Rel u (sM_ur μ p a b)) := by
  refine conX_i [(0, .ref (w.1 0)), (1, .int (zI p)), (2, .int (zI a)), (3, .int (zI b))] rfl (Nat.le_of_ble_eq_true rfl) rfl (fun G hB hH hC hK hR => ?_)
  refine rb_aload_n hB (j := 0) d_XunmapRange_0 rfl ?_
  refine rb_iload_n hB (j := 1) d_XunmapRange_1 rfl ?_
  refine rb_iload_n hB (j := 2) d_XunmapRange_2 rfl ?_
  refine rc_i2 hC k_X73 (c_Xbad (p := p) (v := a) (by omega) (by omega)) d_XunmapRange_3 (by decide) (Nat.le_of_ble_eq_true rfl) (fun z3 u3 h3 => ?_)
  obtain ⟨h3, he3⟩ := h3
  rw [he3]
  have b3 : (z3 = 0 ∧ (0 ≤ p ∧ p ≤ 1 ∧ 0 ≤ a ∧ a ≤ 15)) ∨ (z3 = 1 ∧ ¬ (0 ≤ p ∧ p ≤ 1 ∧ 0 ≤ a ∧ a ≤ 15)) := by
    rw [h3]
    by_cases zz : (0 ≤ p ∧ p ≤ 1 ∧ 0 ≤ a ∧ a ≤ 15)
    · exact Or.inl ⟨if_pos zz, zz⟩
    · exact Or.inr ⟨if_neg zz, zz⟩
  refine rb_if_ne hB (tgt := 18) d_XunmapRange_6 (by omega) (by decide) (fun c6 => ?_) (fun c6 => ?_)
  · refine rb_iconst hB d_XunmapRange_18 ?_
    exact hR _ _ _ _ d_XunmapRange_19 rfl ⟨by unfold sR_ur; rw [if_neg (by omega)], by unfold sM_ur; rw [if_neg (by omega)]; exact hst⟩
  · refine rb_aload_n hB (j := 0) d_XunmapRange_9 rfl ?_
    refine rb_iload_n hB (j := 1) d_XunmapRange_10 rfl ?_
    refine rb_iload_n hB (j := 3) d_XunmapRange_11 rfl ?_
    refine rc_i2 hC k_X73 (c_Xbad (p := p) (v := b) (by omega) (by omega)) d_XunmapRange_12 (by decide) (Nat.le_of_ble_eq_true rfl) (fun z12 u12 h12 => ?_)
    obtain ⟨h12, he12⟩ := h12
    rw [he12]
    have b12 : (z12 = 0 ∧ (0 ≤ p ∧ p ≤ 1 ∧ 0 ≤ b ∧ b ≤ 15)) ∨ (z12 = 1 ∧ ¬ (0 ≤ p ∧ p ≤ 1 ∧ 0 ≤ b ∧ b ≤ 15)) := by
      rw [h12]
      by_cases zz : (0 ≤ p ∧ p ≤ 1 ∧ 0 ≤ b ∧ b ≤ 15)
      · exact Or.inl ⟨if_pos zz, zz⟩
      · exact Or.inr ⟨if_neg zz, zz⟩
    refine rb_if_eq hB (tgt := 20) d_XunmapRange_15 (by omega) (by decide) (fun c15 => ?_) (fun c15 => ?_)
    · refine rb_iconst hB d_XunmapRange_20 ?_
      refine rn_istore hB (fun y => [(0, .ref (w.1 0)), (1, .int (zI p)), (2, .int (zI a)), (3, .int (zI b)), (4, .int (zI y))]) d_XunmapRange_21 (by decide) (fun _ => rfl) (fun y4_21 ey4_21 => ?_)
      refine rb_iload_n hB (j := 2) d_XunmapRange_23 rfl ?_
      refine rn_istore hB (fun y => [(0, .ref (w.1 0)), (1, .int (zI p)), (2, .int (zI a)), (3, .int (zI b)), (4, .int (zI y4_21)), (5, .int (zI y))]) d_XunmapRange_24 (by decide) (fun _ => rfl) (fun y5_24 ey5_24 => ?_)
      refine w_XunmapRange_26 (by omega) (by omega) hB hH hC hK hR 20 y4_21 y5_24 st μ (by omega) (by omega) hst ?_ ?_
      · rw [ey4_21, ey5_24]; unfold sR_ur; rw [if_pos (by omega)]; omega
      · rw [ey5_24]; unfold sM_ur; rw [if_pos (by omega)]
    · refine rb_iconst hB d_XunmapRange_18 ?_
      exact hR _ _ _ _ d_XunmapRange_19 rfl ⟨by unfold sR_ur; rw [if_neg (by omega)], by unfold sM_ur; rw [if_neg (by omega)]; exact hst⟩
set_option maxHeartbeats 4000000 in
theorem w_Xsplit_51 {l : Launch} {D : va_G} {w : zW} {G : zG zM} {μ ν : zM} {p y2 : Int} (hp : 0 ≤ p ∧ p ≤ 1) (e2 : y2 = 1 - p) (hz : ∀ q : Int, 16 * (1 - p) ≤ q → q < 16 * (1 - p) + 16 → ν 0 q = 0) (hc : ∀ v : Int, 0 ≤ v → v < 16 → ν 2 v = 0) (ep : ∀ q : Int, 16 * p ≤ q → q < 16 * p + 16 → ν 0 q = μ 0 q) (ew : ν 1 = μ 1) (hB : RB b_Xsplit 6 G) (hH : RH b_Xsplit G (w.1 0) (adX w) fxX nxX intsX boolsX) (hC : RC l D (tysX w) (wX w) R_X (rmK 4) b_Xsplit G (w.1 0)) (hK : RK b_Xsplit G (w.1 0)) (hR : ∀ (u : zM) (pc : Nat) (lv : zL) (z : Int), decode b_Xsplit pc = .ok (.ireturn, 1) → narrow .int (.int (zI z)) = .int (zI z) → (z = sR_split μ p ∧ Rel u (sM_split μ p)) → G u pc lv [.int (zI z)]) :
    ∀ (n : Nat) (i : Nat) (y3 : Int) (y4 : Int) (cur : zM), (i ≤ 16) → (16 < i + n) → (y4 = (i : Int)) → (y3 = smz i (fun v => if ν 0 (16 * p + v) ≠ 0 then 1 else 0)) → (Rel cur (spL ν p y4) ∧ ∀ k : Int, 0 ≤ k → k < 4 → cur 4 (p * 4 + k) < 0) → G cur 51 [(0, .ref (w.1 0)), (1, .int (zI p)), (2, .int (zI y2)), (3, .int (zI y3)), (4, .int (zI y4))] [] := by
  intro n
  induction n with
  | zero =>
    intro i y3 y4 cur h1 h2 e4 e3 hcur
    exfalso
    omega
  | succ n ih =>
    intro i y3 y4 cur h1 h2 e4 e3 hcur
    refine rb_iload hB (j := 4) d_Xsplit_51 rfl ?_
    refine rb_bipush hB d_Xsplit_53 (by decide) ?_
    refine rb_icmp_ge hB (tgt := 132) d_Xsplit_55 (by omega) (by omega) (by decide) (fun c55 => ?_) (fun c55 => ?_)
    · refine rb_iload_n hB (j := 3) d_Xsplit_132 rfl ?_
      have ei : i = 16 := by omega
      subst ei
      exact hR _ _ _ _ d_Xsplit_133 rfl ⟨by unfold sR_split; rw [if_pos hp, e3]; exact smz_c (fun v v0 v1 => by rw [ep (16 * p + v) (by omega) (by omega)]), by unfold sM_split; rw [if_pos hp]; refine Rel_spE hp ep ew ?_; rw [show (16 : Int) = y4 by omega]; exact hcur.1⟩
    · refine rb_aload_n hB (j := 0) d_Xsplit_58 rfl ?_
      refine rh_get hH 2 (by decide) d_Xsplit_59 rfl rfl ?_
      refine rb_iload_n hB (j := 1) d_Xsplit_62 rfl ?_
      refine rb_bipush hB d_Xsplit_63 (by decide) ?_
      refine rb_imul hB d_Xsplit_65 ?_
      refine rb_iload hB (j := 4) d_Xsplit_66 rfl ?_
      refine rb_iadd hB d_Xsplit_68 ?_
      refine rh_ild hH 2 32 (by decide) d_Xsplit_69 rfl rfl (by omega) ?_
      refine rn_istore hB (fun y => [(0, .ref (w.1 0)), (1, .int (zI p)), (2, .int (zI y2)), (3, .int (zI y3)), (4, .int (zI y4)), (5, .int (zI y))]) d_Xsplit_70 (by decide) (fun _ => rfl) (fun y5_70 ey5_70 => ?_)
      have g2 := hcur.1.1.2.1 (p * 16 + y4) (by omega) (by omega)
      have hlg : cur 4 ((16 * p + y4) / 4) < 0 := by
        have := hcur.2 (y4 / 4) (by omega) (by omega)
        rw [show (16 * p + y4) / 4 = p * 4 + y4 / 4 by omega]
        exact this
      have hs0 : spL ν p y4 0 (16 * p + y4) = ν 0 (16 * p + y4) := by unfold spL; rw [if_neg (by omega), if_neg (by omega), if_neg (by omega)]
      have hfr : fr cur (16 * p + y4) = cur 2 (p * 16 + y4) := by rw [fr_sm hlg, show p * 16 + y4 = 16 * p + y4 by omega]
      refine rb_iload hB (j := 5) d_Xsplit_72 rfl ?_
      refine rb_if_lt hB (tgt := 126) d_Xsplit_74 (by omega) (by decide) (fun c74 => ?_) (fun c74 => ?_)
      · refine rn_iinc hB 4 (fun y => [(0, .ref (w.1 0)), (1, .int (zI p)), (2, .int (zI y2)), (3, .int (zI y3)), (4, .int (zI y)), (5, .int (zI y5_70))]) d_Xsplit_126 rfl (by decide) (fun _ => rfl) (fun y4_126 ey4_126 => ?_)
        refine rb_goto hB (tgt := 51) d_Xsplit_129 (by decide) ?_
        refine rb_sub hB (ks := [0, 1, 2, 3, 4]) (lv1 := [(0, .ref (w.1 0)), (1, .int (zI p)), (2, .int (zI y2)), (3, .int (zI y3)), (4, .int (zI y4_126))]) rfl ?_
        have ha : ν 0 (16 * p + y4) = 0 := by
          have hpp := (Rel_pres hcur.1 (q := 16 * p + y4) (by omega) (by omega)).1
          rw [hs0] at hpp
          exact hpp.mpr (by omega)
        exact ih (i + 1) y3 y4_126 _ (by omega) (by omega) (by omega) (by rw [smz_s, ← e4, if_neg (by omega)]; omega) ⟨by rw [ey4_126]; exact Rel_sp0 hp (by omega) hz hc hcur.1 ha, hcur.2⟩
      · refine rb_aload_n hB (j := 0) d_Xsplit_77 rfl ?_
        refine rh_get hH 2 (by decide) d_Xsplit_78 rfl rfl ?_
        refine rb_iload_n hB (j := 2) d_Xsplit_81 rfl ?_
        refine rb_bipush hB d_Xsplit_82 (by decide) ?_
        refine rb_imul hB d_Xsplit_84 ?_
        refine rb_iload hB (j := 4) d_Xsplit_85 rfl ?_
        refine rb_iadd hB d_Xsplit_87 ?_
        refine rb_iload hB (j := 5) d_Xsplit_88 rfl ?_
        refine rh_ist hH 2 32 (by decide) d_Xsplit_90 rfl rfl (by omega) ?_
        refine rb_aload_n hB (j := 0) d_Xsplit_91 rfl ?_
        refine rh_get hH 3 (by decide) d_Xsplit_92 rfl rfl ?_
        refine rb_iload_n hB (j := 2) d_Xsplit_95 rfl ?_
        refine rb_bipush hB d_Xsplit_96 (by decide) ?_
        refine rb_imul hB d_Xsplit_98 ?_
        refine rb_iload hB (j := 4) d_Xsplit_99 rfl ?_
        refine rb_iadd hB d_Xsplit_101 ?_
        refine rb_aload_n hB (j := 0) d_Xsplit_102 rfl ?_
        refine rh_get hH 3 (by decide) d_Xsplit_103 rfl rfl ?_
        refine rb_iload_n hB (j := 1) d_Xsplit_106 rfl ?_
        refine rb_bipush hB d_Xsplit_107 (by decide) ?_
        refine rb_imul hB d_Xsplit_109 ?_
        refine rb_iload hB (j := 4) d_Xsplit_110 rfl ?_
        refine rb_iadd hB d_Xsplit_112 ?_
        refine rh_bld hH 3 32 (by decide) d_Xsplit_113 rfl rfl (by omega) ?_
        have g3 := hcur.1.1.2.2.1 (p * 16 + y4) (by omega) (by omega)
        rw [← up_j cur 2 (y2 * 16 + y4) y5_70 (show (3 : Nat) ≠ 2 by decide)] at g3
        refine rh_bst hH 3 32 (by decide) d_Xsplit_114 rfl rfl (by omega) (by omega) ?_
        refine rb_aload_n hB (j := 0) d_Xsplit_115 rfl ?_
        refine rh_get hH 1 (by decide) d_Xsplit_116 rfl rfl ?_
        refine rb_iload hB (j := 5) d_Xsplit_119 rfl ?_
        refine rb_iconst hB d_Xsplit_121 ?_
        refine rh_ist hH 1 16 (by decide) d_Xsplit_122 rfl rfl (by omega) ?_
        refine rn_iinc hB 3 (fun y => [(0, .ref (w.1 0)), (1, .int (zI p)), (2, .int (zI y2)), (3, .int (zI y)), (4, .int (zI y4)), (5, .int (zI y5_70))]) d_Xsplit_123 rfl (by decide) (fun _ => rfl) (fun y3_123 ey3_123 => ?_)
        refine rn_iinc hB 4 (fun y => [(0, .ref (w.1 0)), (1, .int (zI p)), (2, .int (zI y2)), (3, .int (zI y3_123)), (4, .int (zI y)), (5, .int (zI y5_70))]) d_Xsplit_126 rfl (by decide) (fun _ => rfl) (fun y4_126 ey4_126 => ?_)
        refine rb_goto hB (tgt := 51) d_Xsplit_129 (by decide) ?_
        refine rb_sub hB (ks := [0, 1, 2, 3, 4]) (lv1 := [(0, .ref (w.1 0)), (1, .int (zI p)), (2, .int (zI y2)), (3, .int (zI y3_123)), (4, .int (zI y4_126))]) rfl ?_
        obtain ⟨hn1, hn2⟩ := Rel_sp1 (f := y5_70) hp (show 0 ≤ y4 ∧ y4 < 16 by omega) hz hcur.1 hlg (by rw [ey5_70, show p * 16 + y4 = 16 * p + y4 by omega]) (by omega) rfl
        rw [up_j _ _ _ _ (show (3 : Nat) ≠ 2 by decide), show y2 * 16 + y4 = 16 * (1 - p) + y4 by omega, show p * 16 + y4 = 16 * p + y4 by omega]
        exact ih (i + 1) y3_123 y4_126 _ (by omega) (by omega) (by omega) (by rw [smz_s, ← e4, if_pos hn2]; omega) ⟨by rw [ey4_126]; exact hn1, fun k k0 k1 => by rw [up_j _ _ _ _ (by decide), up_j _ _ _ _ (by decide), up_j _ _ _ _ (by decide)]; exact hcur.2 k k0 k1⟩
set_option maxHeartbeats 4000000 in
theorem w_Xsplit_26 {l : Launch} {D : va_G} {w : zW} {G : zG zM} {μ ν : zM} {p y2 : Int} (hp : 0 ≤ p ∧ p ≤ 1) (e2 : y2 = 1 - p) (hz : ∀ q : Int, 16 * (1 - p) ≤ q → q < 16 * (1 - p) + 16 → ν 0 q = 0) (hc : ∀ v : Int, 0 ≤ v → v < 16 → ν 2 v = 0) (ep : ∀ q : Int, 16 * p ≤ q → q < 16 * p + 16 → ν 0 q = μ 0 q) (ew : ν 1 = μ 1) (hB : RB b_Xsplit 6 G) (hH : RH b_Xsplit G (w.1 0) (adX w) fxX nxX intsX boolsX) (hC : RC l D (tysX w) (wX w) R_X (rmK 4) b_Xsplit G (w.1 0)) (hK : RK b_Xsplit G (w.1 0)) (hR : ∀ (u : zM) (pc : Nat) (lv : zL) (z : Int), decode b_Xsplit pc = .ok (.ireturn, 1) → narrow .int (.int (zI z)) = .int (zI z) → (z = sR_split μ p ∧ Rel u (sM_split μ p)) → G u pc lv [.int (zI z)]) :
    ∀ (n : Nat) (y3 : Int) (cur : zM), (0 ≤ y3) → (y3 ≤ 4) → (4 < y3 + n) → (Rel cur ν ∧ ∀ k : Int, 0 ≤ k → k < y3 → cur 4 (p * 4 + k) < 0) → G cur 26 [(0, .ref (w.1 0)), (1, .int (zI p)), (2, .int (zI y2)), (3, .int (zI y3))] [] := by
  intro n
  induction n with
  | zero =>
    intro y3 cur h1 h2 h3 hcur
    exfalso
    omega
  | succ n ih =>
    intro y3 cur h1 h2 h3 hcur
    refine rb_iload_n hB (j := 3) d_Xsplit_26 rfl ?_
    refine rb_iconst hB d_Xsplit_27 ?_
    refine rb_icmp_ge hB (tgt := 46) d_Xsplit_28 (by omega) (by omega) (by decide) (fun c28 => ?_) (fun c28 => ?_)
    · refine rb_iconst hB d_Xsplit_46 ?_
      refine rn_istore_n hB (fun y => [(0, .ref (w.1 0)), (1, .int (zI p)), (2, .int (zI y2)), (3, .int (zI y))]) d_Xsplit_47 (by decide) (fun _ => rfl) (fun y3_47 ey3_47 => ?_)
      refine rb_iconst hB d_Xsplit_48 ?_
      refine rn_istore hB (fun y => [(0, .ref (w.1 0)), (1, .int (zI p)), (2, .int (zI y2)), (3, .int (zI y3_47)), (4, .int (zI y))]) d_Xsplit_49 (by decide) (fun _ => rfl) (fun y4_49 ey4_49 => ?_)
      exact w_Xsplit_51 hp e2 hz hc ep ew hB hH hC hK hR 17 0 y3_47 y4_49 _ (by omega) (by omega) (by omega) (by rw [ey3_47]; rfl) ⟨by rw [ey4_49, spL_0]; exact hcur.1, fun k k0 k1 => hcur.2 k k0 (by omega)⟩
    · refine rb_aload_n hB (j := 0) d_Xsplit_31 rfl ?_
      refine rb_iload_n hB (j := 1) d_Xsplit_32 rfl ?_
      refine rb_iconst hB d_Xsplit_33 ?_
      refine rb_imul hB d_Xsplit_34 ?_
      refine rb_iload_n hB (j := 3) d_Xsplit_35 rfl ?_
      refine rb_iadd hB d_Xsplit_36 ?_
      refine rc_v1 hC k_X66 (c_Xdemote (r := p * 4 + y3) hcur.1.1 (by omega)) d_Xsplit_37 (by decide) (Nat.le_of_ble_eq_true rfl) (fun u37 h37 => ?_)
      refine rn_iinc hB 3 (fun y => [(0, .ref (w.1 0)), (1, .int (zI p)), (2, .int (zI y2)), (3, .int (zI y))]) d_Xsplit_40 rfl (by decide) (fun _ => rfl) (fun y3_40 ey3_40 => ?_)
      refine rb_goto hB (tgt := 26) d_Xsplit_43 (by decide) ?_
      refine ih y3_40 _ (by omega) (by omega) (by omega) ⟨by rw [h37]; exact Rel_dem hcur.1 (by omega), fun k k0 k1 => ?_⟩
      rw [h37, dem_4]
      have g4 := hcur.1.1.2.2.2.1 (p * 4 + y3) (by omega) (by omega)
      rcases (show k < y3 ∨ k = y3 by omega) with z | z
      · have := hcur.2 k k0 z
        split <;> omega
      · subst z
        split <;> omega
set_option maxHeartbeats 4000000 in
theorem c_Xsplit {l : Launch} {D : va_G} {w : zW} {st μ : zM} {p : Int} (hst : Rel st μ) (hp : -2147483648 ≤ p ∧ p ≤ 2147483647) : CI l D (tysX w) (wX w) y_Xsplit b_Xsplit 6 .int 4 [.ref (w.1 0), .int (zI p)] st (fun z u => z = sR_split μ p ∧ Rel u (sM_split μ p)) := by
  refine conX_i [(0, .ref (w.1 0)), (1, .int (zI p))] rfl (Nat.le_of_ble_eq_true rfl) rfl (fun G hB hH hC hK hR => ?_)
  refine rb_iload_n hB (j := 1) d_Xsplit_0 rfl ?_
  refine rb_if_lt hB (tgt := 9) d_Xsplit_1 (by omega) (by decide) (fun c1 => ?_) (fun c1 => ?_)
  · refine rb_iconst hB d_Xsplit_9 ?_
    exact hR _ _ _ _ d_Xsplit_10 rfl ⟨by unfold sR_split; rw [if_neg (by omega)], by unfold sM_split; rw [if_neg (by omega)]; exact hst⟩
  · refine rb_iload_n hB (j := 1) d_Xsplit_4 rfl ?_
    refine rb_iconst hB d_Xsplit_5 ?_
    refine rb_icmp_le hB (tgt := 11) d_Xsplit_6 (by omega) (by omega) (by decide) (fun c6 => ?_) (fun c6 => ?_)
    · refine rb_iconst hB d_Xsplit_11 ?_
      refine rb_iload_n hB (j := 1) d_Xsplit_12 rfl ?_
      refine rb_isub hB d_Xsplit_13 ?_
      refine rn_istore_n hB (fun y => [(0, .ref (w.1 0)), (1, .int (zI p)), (2, .int (zI y))]) d_Xsplit_14 (by decide) (fun _ => rfl) (fun y2_14 ey2_14 => ?_)
      refine rb_aload_n hB (j := 0) d_Xsplit_15 rfl ?_
      refine rb_iload_n hB (j := 2) d_Xsplit_16 rfl ?_
      refine rb_iconst hB d_Xsplit_17 ?_
      refine rb_bipush hB d_Xsplit_18 (by decide) ?_
      refine rc_i3 hC k_X98 (c_XunmapRange (p := y2_14) (a := 0) (b := 15) hst (by omega) (by omega) (by omega)) d_Xsplit_20 (by decide) (Nat.le_of_ble_eq_true rfl) (fun z20 u20 h20 => ?_)
      obtain ⟨ν, hν⟩ : ∃ ν, ν = sM_ur μ y2_14 0 15 := ⟨_, rfl⟩
      have hRν := h20.2
      rw [← hν] at hRν
      have hν2 : ν = urM μ y2_14 0 16 := by
        rw [hν]; unfold sM_ur; rw [if_pos (by omega)]; rfl
      obtain ⟨d0, d1, d2⟩ := urM_e y2_14 (by omega) 16 μ 0 (by omega) (by omega)
      rw [← hν2] at d0 d1 d2
      have hz : ∀ q : Int, 16 * (1 - p) ≤ q → q < 16 * (1 - p) + 16 → ν 0 q = 0 := fun q q0 q1 => by rw [d0, if_pos (by omega)]
      have hc : ∀ v : Int, 0 ≤ v → v < 16 → ν 2 v = 0 := fun v v0 v1 => by
        rw [d2]
        by_cases z : μ 0 (16 * y2_14 + v) = 0
        · rw [if_neg (fun y => y.2.2 z)]
          have a := hst.MI.2.2 (16 * y2_14 + v) (by omega) (by omega) z
          rw [show (16 * y2_14 + v) % 16 = v by omega] at a
          exact a
        · rw [if_pos ⟨by omega, by omega, z⟩]
      have ep : ∀ q : Int, 16 * p ≤ q → q < 16 * p + 16 → ν 0 q = μ 0 q := fun q q0 q1 => by rw [d0, if_neg (by omega)]
      have ew : ν 1 = μ 1 := d1
      refine rb_pop hB d_Xsplit_23 ?_
      refine rb_iconst hB d_Xsplit_24 ?_
      refine rn_istore_n hB (fun y => [(0, .ref (w.1 0)), (1, .int (zI p)), (2, .int (zI y2_14)), (3, .int (zI y))]) d_Xsplit_25 (by decide) (fun _ => rfl) (fun y3_25 ey3_25 => ?_)
      exact w_Xsplit_26 (by omega) ey2_14 hz hc ep ew hB hH hC hK hR 5 y3_25 _ (by omega) (by omega) (by omega) ⟨hRν, fun k k0 k1 => by omega⟩
    · refine rb_iconst hB d_Xsplit_9 ?_
      exact hR _ _ _ _ d_Xsplit_10 rfl ⟨by unfold sR_split; rw [if_neg (by omega)], by unfold sM_split; rw [if_neg (by omega)]; exact hst⟩
set_option maxHeartbeats 4000000 in
theorem w_Xcopy_85 {l : Launch} {D : va_G} {w : zW} {G : zG zM} {μ : zM} {c8 : Int → Int} {p v x y4 y5 : Int} (hok : (0 ≤ p ∧ p ≤ 1 ∧ 0 ≤ v ∧ v ≤ 15) ∧ 0 ≤ x ∧ x ≤ 15) (ho : ownR μ (16 * p + x) = 0) (o2 : ownM μ (16 * p + x) 2 ((16 * p + x) % 16) = 0) (h5 : 0 ≤ y5 ∧ y5 < 16) (h8 : ∀ k : Int, 0 ≤ k → k < 4 → c8 k = rd μ (16 * p + v) k) (hB : RB b_Xcopy 7 G) (hH : RH b_Xcopy G (w.1 0) (adX w) fxX nxX intsX boolsX) (hC : RC l D (tysX w) (wX w) R_X (rmK 5) b_Xcopy G (w.1 0)) (hK : RK b_Xcopy G (w.1 0)) (hR : ∀ (u : zM) (pc : Nat) (lv : zL) (z : Int), decode b_Xcopy pc = .ok (.ireturn, 1) → narrow .int (.int (zI z)) = .int (zI z) → (z = sR_copy μ p v x ∧ Rel u (sM_copy μ p v x)) → G u pc lv [.int (zI z)]) :
    ∀ (n : Nat) (y6 : Int) (cur : zM), (0 ≤ y6) → (y6 ≤ 4) → (4 < y6 + n) → (Rel cur (cpL μ (16 * p + v) (16 * p + x) y6) ∧ fr cur (16 * p + x) = y5 ∧ cur 8 = c8) → G cur 85 [(0, .ref (w.1 0)), (1, .int (zI p)), (2, .int (zI v)), (3, .int (zI x)), (4, .int (zI y4)), (5, .int (zI y5)), (6, .int (zI y6))] [] := by
  intro n
  induction n with
  | zero =>
    intro y6 cur h1 h2 h3 hcur
    exfalso
    omega
  | succ n ih =>
    intro y6 cur h1 h2 h3 hcur
    refine rb_iload hB (j := 6) d_Xcopy_85 rfl ?_
    refine rb_iconst hB d_Xcopy_87 ?_
    refine rb_icmp_ge hB (tgt := 116) d_Xcopy_88 (by omega) (by omega) (by decide) (fun c88 => ?_) (fun c88 => ?_)
    · refine rb_iconst hB d_Xcopy_116 ?_
      have e6 : y6 = 4 := by omega
      rw [e6] at hcur
      exact hR _ _ _ _ d_Xcopy_117 rfl ⟨by unfold sR_copy; rw [if_pos (by omega)]; omega, by unfold sM_copy cpM; rw [if_pos (by omega), if_pos ho]; exact hcur.1⟩
    · refine rb_aload_n hB (j := 0) d_Xcopy_91 rfl ?_
      refine rh_get hH 0 (by decide) d_Xcopy_92 rfl rfl ?_
      refine rb_iload hB (j := 5) d_Xcopy_95 rfl ?_
      refine rb_iconst hB d_Xcopy_97 ?_
      refine rb_imul hB d_Xcopy_98 ?_
      refine rb_iload hB (j := 6) d_Xcopy_99 rfl ?_
      refine rb_iadd hB d_Xcopy_101 ?_
      refine rb_aload_n hB (j := 0) d_Xcopy_102 rfl ?_
      refine rh_get hH 8 (by decide) d_Xcopy_103 rfl rfl ?_
      refine rb_iload hB (j := 6) d_Xcopy_106 rfl ?_
      refine rh_ild hH 8 4 (by decide) d_Xcopy_108 rfl rfl (by omega) ?_
      refine rh_ist hH 0 64 (by decide) d_Xcopy_109 rfl rfl (by omega) ?_
      refine rn_iinc hB 6 (fun y => [(0, .ref (w.1 0)), (1, .int (zI p)), (2, .int (zI v)), (3, .int (zI x)), (4, .int (zI y4)), (5, .int (zI y5)), (6, .int (zI y))]) d_Xcopy_110 rfl (by decide) (fun _ => rfl) (fun y6_110 ey6_110 => ?_)
      refine rb_goto hB (tgt := 85) d_Xcopy_113 (by decide) ?_
      have hw := Rel_word (w := y6) (x := cur 8 y6) hcur.1 (show 0 ≤ 16 * p + x ∧ 16 * p + x < 32 by omega) (show 0 ≤ y6 ∧ y6 < 4 by omega) (by omega) (by rw [cpL_j (by decide)]; exact o2) rfl
      rw [show cur 8 y6 = rd μ (16 * p + v) y6 by rw [hcur.2.2]; exact h8 y6 h1 (by omega), cpL_s _ _ _ _ h1, hcur.2.1] at hw
      rw [show cur 8 y6 = rd μ (16 * p + v) y6 by rw [hcur.2.2]; exact h8 y6 h1 (by omega)]
      exact ih y6_110 _ (by omega) (by omega) (by omega) ⟨by rw [ey6_110]; exact hw, by rw [fr_eq (up_j _ _ _ _ (by decide)) (up_j _ _ _ _ (by decide))]; exact hcur.2.1, by rw [up_j _ _ _ _ (by decide)]; exact hcur.2.2⟩
set_option maxHeartbeats 4000000 in
theorem w_Xcopy_23 {l : Launch} {D : va_G} {w : zW} {G : zG zM} {st μ : zM} {p v x : Int} (hst : Rel st μ) (hok : (0 ≤ p ∧ p ≤ 1 ∧ 0 ≤ v ∧ v ≤ 15) ∧ 0 ≤ x ∧ x ≤ 15) (hB : RB b_Xcopy 7 G) (hH : RH b_Xcopy G (w.1 0) (adX w) fxX nxX intsX boolsX) (hC : RC l D (tysX w) (wX w) R_X (rmK 5) b_Xcopy G (w.1 0)) (hK : RK b_Xcopy G (w.1 0)) (hR : ∀ (u : zM) (pc : Nat) (lv : zL) (z : Int), decode b_Xcopy pc = .ok (.ireturn, 1) → narrow .int (.int (zI z)) = .int (zI z) → (z = sR_copy μ p v x ∧ Rel u (sM_copy μ p v x)) → G u pc lv [.int (zI z)]) :
    ∀ (n : Nat) (y4 : Int) (cur : zM), (0 ≤ y4) → (y4 ≤ 4) → (4 < y4 + n) → ((∀ j : Nat, j ≠ 8 → cur j = st j) ∧ ∀ k : Int, 0 ≤ k → k < y4 → cur 8 k = rd μ (16 * p + v) k) → G cur 23 [(0, .ref (w.1 0)), (1, .int (zI p)), (2, .int (zI v)), (3, .int (zI x)), (4, .int (zI y4))] [] := by
  intro n
  induction n with
  | zero =>
    intro y4 cur h1 h2 h3 hcur
    exfalso
    omega
  | succ n ih =>
    intro y4 cur h1 h2 h3 hcur
    have hRc : Rel cur μ := Rel_H hst (fun j _ _ _ h8 => hcur.1 j h8) (by rw [hcur.1 5 (by decide)]; exact hst.1.2.2.2.2)
    refine rb_iload hB (j := 4) d_Xcopy_23 rfl ?_
    refine rb_iconst hB d_Xcopy_25 ?_
    refine rb_icmp_ge hB (tgt := 50) d_Xcopy_26 (by omega) (by omega) (by decide) (fun c26 => ?_) (fun c26 => ?_)
    · refine rb_aload_n hB (j := 0) d_Xcopy_50 rfl ?_
      refine rb_iload_n hB (j := 1) d_Xcopy_51 rfl ?_
      refine rb_bipush hB d_Xcopy_52 (by decide) ?_
      refine rb_imul hB d_Xcopy_54 ?_
      refine rb_iload_n hB (j := 3) d_Xcopy_55 rfl ?_
      refine rb_iadd hB d_Xcopy_56 ?_
      rw [show p * 16 + x = 16 * p + x by omega]
      refine rc_i1 hC k_X92 (c_Xopen (q := 16 * p + x) hRc (by omega)) d_Xcopy_57 (by decide) (Nat.le_of_ble_eq_true rfl) (fun z57 u57 h57 => ?_)
      obtain ⟨p57, q57, r57⟩ := h57
      refine rn_istore hB (fun y => [(0, .ref (w.1 0)), (1, .int (zI p)), (2, .int (zI v)), (3, .int (zI x)), (4, .int (zI y))]) d_Xcopy_60 (by decide) (fun _ => rfl) (fun y4_60 ey4_60 => ?_)
      have b57 : -4 ≤ ownR μ (16 * p + x) ∧ ownR μ (16 * p + x) ≤ 0 := by unfold ownR; (repeat' split) <;> omega
      refine rb_iload hB (j := 4) d_Xcopy_62 rfl ?_
      refine rb_if_ge hB (tgt := 70) d_Xcopy_64 (by omega) (by decide) (fun c64 => ?_) (fun c64 => ?_)
      · refine rb_aload_n hB (j := 0) d_Xcopy_70 rfl ?_
        refine rb_iload_n hB (j := 1) d_Xcopy_71 rfl ?_
        refine rb_bipush hB d_Xcopy_72 (by decide) ?_
        refine rb_imul hB d_Xcopy_74 ?_
        refine rb_iload_n hB (j := 3) d_Xcopy_75 rfl ?_
        refine rb_iadd hB d_Xcopy_76 ?_
        rw [show p * 16 + x = 16 * p + x by omega]
        have ho : ownR μ (16 * p + x) = 0 := by omega
        obtain ⟨o1, o2, -⟩ := own_ok hst.MI (show 0 ≤ 16 * p + x ∧ 16 * p + x < 32 by omega) ho
        have hpp := Rel_pres q57 (q := 16 * p + x) (by omega) (by omega)
        have hfb := Rel_frb q57 (q := 16 * p + x) (by omega) (by omega)
        refine rc_i1 hC k_X80 (c_XframeOf (q := 16 * p + x) q57.1 (by omega)) d_Xcopy_77 (by decide) (Nat.le_of_ble_eq_true rfl) (fun z77 u77 h77 => ?_)
        obtain ⟨h77, he77⟩ := h77
        rw [he77]
        refine rn_istore hB (fun y => [(0, .ref (w.1 0)), (1, .int (zI p)), (2, .int (zI v)), (3, .int (zI x)), (4, .int (zI y4_60)), (5, .int (zI y))]) d_Xcopy_80 (by decide) (fun _ => rfl) (fun y5_80 ey5_80 => ?_)
        refine rb_iconst hB d_Xcopy_82 ?_
        refine rn_istore hB (fun y => [(0, .ref (w.1 0)), (1, .int (zI p)), (2, .int (zI v)), (3, .int (zI x)), (4, .int (zI y4_60)), (5, .int (zI y5_80)), (6, .int (zI y))]) d_Xcopy_83 (by decide) (fun _ => rfl) (fun y6_83 ey6_83 => ?_)
        refine w_Xcopy_85 (c8 := cur 8) (by omega) ho o2 (by omega) (fun k k0 k1 => hcur.2 k k0 (by omega)) hB hH hC hK hR 5 y6_83 _ (by omega) (by omega) (by omega) ⟨by rw [ey6_83, cpL_0]; exact q57, by omega, r57⟩
      · refine rb_iload hB (j := 4) d_Xcopy_67 rfl ?_
        exact hR _ _ _ _ d_Xcopy_69 rfl ⟨by unfold sR_copy; rw [if_pos (by omega)]; omega, by unfold sM_copy cpM; rw [if_pos (by omega), if_neg (by omega)]; exact q57⟩
    · refine rb_aload_n hB (j := 0) d_Xcopy_29 rfl ?_
      refine rh_get hH 8 (by decide) d_Xcopy_30 rfl rfl ?_
      refine rb_iload hB (j := 4) d_Xcopy_33 rfl ?_
      refine rb_aload_n hB (j := 0) d_Xcopy_35 rfl ?_
      refine rb_iload_n hB (j := 1) d_Xcopy_36 rfl ?_
      refine rb_iload_n hB (j := 2) d_Xcopy_37 rfl ?_
      refine rb_iload hB (j := 4) d_Xcopy_38 rfl ?_
      refine rc_i3 hC k_X102 (c_Xread (μ := μ) (p := p) (v := v) (k := y4) hRc (by omega) (by omega) (by omega)) d_Xcopy_40 (by decide) (Nat.le_of_ble_eq_true rfl) (fun z40 u40 h40 => ?_)
      obtain ⟨h40, he40⟩ := h40
      rw [he40]
      refine rh_ist hH 8 4 (by decide) d_Xcopy_43 rfl rfl (by omega) ?_
      refine rn_iinc hB 4 (fun y => [(0, .ref (w.1 0)), (1, .int (zI p)), (2, .int (zI v)), (3, .int (zI x)), (4, .int (zI y))]) d_Xcopy_44 rfl (by decide) (fun _ => rfl) (fun y4_44 ey4_44 => ?_)
      refine rb_goto hB (tgt := 23) d_Xcopy_47 (by decide) ?_
      refine ih y4_44 _ (by omega) (by omega) (by omega) ⟨fun j hj => by rw [up_j _ _ _ _ hj]; exact hcur.1 j hj, fun k k0 k1 => ?_⟩
      rw [up_e]
      by_cases z : k = y4
      · rw [if_pos ⟨rfl, z⟩, h40, z]; unfold sR_read; rw [if_pos (by omega)]
      · rw [if_neg (fun y => z y.2)]; exact hcur.2 k k0 (by omega)
set_option maxHeartbeats 4000000 in
theorem c_Xcopy {l : Launch} {D : va_G} {w : zW} {st μ : zM} {p v x : Int} (hst : Rel st μ) (hp : -2147483648 ≤ p ∧ p ≤ 2147483647) (hv : -2147483648 ≤ v ∧ v ≤ 2147483647) (hx : -2147483648 ≤ x ∧ x ≤ 2147483647) : CI l D (tysX w) (wX w) y_Xcopy b_Xcopy 7 .int 5 [.ref (w.1 0), .int (zI p), .int (zI v), .int (zI x)] st (fun z u => z = sR_copy μ p v x ∧ Rel u (sM_copy μ p v x)) := by
  refine conX_i [(0, .ref (w.1 0)), (1, .int (zI p)), (2, .int (zI v)), (3, .int (zI x))] rfl (Nat.le_of_ble_eq_true rfl) rfl (fun G hB hH hC hK hR => ?_)
  refine rb_aload_n hB (j := 0) d_Xcopy_0 rfl ?_
  refine rb_iload_n hB (j := 1) d_Xcopy_1 rfl ?_
  refine rb_iload_n hB (j := 2) d_Xcopy_2 rfl ?_
  refine rc_i2 hC k_X73 (c_Xbad (p := p) (v := v) (by omega) (by omega)) d_Xcopy_3 (by decide) (Nat.le_of_ble_eq_true rfl) (fun z3 u3 h3 => ?_)
  obtain ⟨h3, he3⟩ := h3
  rw [he3]
  have b3 : (z3 = 0 ∧ (0 ≤ p ∧ p ≤ 1 ∧ 0 ≤ v ∧ v ≤ 15)) ∨ (z3 = 1 ∧ ¬ (0 ≤ p ∧ p ≤ 1 ∧ 0 ≤ v ∧ v ≤ 15)) := by
    rw [h3]
    by_cases zz : (0 ≤ p ∧ p ≤ 1 ∧ 0 ≤ v ∧ v ≤ 15)
    · exact Or.inl ⟨if_pos zz, zz⟩
    · exact Or.inr ⟨if_neg zz, zz⟩
  refine rb_if_ne hB (tgt := 18) d_Xcopy_6 (by omega) (by decide) (fun c6 => ?_) (fun c6 => ?_)
  · refine rb_iconst hB d_Xcopy_18 ?_
    exact hR _ _ _ _ d_Xcopy_19 rfl ⟨by unfold sR_copy; rw [if_neg (by omega)], by unfold sM_copy; rw [if_neg (by omega)]; exact hst⟩
  · refine rb_aload_n hB (j := 0) d_Xcopy_9 rfl ?_
    refine rb_iload_n hB (j := 1) d_Xcopy_10 rfl ?_
    refine rb_iload_n hB (j := 3) d_Xcopy_11 rfl ?_
    refine rc_i2 hC k_X73 (c_Xbad (p := p) (v := x) (by omega) (by omega)) d_Xcopy_12 (by decide) (Nat.le_of_ble_eq_true rfl) (fun z12 u12 h12 => ?_)
    obtain ⟨h12, he12⟩ := h12
    rw [he12]
    have b12 : (z12 = 0 ∧ (0 ≤ p ∧ p ≤ 1 ∧ 0 ≤ x ∧ x ≤ 15)) ∨ (z12 = 1 ∧ ¬ (0 ≤ p ∧ p ≤ 1 ∧ 0 ≤ x ∧ x ≤ 15)) := by
      rw [h12]
      by_cases zz : (0 ≤ p ∧ p ≤ 1 ∧ 0 ≤ x ∧ x ≤ 15)
      · exact Or.inl ⟨if_pos zz, zz⟩
      · exact Or.inr ⟨if_neg zz, zz⟩
    refine rb_if_eq hB (tgt := 20) d_Xcopy_15 (by omega) (by decide) (fun c15 => ?_) (fun c15 => ?_)
    · refine rb_iconst hB d_Xcopy_20 ?_
      refine rn_istore hB (fun y => [(0, .ref (w.1 0)), (1, .int (zI p)), (2, .int (zI v)), (3, .int (zI x)), (4, .int (zI y))]) d_Xcopy_21 (by decide) (fun _ => rfl) (fun y4_21 ey4_21 => ?_)
      exact w_Xcopy_23 hst (by omega) hB hH hC hK hR 5 y4_21 _ (by omega) (by omega) (by omega) ⟨fun _ _ => rfl, fun k k0 k1 => by omega⟩
    · refine rb_iconst hB d_Xcopy_18 ?_
      exact hR _ _ _ _ d_Xcopy_19 rfl ⟨by unfold sR_copy; rw [if_neg (by omega)], by unfold sM_copy; rw [if_neg (by omega)]; exact hst⟩
end
section
/-! the reference's loops -/
def tL (μ : zM) (q n : Int) : zM := fun j i => if j = 0 ∧ i = q then 1 else if j = 1 ∧ 4 * q ≤ i ∧ i < 4 * q + n then 0 else μ j i
theorem tL_0 (μ : zM) (q : Int) : up μ 0 q 1 = tL μ q 0 := by
  funext j i
  simp only [tL, up_e]
  (repeat' split) <;> first | rfl | omega
theorem tL_s (μ : zM) (q n : Int) (h : 0 ≤ n) : up (tL μ q n) 1 (4 * q + n) 0 = tL μ q (n + 1) := by
  funext j i
  simp only [tL, up_e]
  (repeat' split) <;> first | rfl | omega
theorem tL_4 (μ : zM) (q : Int) : tL μ q 4 = tM μ q := rfl
/-- words of page a copied to page b, n of the four -/
def wcp (c : zM) (a b n : Int) : zM := fun j i => if j = 1 ∧ 4 * b ≤ i ∧ i < 4 * b + n then c 1 (4 * a + (i - 4 * b)) else c j i
theorem wcp_0 (c : zM) (a b : Int) : wcp c a b 0 = c := by
  funext j i
  simp only [wcp]
  (repeat' split) <;> first | rfl | omega
theorem wcp_r (c : zM) (a b n : Int) (h : 0 ≤ n) (h4 : n < 4) : wcp c a b n 1 (4 * a + n) = c 1 (4 * a + n) := by
  simp only [wcp]
  split
  · have : a = b ∨ a ≠ b := by omega
    rcases this with e | e
    · rw [e]; congr 1; omega
    · omega
  · rfl
theorem wcp_s (c : zM) (a b n : Int) (h : 0 ≤ n) : up (wcp c a b n) 1 (4 * b + n) (c 1 (4 * a + n)) = wcp c a b (n + 1) := by
  funext j i
  simp only [wcp, up_e]
  (repeat' split) <;> first | rfl | omega | (congr 1; omega)
theorem spL_p (μ : zM) (p v i : Int) (hp : 0 ≤ p ∧ p ≤ 1) (hv : 0 ≤ v ∧ v ≤ 16) (hi : 16 * p ≤ i ∧ i < 16 * p + 16) : spL μ p v 0 i = μ 0 i := by
  unfold spL
  rw [if_neg (by omega), if_neg (by omega), if_neg (by omega)]
theorem spL_s (μ : zM) (p v : Int) (hp : 0 ≤ p ∧ p ≤ 1) (hv : 0 ≤ v ∧ v < 16) : wcp (up (up (spL μ p v) 0 (16 * (1 - p) + v) (μ 0 (16 * p + v))) 2 v (if μ 0 (16 * p + v) = 0 then 0 else 1)) (16 * p + v) (16 * (1 - p) + v) 4 = spL μ p (v + 1) := by
  funext j i
  unfold wcp
  by_cases e1 : j = 1 ∧ 4 * (16 * (1 - p) + v) ≤ i ∧ i < 4 * (16 * (1 - p) + v) + 4
  · rw [if_pos e1, up_j _ _ _ _ (by decide), up_j _ _ _ _ (by decide)]
    unfold spL
    rw [if_neg (by omega), if_neg (by omega), if_neg (by omega), if_neg (by omega), if_pos (by omega)]
    congr 1
    omega
  · rw [if_neg e1, up_e]
    by_cases e2 : j = 2 ∧ i = v
    · rw [if_pos e2, e2.1, e2.2, spL_2 hv.1, if_pos (show v < v + 1 by omega)]
    · rw [if_neg e2, up_e]
      by_cases e3 : j = 0 ∧ i = 16 * (1 - p) + v
      · rw [if_pos e3]
        unfold spL
        rw [if_pos (by omega)]
        congr 1
        omega
      · rw [if_neg e3]
        by_cases f0 : j = 0
        · unfold spL
          by_cases z : 16 * (1 - p) ≤ i ∧ i < 16 * (1 - p) + v
          · rw [if_pos ⟨f0, z⟩, if_pos (by omega)]
          · rw [if_neg (fun y => z y.2), if_neg (by omega), if_neg (by omega), if_neg (by omega), if_neg (by omega), if_neg (by omega)]
        · by_cases f1 : j = 1
          · unfold spL
            rw [if_neg (fun y => f0 y.1), if_neg (c := j = 0 ∧ 16 * (1 - p) ≤ i ∧ i < 16 * (1 - p) + (v + 1)) (fun y => f0 y.1)]
            by_cases z : 64 * (1 - p) ≤ i ∧ i < 64 * (1 - p) + 4 * v
            · rw [if_pos ⟨f1, z⟩, if_pos (by omega)]
            · rw [if_neg (fun y => z y.2), if_neg (by omega), if_neg (by omega), if_neg (by omega)]
          · by_cases f2 : j = 2
            · rw [f2]
              by_cases zi : 0 ≤ i
              · rw [spL_2 zi, spL_2 zi]
                by_cases z : i < v
                · rw [if_pos z, if_pos (show i < v + 1 by omega)]
                · rw [if_neg z, if_neg (show ¬ i < v + 1 by omega)]
              · unfold spL
                rw [if_neg (by omega), if_neg (by omega), if_neg (by omega), if_neg (by omega), if_neg (by omega), if_neg (by omega)]
            · unfold spL
              rw [if_neg (fun y => f0 y.1), if_neg (fun y => f1 y.1), if_neg (fun y => f2 y.1), if_neg (fun y => f0 y.1), if_neg (fun y => f1 y.1), if_neg (fun y => f2 y.1)]
/-- copy in the midst -/
def CpI (μ : zM) (a b k y : Int) (cur : zM) : Prop := (k = 0 ∧ y = 0 ∧ cur = μ) ∨ (1 ≤ k ∧ y = 0 ∧ ownR μ b = 0 ∧ cur = cpL μ a b k) ∨ (k = 1 ∧ y ≠ 0 ∧ y = ownR μ b ∧ cur = ownM μ b)
theorem MI_own {μ : zM} {b : Int} (h : MI μ) (hb : 0 ≤ b ∧ b < 32) (ho : ownR μ b = 0) : MI (ownM μ b) := by
  obtain ⟨o1, o2, o3, -, -⟩ := own_ok h hb ho
  have o6 : ∀ v : Int, v ≠ b % 16 → ownM μ b 2 v = μ 2 v := by
    intro v hv
    unfold ownM
    split
    · rfl
    · split
      · unfold touchM
        (repeat' split) <;> first | rfl | (rw [tM_e, if_neg (by omega), if_neg (by omega)])
      · split
        · split
          · rfl
          · rw [up_n _ _ _ _ hv]
        · rfl
  refine ⟨fun q q0 q1 => ?_, fun v v0 v1 => ?_, fun q q0 q1 e => ?_⟩
  · by_cases z : q = b
    · rw [z, o1]; omega
    · rw [o3 q z]; exact h.1 q q0 q1
  · by_cases z : v = b % 16
    · rw [z, o2]; omega
    · rw [o6 v z]; exact h.2.1 v v0 v1
  · by_cases z : q % 16 = b % 16
    · rw [z, o2]
    · rw [o6 _ z]
      rw [o3 q (fun y => z (by rw [y]))] at e
      exact h.2.2 q q0 q1 e
theorem CpI_MI {μ cur : zM} {a b k : Int} (h : MI μ) (hb : 0 ≤ b ∧ b < 32) (hc : CpI μ a b k 0 cur) : MI cur := by
  rcases hc with ⟨-, -, e⟩ | ⟨-, -, ho, e⟩ | ⟨-, z, -⟩
  · rw [e]; exact h
  · have m := MI_own h hb ho
    rw [e]
    unfold MI
    rw [cpL_j (by decide), cpL_j (by decide)]
    exact m
  · exact absurd rfl z
theorem CpI_s {μ cur : zM} {a b k : Int} (h : MI μ) (hb : 0 ≤ b ∧ b < 32) (hk : 0 ≤ k ∧ k < 4) (hc : CpI μ a b k 0 cur) : CpI μ a b (k + 1) (ownR cur b) (wrM cur b k (rd cur a k)) := by
  rcases hc with ⟨hk0, -, e⟩ | ⟨hk1, -, ho, e⟩ | ⟨-, z, -⟩
  · rw [e, hk0]
    unfold wrM
    by_cases ho : ownR μ b = 0
    · refine Or.inr (Or.inl ⟨by omega, ho, ho, ?_⟩)
      rw [if_pos ho, ← cpL_s _ _ _ _ (by omega), cpL_0]
    · refine Or.inr (Or.inr ⟨rfl, ho, rfl, ?_⟩)
      rw [if_neg ho]
  · obtain ⟨o1, o2, -⟩ := own_ok h hb ho
    obtain ⟨i1, i2⟩ := own_idem (ν := cur) (q := b) (by rw [e, cpL_j (by decide)]; exact o1) (by rw [e, cpL_j (by decide)]; exact o2)
    have hrd : rd cur a k = rd μ a k := by rw [e]; exact cpL_rd h hb ho hk
    refine Or.inr (Or.inl ⟨by omega, i1, ho, ?_⟩)
    unfold wrM
    rw [if_pos i1, i2, hrd, e, cpL_s _ _ _ _ hk.1]
  · exact absurd rfl z
theorem CpI_e {μ cur : zM} {a b k y : Int} (hk : k ≤ 4) (hc : CpI μ a b k y cur) (h : 4 ≤ k ∨ y ≠ 0) : y = ownR μ b ∧ cur = cpM μ a b := by
  rcases hc with ⟨h0, h1, e⟩ | ⟨h0, h1, ho, e⟩ | ⟨h0, h1, h2, e⟩
  · omega
  · refine ⟨by omega, ?_⟩
    unfold cpM
    rw [if_pos ho, e, show k = 4 by omega]
  · refine ⟨h2, ?_⟩
    unfold cpM
    rw [if_neg (by omega), e]
end
section
set_option maxHeartbeats 4000000 in
theorem c_MisPage {l : Launch} {D : va_G} {w : zW} {μ : zM} {p v : Int} (hp : -2147483648 ≤ p ∧ p ≤ 2147483647) (hv : -2147483648 ≤ v ∧ v ≤ 2147483647) : CI l D (tysM w) (wM w) y_MisPage b_MisPage 3 .boolean 0 [.ref (w.1 0), .int (zI p), .int (zI v)] μ (fun z u => z = (if 0 ≤ p ∧ p ≤ 1 ∧ 0 ≤ v ∧ v ≤ 15 then 1 else 0) ∧ u = μ) := by
  refine conM_i [(0, .ref (w.1 0)), (1, .int (zI p)), (2, .int (zI v))] rfl (Nat.le_of_ble_eq_true rfl) rfl (fun G hB hH hC hR => ?_)
  refine rb_iload_n hB (j := 1) d_MisPage_0 rfl ?_
  refine rb_if_lt hB (tgt := 23) d_MisPage_1 (by omega) (by decide) (fun c1 => ?_) (fun c1 => ?_)
  · refine rb_iconst hB d_MisPage_23 ?_
    exact hR _ _ _ _ d_MisPage_24 (by decide) ⟨by rw [if_neg (by omega)], rfl⟩
  · refine rb_iload_n hB (j := 1) d_MisPage_4 rfl ?_
    refine rb_iconst hB d_MisPage_5 ?_
    refine rb_icmp_gt hB (tgt := 23) d_MisPage_6 (by omega) (by omega) (by decide) (fun c6 => ?_) (fun c6 => ?_)
    · refine rb_iconst hB d_MisPage_23 ?_
      exact hR _ _ _ _ d_MisPage_24 (by decide) ⟨by rw [if_neg (by omega)], rfl⟩
    · refine rb_iload_n hB (j := 2) d_MisPage_9 rfl ?_
      refine rb_if_lt hB (tgt := 23) d_MisPage_10 (by omega) (by decide) (fun c10 => ?_) (fun c10 => ?_)
      · refine rb_iconst hB d_MisPage_23 ?_
        exact hR _ _ _ _ d_MisPage_24 (by decide) ⟨by rw [if_neg (by omega)], rfl⟩
      · refine rb_iload_n hB (j := 2) d_MisPage_13 rfl ?_
        refine rb_bipush hB d_MisPage_14 (by decide) ?_
        refine rb_icmp_gt hB (tgt := 23) d_MisPage_16 (by omega) (by omega) (by decide) (fun c16 => ?_) (fun c16 => ?_)
        · refine rb_iconst hB d_MisPage_23 ?_
          exact hR _ _ _ _ d_MisPage_24 (by decide) ⟨by rw [if_neg (by omega)], rfl⟩
        · refine rb_iconst hB d_MisPage_19 ?_
          refine rb_goto hB (tgt := 24) d_MisPage_20 (by decide) ?_
          exact hR _ _ _ _ d_MisPage_24 (by decide) ⟨by rw [if_pos (by omega)], rfl⟩
set_option maxHeartbeats 4000000 in
theorem w_Mpresent_15 {l : Launch} {D : va_G} {w : zW} {G : zG zM} {μ : zM} {p : Int} (hM : MI μ) (hp : 0 ≤ p ∧ p ≤ 1) (hB : RB b_Mpresent 4 G) (hH : RH b_Mpresent G (w.1 0) (adM w) fxM nxM intsM boolsM) (hC : RC l D (tysM w) (wM w) R_M (rmK 0) b_Mpresent G (w.1 0)) (hR : ∀ (u : zM) (pc : Nat) (lv : zL) (z : Int), decode b_Mpresent pc = .ok (.ireturn, 1) → narrow .int (.int (zI z)) = .int (zI z) → (z = sR_present μ p ∧ u = μ) → G u pc lv [.int (zI z)]) :
    ∀ (n : Nat) (i : Nat) (y2 : Int) (y3 : Int), (i ≤ 16) → (16 < i + n) → (y3 = (i : Int)) → (y2 = smz i (fun v => if μ 0 (16 * p + v) ≠ 0 then 1 else 0)) → G μ 15 [(0, .ref (w.1 0)), (1, .int (zI p)), (2, .int (zI y2)), (3, .int (zI y3))] [] := by
  intro n
  induction n with
  | zero =>
    intro i y2 y3 h1 h2 e3 e2
    exfalso
    omega
  | succ n ih =>
    intro i y2 y3 h1 h2 e3 e2
    refine rb_iload_n hB (j := 3) d_Mpresent_15 rfl ?_
    refine rb_bipush hB d_Mpresent_16 (by decide) ?_
    refine rb_icmp_ge hB (tgt := 44) d_Mpresent_18 (by omega) (by omega) (by decide) (fun c18 => ?_) (fun c18 => ?_)
    · refine rb_iload_n hB (j := 2) d_Mpresent_44 rfl ?_
      have ei : i = 16 := by omega
      subst ei
      exact hR _ _ _ _ d_Mpresent_45 rfl ⟨by unfold sR_present; rw [if_pos hp]; exact e2, rfl⟩
    · refine rb_aload_n hB (j := 0) d_Mpresent_21 rfl ?_
      refine rh_get hH 0 (by decide) d_Mpresent_22 rfl rfl ?_
      refine rb_bipush hB d_Mpresent_25 (by decide) ?_
      refine rb_iload_n hB (j := 1) d_Mpresent_27 rfl ?_
      refine rb_imul hB d_Mpresent_28 ?_
      refine rb_iload_n hB (j := 3) d_Mpresent_29 rfl ?_
      refine rb_iadd hB d_Mpresent_30 ?_
      refine rh_ild hH 0 32 (by decide) d_Mpresent_31 rfl rfl (by omega) ?_
      have g0 := hM.1 (16 * p + y3) (by omega) (by omega)
      refine rb_if_eq hB (tgt := 38) d_Mpresent_32 (by omega) (by decide) (fun c32 => ?_) (fun c32 => ?_)
      · refine rn_iinc hB 3 (fun y => [(0, .ref (w.1 0)), (1, .int (zI p)), (2, .int (zI y2)), (3, .int (zI y))]) d_Mpresent_38 rfl (by decide) (fun _ => rfl) (fun y3_38 ey3_38 => ?_)
        refine rb_goto hB (tgt := 15) d_Mpresent_41 (by decide) ?_
        exact ih (i + 1) y2 y3_38 (by omega) (by omega) (by omega) (by rw [smz_s, ← e3]; rw [if_neg (by omega)]; omega)
      · refine rn_iinc hB 2 (fun y => [(0, .ref (w.1 0)), (1, .int (zI p)), (2, .int (zI y)), (3, .int (zI y3))]) d_Mpresent_35 rfl (by decide) (fun _ => rfl) (fun y2_35 ey2_35 => ?_)
        refine rn_iinc hB 3 (fun y => [(0, .ref (w.1 0)), (1, .int (zI p)), (2, .int (zI y2_35)), (3, .int (zI y))]) d_Mpresent_38 rfl (by decide) (fun _ => rfl) (fun y3_38 ey3_38 => ?_)
        refine rb_goto hB (tgt := 15) d_Mpresent_41 (by decide) ?_
        exact ih (i + 1) y2_35 y3_38 (by omega) (by omega) (by omega) (by rw [smz_s, ← e3]; rw [if_pos (by omega)]; omega)
set_option maxHeartbeats 4000000 in
theorem c_Mpresent {l : Launch} {D : va_G} {w : zW} {μ : zM} {p : Int} (hM : MI μ) (hp : -2147483648 ≤ p ∧ p ≤ 2147483647) : CI l D (tysM w) (wM w) y_Mpresent b_Mpresent 4 .int 0 [.ref (w.1 0), .int (zI p)] μ (fun z u => z = sR_present μ p ∧ u = μ) := by
  refine conM_i [(0, .ref (w.1 0)), (1, .int (zI p))] rfl (Nat.le_of_ble_eq_true rfl) rfl (fun G hB hH hC hR => ?_)
  refine rb_iload_n hB (j := 1) d_Mpresent_0 rfl ?_
  refine rb_if_lt hB (tgt := 9) d_Mpresent_1 (by omega) (by decide) (fun c1 => ?_) (fun c1 => ?_)
  · refine rb_iconst hB d_Mpresent_9 ?_
    exact hR _ _ _ _ d_Mpresent_10 rfl ⟨by unfold sR_present; rw [if_neg (by omega)], rfl⟩
  · refine rb_iload_n hB (j := 1) d_Mpresent_4 rfl ?_
    refine rb_iconst hB d_Mpresent_5 ?_
    refine rb_icmp_le hB (tgt := 11) d_Mpresent_6 (by omega) (by omega) (by decide) (fun c6 => ?_) (fun c6 => ?_)
    · refine rb_iconst hB d_Mpresent_11 ?_
      refine rn_istore_n hB (fun y => [(0, .ref (w.1 0)), (1, .int (zI p)), (2, .int (zI y))]) d_Mpresent_12 (by decide) (fun _ => rfl) (fun y2_12 ey2_12 => ?_)
      refine rb_iconst hB d_Mpresent_13 ?_
      refine rn_istore_n hB (fun y => [(0, .ref (w.1 0)), (1, .int (zI p)), (2, .int (zI y2_12)), (3, .int (zI y))]) d_Mpresent_14 (by decide) (fun _ => rfl) (fun y3_14 ey3_14 => ?_)
      exact w_Mpresent_15 hM (by omega) hB hH hC hR 17 0 y2_12 y3_14 (by omega) (by omega) (by omega) (by rw [ey2_12]; rfl)
    · refine rb_iconst hB d_Mpresent_9 ?_
      exact hR _ _ _ _ d_Mpresent_10 rfl ⟨by unfold sR_present; rw [if_neg (by omega)], rfl⟩
set_option maxHeartbeats 4000000 in
theorem w_MinUse_14 {l : Launch} {D : va_G} {w : zW} {G : zG zM} {μ : zM} (hM : MI μ) (hB : RB b_MinUse 3 G) (hH : RH b_MinUse G (w.1 0) (adM w) fxM nxM intsM boolsM) (hC : RC l D (tysM w) (wM w) R_M (rmK 1) b_MinUse G (w.1 0)) (hR : ∀ (u : zM) (pc : Nat) (lv : zL) (z : Int), decode b_MinUse pc = .ok (.ireturn, 1) → narrow .int (.int (zI z)) = .int (zI z) → (z = nIU μ ∧ u = μ) → G u pc lv [.int (zI z)]) :
    ∀ (n : Nat) (i : Nat) (y1 : Int) (y2 : Int), (i ≤ 16) → (16 < i + n) → (y2 = (i : Int)) → (y1 = pr μ 0 + pr μ 1 - smz i (fun v => if μ 2 v ≠ 0 then 1 else 0)) → G μ 14 [(0, .ref (w.1 0)), (1, .int (zI y1)), (2, .int (zI y2))] [] := by
  intro n
  induction n with
  | zero =>
    intro i y1 y2 h1 h2 e2 e1
    exfalso
    omega
  | succ n ih =>
    intro i y1 y2 h1 h2 e2 e1
    refine rb_iload_n hB (j := 2) d_MinUse_14 rfl ?_
    refine rb_bipush hB d_MinUse_15 (by decide) ?_
    refine rb_icmp_ge hB (tgt := 38) d_MinUse_17 (by omega) (by omega) (by decide) (fun c17 => ?_) (fun c17 => ?_)
    · refine rb_iload_n hB (j := 1) d_MinUse_38 rfl ?_
      have ei : i = 16 := by omega
      subst ei
      exact hR _ _ _ _ d_MinUse_39 rfl ⟨e1, rfl⟩
    · refine rb_aload_n hB (j := 0) d_MinUse_20 rfl ?_
      refine rh_get hH 2 (by decide) d_MinUse_21 rfl rfl ?_
      refine rb_iload_n hB (j := 2) d_MinUse_24 rfl ?_
      refine rh_bld hH 2 16 (by decide) d_MinUse_25 rfl rfl (by omega) ?_
      have g2 := hM.2.1 y2 (by omega) (by omega)
      refine rb_if_eq hB (tgt := 32) d_MinUse_26 (by omega) (by decide) (fun c26 => ?_) (fun c26 => ?_)
      · refine rn_iinc hB 2 (fun y => [(0, .ref (w.1 0)), (1, .int (zI y1)), (2, .int (zI y))]) d_MinUse_32 rfl (by decide) (fun _ => rfl) (fun y2_32 ey2_32 => ?_)
        refine rb_goto hB (tgt := 14) d_MinUse_35 (by decide) ?_
        exact ih (i + 1) y1 y2_32 (by omega) (by omega) (by omega) (by rw [smz_s, ← e2]; rw [if_neg (by omega)]; omega)
      · refine rn_iinc hB 1 (fun y => [(0, .ref (w.1 0)), (1, .int (zI y)), (2, .int (zI y2))]) d_MinUse_29 rfl (by decide) (fun _ => rfl) (fun y1_29 ey1_29 => ?_)
        refine rn_iinc hB 2 (fun y => [(0, .ref (w.1 0)), (1, .int (zI y1_29)), (2, .int (zI y))]) d_MinUse_32 rfl (by decide) (fun _ => rfl) (fun y2_32 ey2_32 => ?_)
        refine rb_goto hB (tgt := 14) d_MinUse_35 (by decide) ?_
        exact ih (i + 1) y1_29 y2_32 (by omega) (by omega) (by omega) (by rw [smz_s, ← e2]; rw [if_pos (by omega)]; omega)
set_option maxHeartbeats 4000000 in
theorem c_MinUse {l : Launch} {D : va_G} {w : zW} {μ : zM} (hM : MI μ) : CI l D (tysM w) (wM w) y_MinUse b_MinUse 3 .int 1 [.ref (w.1 0)] μ (fun z u => z = nIU μ ∧ u = μ) := by
  refine conM_i [(0, .ref (w.1 0))] rfl (Nat.le_of_ble_eq_true rfl) rfl (fun G hB hH hC hR => ?_)
  refine rb_aload_n hB (j := 0) d_MinUse_0 rfl ?_
  refine rb_iconst hB d_MinUse_1 ?_
  refine rc_i1 hC k_M35 (c_Mpresent (p := 0) hM (by omega)) d_MinUse_2 (by decide) (Nat.le_of_ble_eq_true rfl) (fun z2 u2 h2 => ?_)
  obtain ⟨h2, he2⟩ := h2
  rw [he2]
  refine rb_aload_n hB (j := 0) d_MinUse_5 rfl ?_
  refine rb_iconst hB d_MinUse_6 ?_
  refine rc_i1 hC k_M35 (c_Mpresent (p := 1) hM (by omega)) d_MinUse_7 (by decide) (Nat.le_of_ble_eq_true rfl) (fun z7 u7 h7 => ?_)
  obtain ⟨h7, he7⟩ := h7
  rw [he7]
  refine rb_iadd hB d_MinUse_10 ?_
  refine rn_istore_n hB (fun y => [(0, .ref (w.1 0)), (1, .int (zI y))]) d_MinUse_11 (by decide) (fun _ => rfl) (fun y1_11 ey1_11 => ?_)
  refine rb_iconst hB d_MinUse_12 ?_
  refine rn_istore_n hB (fun y => [(0, .ref (w.1 0)), (1, .int (zI y1_11)), (2, .int (zI y))]) d_MinUse_13 (by decide) (fun _ => rfl) (fun y2_13 ey2_13 => ?_)
  exact w_MinUse_14 hM hB hH hC hR 17 0 y1_11 y2_13 (by omega) (by omega) (by omega) (by rw [ey1_11, h2, h7]; show sR_present μ 0 + sR_present μ 1 = pr μ 0 + pr μ 1 - 0; unfold sR_present; rw [if_pos (by omega), if_pos (by omega)]; omega)
theorem pr_b (μ : zM) (p : Int) : 0 ≤ pr μ p ∧ pr μ p ≤ 16 := smz_le (fun i _ _ => by split <;> omega)
theorem nIU_b (μ : zM) : -16 ≤ nIU μ ∧ nIU μ ≤ 32 := by
  have a := pr_b μ 0
  have b := pr_b μ 1
  have c : 0 ≤ nC μ ∧ nC μ ≤ 16 := smz_le (fun i _ _ => by split <;> omega)
  unfold nIU
  omega
set_option maxHeartbeats 4000000 in
theorem w_Mtouch_51 {l : Launch} {D : va_G} {w : zW} {G : zG zM} {μ : zM} {p v y3 : Int} (hok : 0 ≤ p ∧ p ≤ 1 ∧ 0 ≤ v ∧ v ≤ 15) (e3 : y3 = 16 * p + v) (hz : μ 0 (16 * p + v) = 0) (hn : ¬ nIU μ = 16) (hB : RB b_Mtouch 5 G) (hH : RH b_Mtouch G (w.1 0) (adM w) fxM nxM intsM boolsM) (hC : RC l D (tysM w) (wM w) R_M (rmK 2) b_Mtouch G (w.1 0)) (hR : ∀ (u : zM) (pc : Nat) (lv : zL) (z : Int), decode b_Mtouch pc = .ok (.ireturn, 1) → narrow .int (.int (zI z)) = .int (zI z) → (z = sR_touch μ p v ∧ u = sM_touch μ p v) → G u pc lv [.int (zI z)]) :
    ∀ (n : Nat) (y4 : Int) (cur : zM), (0 ≤ y4) → (y4 ≤ 4) → (4 < y4 + n) → (cur = tL μ y3 y4) → G cur 51 [(0, .ref (w.1 0)), (1, .int (zI p)), (2, .int (zI v)), (3, .int (zI y3)), (4, .int (zI y4))] [] := by
  intro n
  induction n with
  | zero =>
    intro y4 cur h1 h2 h3 hcur
    exfalso
    omega
  | succ n ih =>
    intro y4 cur h1 h2 h3 hcur
    refine rb_iload hB (j := 4) d_Mtouch_51 rfl ?_
    refine rb_iconst hB d_Mtouch_53 ?_
    refine rb_icmp_ge hB (tgt := 75) d_Mtouch_54 (by omega) (by omega) (by decide) (fun c54 => ?_) (fun c54 => ?_)
    · refine rb_iconst hB d_Mtouch_75 ?_
      have e4 : y4 = 4 := by omega
      exact hR _ _ _ _ d_Mtouch_76 rfl ⟨by unfold sR_touch touchR; rw [if_pos hok, if_neg (by omega), if_neg hn], by unfold sM_touch touchM; rw [if_pos hok, if_neg (by omega), if_neg hn, hcur, e4, e3]; rfl⟩
    · refine rb_aload_n hB (j := 0) d_Mtouch_57 rfl ?_
      refine rh_get hH 1 (by decide) d_Mtouch_58 rfl rfl ?_
      refine rb_iconst hB d_Mtouch_61 ?_
      refine rb_iload_n hB (j := 3) d_Mtouch_62 rfl ?_
      refine rb_imul hB d_Mtouch_63 ?_
      refine rb_iload hB (j := 4) d_Mtouch_64 rfl ?_
      refine rb_iadd hB d_Mtouch_66 ?_
      refine rb_iconst hB d_Mtouch_67 ?_
      refine rh_ist hH 1 128 (by decide) d_Mtouch_68 rfl rfl (by omega) ?_
      refine rn_iinc hB 4 (fun y => [(0, .ref (w.1 0)), (1, .int (zI p)), (2, .int (zI v)), (3, .int (zI y3)), (4, .int (zI y))]) d_Mtouch_69 rfl (by decide) (fun _ => rfl) (fun y4_69 ey4_69 => ?_)
      refine rb_goto hB (tgt := 51) d_Mtouch_72 (by decide) ?_
      exact ih y4_69 _ (by omega) (by omega) (by omega) (by rw [hcur, tL_s _ _ _ h1, ey4_69])
set_option maxHeartbeats 4000000 in
theorem c_Mtouch {l : Launch} {D : va_G} {w : zW} {μ : zM} {p v : Int} (hM : MI μ) (hp : -2147483648 ≤ p ∧ p ≤ 2147483647) (hv : -2147483648 ≤ v ∧ v ≤ 2147483647) : CI l D (tysM w) (wM w) y_Mtouch b_Mtouch 5 .int 2 [.ref (w.1 0), .int (zI p), .int (zI v)] μ (fun z u => z = sR_touch μ p v ∧ u = sM_touch μ p v) := by
  refine conM_i [(0, .ref (w.1 0)), (1, .int (zI p)), (2, .int (zI v))] rfl (Nat.le_of_ble_eq_true rfl) rfl (fun G hB hH hC hR => ?_)
  refine rb_aload_n hB (j := 0) d_Mtouch_0 rfl ?_
  refine rb_iload_n hB (j := 1) d_Mtouch_1 rfl ?_
  refine rb_iload_n hB (j := 2) d_Mtouch_2 rfl ?_
  refine rc_i2 hC k_M20 (c_MisPage (p := p) (v := v) (by omega) (by omega)) d_Mtouch_3 (by decide) (Nat.le_of_ble_eq_true rfl) (fun z3 u3 h3 => ?_)
  obtain ⟨h3, he3⟩ := h3
  rw [he3]
  have b3 : (z3 = 1 ∧ (0 ≤ p ∧ p ≤ 1 ∧ 0 ≤ v ∧ v ≤ 15)) ∨ (z3 = 0 ∧ ¬ (0 ≤ p ∧ p ≤ 1 ∧ 0 ≤ v ∧ v ≤ 15)) := by
    rw [h3]
    by_cases zz : (0 ≤ p ∧ p ≤ 1 ∧ 0 ≤ v ∧ v ≤ 15)
    · exact Or.inl ⟨if_pos zz, zz⟩
    · exact Or.inr ⟨if_neg zz, zz⟩
  refine rb_if_ne hB (tgt := 11) d_Mtouch_6 (by omega) (by decide) (fun c6 => ?_) (fun c6 => ?_)
  · refine rb_bipush hB d_Mtouch_11 (by decide) ?_
    refine rb_iload_n hB (j := 1) d_Mtouch_13 rfl ?_
    refine rb_imul hB d_Mtouch_14 ?_
    refine rb_iload_n hB (j := 2) d_Mtouch_15 rfl ?_
    refine rb_iadd hB d_Mtouch_16 ?_
    refine rn_istore_n hB (fun y => [(0, .ref (w.1 0)), (1, .int (zI p)), (2, .int (zI v)), (3, .int (zI y))]) d_Mtouch_17 (by decide) (fun _ => rfl) (fun y3_17 ey3_17 => ?_)
    refine rb_aload_n hB (j := 0) d_Mtouch_18 rfl ?_
    refine rh_get hH 0 (by decide) d_Mtouch_19 rfl rfl ?_
    refine rb_iload_n hB (j := 3) d_Mtouch_22 rfl ?_
    refine rh_ild hH 0 32 (by decide) d_Mtouch_23 rfl rfl (by omega) ?_
    have g0 := hM.1 (16 * p + v) (by omega) (by omega)
    rw [show μ 0 y3_17 = μ 0 (16 * p + v) by rw [ey3_17]]
    refine rb_if_eq hB (tgt := 29) d_Mtouch_24 (by omega) (by decide) (fun c24 => ?_) (fun c24 => ?_)
    · refine rb_aload_n hB (j := 0) d_Mtouch_29 rfl ?_
      refine rc_i0 hC k_M24 (c_MinUse hM) d_Mtouch_30 (by decide) (Nat.le_of_ble_eq_true rfl) (fun z30 u30 h30 => ?_)
      obtain ⟨h30, he30⟩ := h30
      rw [he30]
      have nb := nIU_b μ
      refine rb_bipush hB d_Mtouch_33 (by decide) ?_
      refine rb_icmp_ne hB (tgt := 41) d_Mtouch_35 (by omega) (by omega) (by decide) (fun c35 => ?_) (fun c35 => ?_)
      · refine rb_aload_n hB (j := 0) d_Mtouch_41 rfl ?_
        refine rh_get hH 0 (by decide) d_Mtouch_42 rfl rfl ?_
        refine rb_iload_n hB (j := 3) d_Mtouch_45 rfl ?_
        refine rb_iconst hB d_Mtouch_46 ?_
        refine rh_ist hH 0 32 (by decide) d_Mtouch_47 rfl rfl (by omega) ?_
        refine rb_iconst hB d_Mtouch_48 ?_
        refine rn_istore hB (fun y => [(0, .ref (w.1 0)), (1, .int (zI p)), (2, .int (zI v)), (3, .int (zI y3_17)), (4, .int (zI y))]) d_Mtouch_49 (by decide) (fun _ => rfl) (fun y4_49 ey4_49 => ?_)
        exact w_Mtouch_51 (by omega) ey3_17 (by omega) (by omega) hB hH hC hR 5 y4_49 _ (by omega) (by omega) (by omega) (by rw [ey4_49]; exact tL_0 _ _)
      · refine rb_bipush hB d_Mtouch_38 (by decide) ?_
        exact hR _ _ _ _ d_Mtouch_40 rfl ⟨by unfold sR_touch touchR; rw [if_pos (by omega), if_neg (by omega), if_pos (by omega)], by unfold sM_touch touchM; rw [if_pos (by omega), if_neg (by omega), if_pos (by omega)]⟩
    · refine rb_iconst hB d_Mtouch_27 ?_
      exact hR _ _ _ _ d_Mtouch_28 rfl ⟨by unfold sR_touch touchR; rw [if_pos (by omega), if_pos (by omega)], by unfold sM_touch touchM; rw [if_pos (by omega), if_pos (by omega)]⟩
  · refine rb_iconst hB d_Mtouch_9 ?_
    exact hR _ _ _ _ d_Mtouch_10 rfl ⟨by unfold sR_touch; rw [if_neg (by omega)], by unfold sM_touch; rw [if_neg (by omega)]⟩
set_option maxHeartbeats 4000000 in
theorem c_Mown {l : Launch} {D : va_G} {w : zW} {μ : zM} {p v : Int} (hM : MI μ) (hok : 0 ≤ p ∧ p ≤ 1 ∧ 0 ≤ v ∧ v ≤ 15) : CI l D (tysM w) (wM w) y_Mown b_Mown 3 .int 3 [.ref (w.1 0), .int (zI p), .int (zI v)] μ (fun z u => z = ownR μ (16 * p + v) ∧ u = ownM μ (16 * p + v)) := by
  refine conM_i [(0, .ref (w.1 0)), (1, .int (zI p)), (2, .int (zI v))] rfl (Nat.le_of_ble_eq_true rfl) rfl (fun G hB hH hC hR => ?_)
  have hm : (16 * p + v) % 16 = v := by omega
  have g0 := hM.1 (16 * p + v) (by omega) (by omega)
  have g2 := hM.2.1 v (by omega) (by omega)
  refine rb_aload_n hB (j := 0) d_Mown_0 rfl ?_
  refine rh_get hH 0 (by decide) d_Mown_1 rfl rfl ?_
  refine rb_bipush hB d_Mown_4 (by decide) ?_
  refine rb_iload_n hB (j := 1) d_Mown_6 rfl ?_
  refine rb_imul hB d_Mown_7 ?_
  refine rb_iload_n hB (j := 2) d_Mown_8 rfl ?_
  refine rb_iadd hB d_Mown_9 ?_
  refine rh_ild hH 0 32 (by decide) d_Mown_10 rfl rfl (by omega) ?_
  refine rb_iconst hB d_Mown_11 ?_
  refine rb_icmp_ne hB (tgt := 18) d_Mown_12 (by omega) (by omega) (by decide) (fun c12 => ?_) (fun c12 => ?_)
  · refine rb_aload_n hB (j := 0) d_Mown_18 rfl ?_
    refine rh_get hH 0 (by decide) d_Mown_19 rfl rfl ?_
    refine rb_bipush hB d_Mown_22 (by decide) ?_
    refine rb_iload_n hB (j := 1) d_Mown_24 rfl ?_
    refine rb_imul hB d_Mown_25 ?_
    refine rb_iload_n hB (j := 2) d_Mown_26 rfl ?_
    refine rb_iadd hB d_Mown_27 ?_
    refine rh_ild hH 0 32 (by decide) d_Mown_28 rfl rfl (by omega) ?_
    refine rb_if_ne hB (tgt := 50) d_Mown_29 (by omega) (by decide) (fun c29 => ?_) (fun c29 => ?_)
    · refine rb_aload_n hB (j := 0) d_Mown_50 rfl ?_
      refine rh_get hH 2 (by decide) d_Mown_51 rfl rfl ?_
      refine rb_iload_n hB (j := 2) d_Mown_54 rfl ?_
      refine rh_bld hH 2 16 (by decide) d_Mown_55 rfl rfl (by omega) ?_
      refine rb_if_eq hB (tgt := 78) d_Mown_56 (by omega) (by decide) (fun c56 => ?_) (fun c56 => ?_)
      · refine rb_iconst hB d_Mown_78 ?_
        exact hR _ _ _ _ d_Mown_79 rfl ⟨by unfold ownR; rw [if_neg (by omega), if_neg (by omega), hm, if_neg (by omega)], by unfold ownM; rw [if_neg (by omega), if_neg (by omega), hm, if_neg (by omega)]⟩
      · refine rb_aload_n hB (j := 0) d_Mown_59 rfl ?_
        refine rc_i0 hC k_M24 (c_MinUse hM) d_Mown_60 (by decide) (Nat.le_of_ble_eq_true rfl) (fun z60 u60 h60 => ?_)
        obtain ⟨h60, he60⟩ := h60
        rw [he60]
        have nb := nIU_b μ
        refine rb_bipush hB d_Mown_63 (by decide) ?_
        refine rb_icmp_ne hB (tgt := 71) d_Mown_65 (by omega) (by omega) (by decide) (fun c65 => ?_) (fun c65 => ?_)
        · refine rb_aload_n hB (j := 0) d_Mown_71 rfl ?_
          refine rh_get hH 2 (by decide) d_Mown_72 rfl rfl ?_
          refine rb_iload_n hB (j := 2) d_Mown_75 rfl ?_
          refine rb_iconst hB d_Mown_76 ?_
          refine rh_bst hH 2 16 (by decide) d_Mown_77 rfl rfl (by omega) (by omega) ?_
          refine rb_iconst hB d_Mown_78 ?_
          exact hR _ _ _ _ d_Mown_79 rfl ⟨by unfold ownR; rw [if_neg (by omega), if_neg (by omega), hm, if_pos (by omega), if_neg (by omega)], by unfold ownM; rw [if_neg (by omega), if_neg (by omega), hm, if_pos (by omega), if_neg (by omega)]⟩
        · refine rb_bipush hB d_Mown_68 (by decide) ?_
          exact hR _ _ _ _ d_Mown_70 rfl ⟨by unfold ownR; rw [if_neg (by omega), if_neg (by omega), hm, if_pos (by omega), if_pos (by omega)], by unfold ownM; rw [if_neg (by omega), if_neg (by omega), hm, if_pos (by omega), if_pos (by omega)]⟩
    · refine rb_aload_n hB (j := 0) d_Mown_32 rfl ?_
      refine rb_iload_n hB (j := 1) d_Mown_33 rfl ?_
      refine rb_iload_n hB (j := 2) d_Mown_34 rfl ?_
      refine rc_i2 hC k_M28 (c_Mtouch (p := p) (v := v) hM (by omega) (by omega)) d_Mown_35 (by decide) (Nat.le_of_ble_eq_true rfl) (fun z35 u35 h35 => ?_)
      obtain ⟨p35, q35⟩ := h35
      have t35 : z35 = if nIU μ = 16 then -2 else 1 := by rw [p35]; unfold sR_touch touchR; rw [if_pos (by omega), if_neg (by omega)]
      have t36 : u35 = touchM μ (16 * p + v) := by rw [q35]; unfold sM_touch; rw [if_pos (by omega)]
      have t37 : -2 ≤ z35 ∧ z35 ≤ 1 := by rw [t35]; split <;> omega
      refine rb_bipush hB d_Mown_38 (by decide) ?_
      refine rb_icmp_ne hB (tgt := 48) d_Mown_40 (by omega) (by omega) (by decide) (fun c40 => ?_) (fun c40 => ?_)
      · refine rb_iconst hB d_Mown_48 ?_
        exact hR _ _ _ _ d_Mown_49 rfl ⟨by unfold ownR; rw [if_neg (by omega), if_pos (by omega)]; split at t35 <;> (first | rw [if_pos (by assumption)] | rw [if_neg (by assumption)]) <;> omega, by unfold ownM; rw [if_neg (by omega), if_pos (by omega)]; exact t36⟩
      · refine rb_bipush hB d_Mown_43 (by decide) ?_
        refine rb_goto hB (tgt := 49) d_Mown_45 (by decide) ?_
        exact hR _ _ _ _ d_Mown_49 rfl ⟨by unfold ownR; rw [if_neg (by omega), if_pos (by omega)]; split at t35 <;> (first | rw [if_pos (by assumption)] | rw [if_neg (by assumption)]) <;> omega, by unfold ownM; rw [if_neg (by omega), if_pos (by omega)]; exact t36⟩
  · refine rb_bipush hB d_Mown_15 (by decide) ?_
    exact hR _ _ _ _ d_Mown_17 rfl ⟨by unfold ownR; rw [if_pos (by omega)], by unfold ownM; rw [if_pos (by omega)]⟩
set_option maxHeartbeats 4000000 in
theorem c_Mwrite {l : Launch} {D : va_G} {w : zW} {μ : zM} {p v k x : Int} (hM : MI μ) (hp : -2147483648 ≤ p ∧ p ≤ 2147483647) (hv : -2147483648 ≤ v ∧ v ≤ 2147483647) (hk : -2147483648 ≤ k ∧ k ≤ 2147483647) : CI l D (tysM w) (wM w) y_Mwrite b_Mwrite 6 .int 4 [.ref (w.1 0), .int (zI p), .int (zI v), .int (zI k), .int (zI x)] μ (fun z u => z = sR_write μ p v k ∧ u = sM_write μ p v k x) := by
  refine conM_i [(0, .ref (w.1 0)), (1, .int (zI p)), (2, .int (zI v)), (3, .int (zI k)), (4, .int (zI x))] rfl (Nat.le_of_ble_eq_true rfl) rfl (fun G hB hH hC hR => ?_)
  refine rb_aload_n hB (j := 0) d_Mwrite_0 rfl ?_
  refine rb_iload_n hB (j := 1) d_Mwrite_1 rfl ?_
  refine rb_iload_n hB (j := 2) d_Mwrite_2 rfl ?_
  refine rc_i2 hC k_M20 (c_MisPage (p := p) (v := v) (by omega) (by omega)) d_Mwrite_3 (by decide) (Nat.le_of_ble_eq_true rfl) (fun z3 u3 h3 => ?_)
  obtain ⟨h3, he3⟩ := h3
  rw [he3]
  have b3 : (z3 = 1 ∧ (0 ≤ p ∧ p ≤ 1 ∧ 0 ≤ v ∧ v ≤ 15)) ∨ (z3 = 0 ∧ ¬ (0 ≤ p ∧ p ≤ 1 ∧ 0 ≤ v ∧ v ≤ 15)) := by
    rw [h3]
    by_cases zz : (0 ≤ p ∧ p ≤ 1 ∧ 0 ≤ v ∧ v ≤ 15)
    · exact Or.inl ⟨if_pos zz, zz⟩
    · exact Or.inr ⟨if_neg zz, zz⟩
  refine rb_if_eq hB (tgt := 18) d_Mwrite_6 (by omega) (by decide) (fun c6 => ?_) (fun c6 => ?_)
  · refine rb_iconst hB d_Mwrite_18 ?_
    exact hR _ _ _ _ d_Mwrite_19 rfl ⟨by unfold sR_write; rw [if_neg (by omega)], by unfold sM_write; rw [if_neg (by omega)]⟩
  · refine rb_iload_n hB (j := 3) d_Mwrite_9 rfl ?_
    refine rb_if_lt hB (tgt := 18) d_Mwrite_10 (by omega) (by decide) (fun c10 => ?_) (fun c10 => ?_)
    · refine rb_iconst hB d_Mwrite_18 ?_
      exact hR _ _ _ _ d_Mwrite_19 rfl ⟨by unfold sR_write; rw [if_neg (by omega)], by unfold sM_write; rw [if_neg (by omega)]⟩
    · refine rb_iload_n hB (j := 3) d_Mwrite_13 rfl ?_
      refine rb_iconst hB d_Mwrite_14 ?_
      refine rb_icmp_le hB (tgt := 20) d_Mwrite_15 (by omega) (by omega) (by decide) (fun c15 => ?_) (fun c15 => ?_)
      · refine rb_aload_n hB (j := 0) d_Mwrite_20 rfl ?_
        refine rb_iload_n hB (j := 1) d_Mwrite_21 rfl ?_
        refine rb_iload_n hB (j := 2) d_Mwrite_22 rfl ?_
        refine rc_i2 hC k_M32 (c_Mown (p := p) (v := v) hM (by omega)) d_Mwrite_23 (by decide) (Nat.le_of_ble_eq_true rfl) (fun z23 u23 h23 => ?_)
        obtain ⟨p23, q23⟩ := h23
        have b23 : -4 ≤ ownR μ (16 * p + v) ∧ ownR μ (16 * p + v) ≤ 0 := by unfold ownR; (repeat' split) <;> omega
        rw [q23]
        refine rn_istore hB (fun y => [(0, .ref (w.1 0)), (1, .int (zI p)), (2, .int (zI v)), (3, .int (zI k)), (4, .int (zI x)), (5, .int (zI y))]) d_Mwrite_26 (by decide) (fun _ => rfl) (fun y5_26 ey5_26 => ?_)
        refine rb_iload hB (j := 5) d_Mwrite_28 rfl ?_
        refine rb_if_ne hB (tgt := 50) d_Mwrite_30 (by omega) (by decide) (fun c30 => ?_) (fun c30 => ?_)
        · refine rb_iload hB (j := 5) d_Mwrite_50 rfl ?_
          exact hR _ _ _ _ d_Mwrite_52 rfl ⟨by unfold sR_write; rw [if_pos (by omega)]; omega, by unfold sM_write wrM; rw [if_pos (by omega), if_neg (by omega)]⟩
        · refine rb_aload_n hB (j := 0) d_Mwrite_33 rfl ?_
          refine rh_get hH 1 (by decide) d_Mwrite_34 rfl rfl ?_
          refine rb_iconst hB d_Mwrite_37 ?_
          refine rb_bipush hB d_Mwrite_38 (by decide) ?_
          refine rb_iload_n hB (j := 1) d_Mwrite_40 rfl ?_
          refine rb_imul hB d_Mwrite_41 ?_
          refine rb_iload_n hB (j := 2) d_Mwrite_42 rfl ?_
          refine rb_iadd hB d_Mwrite_43 ?_
          refine rb_imul hB d_Mwrite_44 ?_
          refine rb_iload_n hB (j := 3) d_Mwrite_45 rfl ?_
          refine rb_iadd hB d_Mwrite_46 ?_
          refine rb_iload hB (j := 4) d_Mwrite_47 rfl ?_
          refine rh_ist hH 1 128 (by decide) d_Mwrite_49 rfl rfl (by omega) ?_
          refine rb_iload hB (j := 5) d_Mwrite_50 rfl ?_
          exact hR _ _ _ _ d_Mwrite_52 rfl ⟨by unfold sR_write; rw [if_pos (by omega)]; omega, by unfold sM_write wrM; rw [if_pos (by omega), if_pos (by omega)]⟩
      · refine rb_iconst hB d_Mwrite_18 ?_
        exact hR _ _ _ _ d_Mwrite_19 rfl ⟨by unfold sR_write; rw [if_neg (by omega)], by unfold sM_write; rw [if_neg (by omega)]⟩
set_option maxHeartbeats 4000000 in
theorem c_Mread {l : Launch} {D : va_G} {w : zW} {μ : zM} {p v k : Int} (hM : MI μ) (hp : -2147483648 ≤ p ∧ p ≤ 2147483647) (hv : -2147483648 ≤ v ∧ v ≤ 2147483647) (hk : -2147483648 ≤ k ∧ k ≤ 2147483647) : CI l D (tysM w) (wM w) y_Mread b_Mread 4 .int 1 [.ref (w.1 0), .int (zI p), .int (zI v), .int (zI k)] μ (fun z u => z = sR_read μ p v k ∧ u = μ) := by
  refine conM_i [(0, .ref (w.1 0)), (1, .int (zI p)), (2, .int (zI v)), (3, .int (zI k))] rfl (Nat.le_of_ble_eq_true rfl) rfl (fun G hB hH hC hR => ?_)
  refine rb_aload_n hB (j := 0) d_Mread_0 rfl ?_
  refine rb_iload_n hB (j := 1) d_Mread_1 rfl ?_
  refine rb_iload_n hB (j := 2) d_Mread_2 rfl ?_
  refine rc_i2 hC k_M20 (c_MisPage (p := p) (v := v) (by omega) (by omega)) d_Mread_3 (by decide) (Nat.le_of_ble_eq_true rfl) (fun z3 u3 h3 => ?_)
  obtain ⟨h3, he3⟩ := h3
  rw [he3]
  have b3 : (z3 = 1 ∧ (0 ≤ p ∧ p ≤ 1 ∧ 0 ≤ v ∧ v ≤ 15)) ∨ (z3 = 0 ∧ ¬ (0 ≤ p ∧ p ≤ 1 ∧ 0 ≤ v ∧ v ≤ 15)) := by
    rw [h3]
    by_cases zz : (0 ≤ p ∧ p ≤ 1 ∧ 0 ≤ v ∧ v ≤ 15)
    · exact Or.inl ⟨if_pos zz, zz⟩
    · exact Or.inr ⟨if_neg zz, zz⟩
  refine rb_if_eq hB (tgt := 32) d_Mread_6 (by omega) (by decide) (fun c6 => ?_) (fun c6 => ?_)
  · refine rb_iconst hB d_Mread_32 ?_
    exact hR _ _ _ _ d_Mread_33 rfl ⟨by unfold sR_read rd; first | rw [if_neg (by omega)] | rw [if_pos (by omega), if_pos (by omega)], rfl⟩
  · refine rb_iload_n hB (j := 3) d_Mread_9 rfl ?_
    refine rb_if_lt hB (tgt := 32) d_Mread_10 (by omega) (by decide) (fun c10 => ?_) (fun c10 => ?_)
    · refine rb_iconst hB d_Mread_32 ?_
      exact hR _ _ _ _ d_Mread_33 rfl ⟨by unfold sR_read rd; first | rw [if_neg (by omega)] | rw [if_pos (by omega), if_pos (by omega)], rfl⟩
    · refine rb_iload_n hB (j := 3) d_Mread_13 rfl ?_
      refine rb_iconst hB d_Mread_14 ?_
      refine rb_icmp_gt hB (tgt := 32) d_Mread_15 (by omega) (by omega) (by decide) (fun c15 => ?_) (fun c15 => ?_)
      · refine rb_iconst hB d_Mread_32 ?_
        exact hR _ _ _ _ d_Mread_33 rfl ⟨by unfold sR_read rd; first | rw [if_neg (by omega)] | rw [if_pos (by omega), if_pos (by omega)], rfl⟩
      · refine rb_aload_n hB (j := 0) d_Mread_18 rfl ?_
        refine rh_get hH 0 (by decide) d_Mread_19 rfl rfl ?_
        refine rb_bipush hB d_Mread_22 (by decide) ?_
        refine rb_iload_n hB (j := 1) d_Mread_24 rfl ?_
        refine rb_imul hB d_Mread_25 ?_
        refine rb_iload_n hB (j := 2) d_Mread_26 rfl ?_
        refine rb_iadd hB d_Mread_27 ?_
        refine rh_ild hH 0 32 (by decide) d_Mread_28 rfl rfl (by omega) ?_
        have g0 := hM.1 (16 * p + v) (by omega) (by omega)
        refine rb_if_ne hB (tgt := 34) d_Mread_29 (by omega) (by decide) (fun c29 => ?_) (fun c29 => ?_)
        · refine rb_aload_n hB (j := 0) d_Mread_34 rfl ?_
          refine rh_get hH 1 (by decide) d_Mread_35 rfl rfl ?_
          refine rb_iconst hB d_Mread_38 ?_
          refine rb_bipush hB d_Mread_39 (by decide) ?_
          refine rb_iload_n hB (j := 1) d_Mread_41 rfl ?_
          refine rb_imul hB d_Mread_42 ?_
          refine rb_iload_n hB (j := 2) d_Mread_43 rfl ?_
          refine rb_iadd hB d_Mread_44 ?_
          refine rb_imul hB d_Mread_45 ?_
          refine rb_iload_n hB (j := 3) d_Mread_46 rfl ?_
          refine rb_iadd hB d_Mread_47 ?_
          refine rh_ild hH 1 128 (by decide) d_Mread_48 rfl rfl (by omega) ?_
          exact hR _ _ _ _ d_Mread_49 rfl ⟨by unfold sR_read rd; rw [if_pos (by omega), if_neg (by omega)], rfl⟩
        · refine rb_iconst hB d_Mread_32 ?_
          exact hR _ _ _ _ d_Mread_33 rfl ⟨by unfold sR_read rd; first | rw [if_neg (by omega)] | rw [if_pos (by omega), if_pos (by omega)], rfl⟩
set_option maxHeartbeats 4000000 in
theorem c_Munmap {l : Launch} {D : va_G} {w : zW} {μ : zM} {p v : Int} (hM : MI μ) (hp : -2147483648 ≤ p ∧ p ≤ 2147483647) (hv : -2147483648 ≤ v ∧ v ≤ 2147483647) : CI l D (tysM w) (wM w) y_Munmap b_Munmap 3 .int 1 [.ref (w.1 0), .int (zI p), .int (zI v)] μ (fun z u => z = sR_unmap μ p v ∧ u = sM_unmap μ p v) := by
  refine conM_i [(0, .ref (w.1 0)), (1, .int (zI p)), (2, .int (zI v))] rfl (Nat.le_of_ble_eq_true rfl) rfl (fun G hB hH hC hR => ?_)
  refine rb_aload_n hB (j := 0) d_Munmap_0 rfl ?_
  refine rb_iload_n hB (j := 1) d_Munmap_1 rfl ?_
  refine rb_iload_n hB (j := 2) d_Munmap_2 rfl ?_
  refine rc_i2 hC k_M20 (c_MisPage (p := p) (v := v) (by omega) (by omega)) d_Munmap_3 (by decide) (Nat.le_of_ble_eq_true rfl) (fun z3 u3 h3 => ?_)
  obtain ⟨h3, he3⟩ := h3
  rw [he3]
  have b3 : (z3 = 1 ∧ (0 ≤ p ∧ p ≤ 1 ∧ 0 ≤ v ∧ v ≤ 15)) ∨ (z3 = 0 ∧ ¬ (0 ≤ p ∧ p ≤ 1 ∧ 0 ≤ v ∧ v ≤ 15)) := by
    rw [h3]
    by_cases zz : (0 ≤ p ∧ p ≤ 1 ∧ 0 ≤ v ∧ v ≤ 15)
    · exact Or.inl ⟨if_pos zz, zz⟩
    · exact Or.inr ⟨if_neg zz, zz⟩
  refine rb_if_ne hB (tgt := 11) d_Munmap_6 (by omega) (by decide) (fun c6 => ?_) (fun c6 => ?_)
  · refine rb_aload_n hB (j := 0) d_Munmap_11 rfl ?_
    refine rh_get hH 0 (by decide) d_Munmap_12 rfl rfl ?_
    refine rb_bipush hB d_Munmap_15 (by decide) ?_
    refine rb_iload_n hB (j := 1) d_Munmap_17 rfl ?_
    refine rb_imul hB d_Munmap_18 ?_
    refine rb_iload_n hB (j := 2) d_Munmap_19 rfl ?_
    refine rb_iadd hB d_Munmap_20 ?_
    refine rh_ild hH 0 32 (by decide) d_Munmap_21 rfl rfl (by omega) ?_
    have g0 := hM.1 (16 * p + v) (by omega) (by omega)
    refine rb_if_ne hB (tgt := 28) d_Munmap_22 (by omega) (by decide) (fun c22 => ?_) (fun c22 => ?_)
    · refine rb_aload_n hB (j := 0) d_Munmap_28 rfl ?_
      refine rh_get hH 0 (by decide) d_Munmap_29 rfl rfl ?_
      refine rb_bipush hB d_Munmap_32 (by decide) ?_
      refine rb_iload_n hB (j := 1) d_Munmap_34 rfl ?_
      refine rb_imul hB d_Munmap_35 ?_
      refine rb_iload_n hB (j := 2) d_Munmap_36 rfl ?_
      refine rb_iadd hB d_Munmap_37 ?_
      refine rb_iconst hB d_Munmap_38 ?_
      refine rh_ist hH 0 32 (by decide) d_Munmap_39 rfl rfl (by omega) ?_
      refine rb_aload_n hB (j := 0) d_Munmap_40 rfl ?_
      refine rh_get hH 2 (by decide) d_Munmap_41 rfl rfl ?_
      refine rb_iload_n hB (j := 2) d_Munmap_44 rfl ?_
      refine rb_iconst hB d_Munmap_45 ?_
      refine rh_bst hH 2 16 (by decide) d_Munmap_46 rfl rfl (by omega) (by omega) ?_
      refine rb_iconst hB d_Munmap_47 ?_
      exact hR _ _ _ _ d_Munmap_48 rfl ⟨by unfold sR_unmap; rw [if_pos (by omega), if_neg (by omega)], by unfold sM_unmap unM remM; rw [if_pos (by omega), if_neg (by omega), show (16 * p + v) % 16 = v by omega]⟩
    · refine rb_bipush hB d_Munmap_25 (by decide) ?_
      exact hR _ _ _ _ d_Munmap_27 rfl ⟨by unfold sR_unmap; rw [if_pos (by omega), if_pos (by omega)], by unfold sM_unmap unM; rw [if_pos (by omega), if_pos (by omega)]⟩
  · refine rb_iconst hB d_Munmap_9 ?_
    exact hR _ _ _ _ d_Munmap_10 rfl ⟨by unfold sR_unmap; rw [if_neg (by omega)], by unfold sM_unmap; rw [if_neg (by omega)]⟩
set_option maxHeartbeats 4000000 in
theorem c_Mprotect {l : Launch} {D : va_G} {w : zW} {μ : zM} {p v x : Int} (hM : MI μ) (hp : -2147483648 ≤ p ∧ p ≤ 2147483647) (hv : -2147483648 ≤ v ∧ v ≤ 2147483647) (hx : -2147483648 ≤ x ∧ x ≤ 2147483647) : CI l D (tysM w) (wM w) y_Mprotect b_Mprotect 5 .int 1 [.ref (w.1 0), .int (zI p), .int (zI v), .int (zI x)] μ (fun z u => z = sR_protect μ p v ∧ u = sM_protect μ p v x) := by
  refine conM_i [(0, .ref (w.1 0)), (1, .int (zI p)), (2, .int (zI v)), (3, .int (zI x))] rfl (Nat.le_of_ble_eq_true rfl) rfl (fun G hB hH hC hR => ?_)
  refine rb_aload_n hB (j := 0) d_Mprotect_0 rfl ?_
  refine rb_iload_n hB (j := 1) d_Mprotect_1 rfl ?_
  refine rb_iload_n hB (j := 2) d_Mprotect_2 rfl ?_
  refine rc_i2 hC k_M20 (c_MisPage (p := p) (v := v) (by omega) (by omega)) d_Mprotect_3 (by decide) (Nat.le_of_ble_eq_true rfl) (fun z3 u3 h3 => ?_)
  obtain ⟨h3, he3⟩ := h3
  rw [he3]
  have b3 : (z3 = 1 ∧ (0 ≤ p ∧ p ≤ 1 ∧ 0 ≤ v ∧ v ≤ 15)) ∨ (z3 = 0 ∧ ¬ (0 ≤ p ∧ p ≤ 1 ∧ 0 ≤ v ∧ v ≤ 15)) := by
    rw [h3]
    by_cases zz : (0 ≤ p ∧ p ≤ 1 ∧ 0 ≤ v ∧ v ≤ 15)
    · exact Or.inl ⟨if_pos zz, zz⟩
    · exact Or.inr ⟨if_neg zz, zz⟩
  refine rb_if_ne hB (tgt := 11) d_Mprotect_6 (by omega) (by decide) (fun c6 => ?_) (fun c6 => ?_)
  · refine rb_aload_n hB (j := 0) d_Mprotect_11 rfl ?_
    refine rh_get hH 0 (by decide) d_Mprotect_12 rfl rfl ?_
    refine rb_bipush hB d_Mprotect_15 (by decide) ?_
    refine rb_iload_n hB (j := 1) d_Mprotect_17 rfl ?_
    refine rb_imul hB d_Mprotect_18 ?_
    refine rb_iload_n hB (j := 2) d_Mprotect_19 rfl ?_
    refine rb_iadd hB d_Mprotect_20 ?_
    refine rh_ild hH 0 32 (by decide) d_Mprotect_21 rfl rfl (by omega) ?_
    refine rn_istore hB (fun y => [(0, .ref (w.1 0)), (1, .int (zI p)), (2, .int (zI v)), (3, .int (zI x)), (4, .int (zI y))]) d_Mprotect_22 (by decide) (fun _ => rfl) (fun y4_22 ey4_22 => ?_)
    have g0 := hM.1 (16 * p + v) (by omega) (by omega)
    refine rb_iload hB (j := 4) d_Mprotect_24 rfl ?_
    refine rb_if_ne hB (tgt := 32) d_Mprotect_26 (by omega) (by decide) (fun c26 => ?_) (fun c26 => ?_)
    · refine rb_aload_n hB (j := 0) d_Mprotect_32 rfl ?_
      refine rh_get hH 0 (by decide) d_Mprotect_33 rfl rfl ?_
      refine rb_bipush hB d_Mprotect_36 (by decide) ?_
      refine rb_iload_n hB (j := 1) d_Mprotect_38 rfl ?_
      refine rb_imul hB d_Mprotect_39 ?_
      refine rb_iload_n hB (j := 2) d_Mprotect_40 rfl ?_
      refine rb_iadd hB d_Mprotect_41 ?_
      refine rb_iload_n hB (j := 3) d_Mprotect_42 rfl ?_
      refine rb_if_eq hB (tgt := 50) d_Mprotect_43 (by omega) (by decide) (fun c43 => ?_) (fun c43 => ?_)
      · refine rb_iconst hB d_Mprotect_50 ?_
        refine rh_ist hH 0 32 (by decide) d_Mprotect_51 rfl rfl (by omega) ?_
        refine rb_iload hB (j := 4) d_Mprotect_52 rfl ?_
        refine rb_iconst hB d_Mprotect_54 ?_
        refine rb_isub hB d_Mprotect_55 ?_
        exact hR _ _ _ _ d_Mprotect_56 rfl ⟨by unfold sR_protect; rw [if_pos (by omega), if_neg (by omega)]; omega, by unfold sM_protect; rw [if_pos (by omega), if_neg (by omega), if_pos (by omega)]⟩
      · refine rb_iconst hB d_Mprotect_46 ?_
        refine rb_goto hB (tgt := 51) d_Mprotect_47 (by decide) ?_
        refine rh_ist hH 0 32 (by decide) d_Mprotect_51 rfl rfl (by omega) ?_
        refine rb_iload hB (j := 4) d_Mprotect_52 rfl ?_
        refine rb_iconst hB d_Mprotect_54 ?_
        refine rb_isub hB d_Mprotect_55 ?_
        exact hR _ _ _ _ d_Mprotect_56 rfl ⟨by unfold sR_protect; rw [if_pos (by omega), if_neg (by omega)]; omega, by unfold sM_protect; rw [if_pos (by omega), if_neg (by omega), if_neg (by omega)]⟩
    · refine rb_bipush hB d_Mprotect_29 (by decide) ?_
      exact hR _ _ _ _ d_Mprotect_31 rfl ⟨by unfold sR_protect; rw [if_pos (by omega), if_pos (by omega)], by unfold sM_protect; rw [if_pos (by omega), if_pos (by omega)]⟩
  · refine rb_iconst hB d_Mprotect_9 ?_
    exact hR _ _ _ _ d_Mprotect_10 rfl ⟨by unfold sR_protect; rw [if_neg (by omega)], by unfold sM_protect; rw [if_neg (by omega)]⟩
set_option maxHeartbeats 4000000 in
theorem c_Mstate {l : Launch} {D : va_G} {w : zW} {μ : zM} {p v : Int} (hM : MI μ) (hp : -2147483648 ≤ p ∧ p ≤ 2147483647) (hv : -2147483648 ≤ v ∧ v ≤ 2147483647) : CI l D (tysM w) (wM w) y_Mstate b_Mstate 3 .int 1 [.ref (w.1 0), .int (zI p), .int (zI v)] μ (fun z u => z = sR_state μ p v ∧ u = μ) := by
  refine conM_i [(0, .ref (w.1 0)), (1, .int (zI p)), (2, .int (zI v))] rfl (Nat.le_of_ble_eq_true rfl) rfl (fun G hB hH hC hR => ?_)
  refine rb_aload_n hB (j := 0) d_Mstate_0 rfl ?_
  refine rb_iload_n hB (j := 1) d_Mstate_1 rfl ?_
  refine rb_iload_n hB (j := 2) d_Mstate_2 rfl ?_
  refine rc_i2 hC k_M20 (c_MisPage (p := p) (v := v) (by omega) (by omega)) d_Mstate_3 (by decide) (Nat.le_of_ble_eq_true rfl) (fun z3 u3 h3 => ?_)
  obtain ⟨h3, he3⟩ := h3
  rw [he3]
  have b3 : (z3 = 1 ∧ (0 ≤ p ∧ p ≤ 1 ∧ 0 ≤ v ∧ v ≤ 15)) ∨ (z3 = 0 ∧ ¬ (0 ≤ p ∧ p ≤ 1 ∧ 0 ≤ v ∧ v ≤ 15)) := by
    rw [h3]
    by_cases zz : (0 ≤ p ∧ p ≤ 1 ∧ 0 ≤ v ∧ v ≤ 15)
    · exact Or.inl ⟨if_pos zz, zz⟩
    · exact Or.inr ⟨if_neg zz, zz⟩
  refine rb_if_eq hB (tgt := 23) d_Mstate_6 (by omega) (by decide) (fun c6 => ?_) (fun c6 => ?_)
  · refine rb_iconst hB d_Mstate_23 ?_
    exact hR _ _ _ _ d_Mstate_24 rfl ⟨by unfold sR_state; rw [if_neg (by omega)], rfl⟩
  · refine rb_aload_n hB (j := 0) d_Mstate_9 rfl ?_
    refine rh_get hH 0 (by decide) d_Mstate_10 rfl rfl ?_
    refine rb_bipush hB d_Mstate_13 (by decide) ?_
    refine rb_iload_n hB (j := 1) d_Mstate_15 rfl ?_
    refine rb_imul hB d_Mstate_16 ?_
    refine rb_iload_n hB (j := 2) d_Mstate_17 rfl ?_
    refine rb_iadd hB d_Mstate_18 ?_
    refine rh_ild hH 0 32 (by decide) d_Mstate_19 rfl rfl (by omega) ?_
    refine rb_goto hB (tgt := 24) d_Mstate_20 (by decide) ?_
    exact hR _ _ _ _ d_Mstate_24 rfl ⟨by unfold sR_state; rw [if_pos (by omega)], rfl⟩
set_option maxHeartbeats 4000000 in
theorem c_Mshared {l : Launch} {D : va_G} {w : zW} {μ : zM} {v : Int} (hM : MI μ) (hv : -2147483648 ≤ v ∧ v ≤ 2147483647) : CI l D (tysM w) (wM w) y_Mshared b_Mshared 2 .boolean 0 [.ref (w.1 0), .int (zI v)] μ (fun z u => z = sR_shared μ v ∧ u = μ) := by
  refine conM_i [(0, .ref (w.1 0)), (1, .int (zI v))] rfl (Nat.le_of_ble_eq_true rfl) rfl (fun G hB hH hC hR => ?_)
  refine rb_iload_n hB (j := 1) d_Mshared_0 rfl ?_
  refine rb_if_lt hB (tgt := 23) d_Mshared_1 (by omega) (by decide) (fun c1 => ?_) (fun c1 => ?_)
  · refine rb_iconst hB d_Mshared_23 ?_
    exact hR _ _ _ _ d_Mshared_24 (by decide) ⟨by unfold sR_shared; rw [if_neg (by omega)], rfl⟩
  · refine rb_iload_n hB (j := 1) d_Mshared_4 rfl ?_
    refine rb_bipush hB d_Mshared_5 (by decide) ?_
    refine rb_icmp_gt hB (tgt := 23) d_Mshared_7 (by omega) (by omega) (by decide) (fun c7 => ?_) (fun c7 => ?_)
    · refine rb_iconst hB d_Mshared_23 ?_
      exact hR _ _ _ _ d_Mshared_24 (by decide) ⟨by unfold sR_shared; rw [if_neg (by omega)], rfl⟩
    · refine rb_aload_n hB (j := 0) d_Mshared_10 rfl ?_
      refine rh_get hH 2 (by decide) d_Mshared_11 rfl rfl ?_
      refine rb_iload_n hB (j := 1) d_Mshared_14 rfl ?_
      refine rh_bld hH 2 16 (by decide) d_Mshared_15 rfl rfl (by omega) ?_
      have g2 := hM.2.1 v (by omega) (by omega)
      refine rb_if_eq hB (tgt := 23) d_Mshared_16 (by omega) (by decide) (fun c16 => ?_) (fun c16 => ?_)
      · refine rb_iconst hB d_Mshared_23 ?_
        exact hR _ _ _ _ d_Mshared_24 (by decide) ⟨by unfold sR_shared; rw [if_neg (by omega)], rfl⟩
      · refine rb_iconst hB d_Mshared_19 ?_
        refine rb_goto hB (tgt := 24) d_Mshared_20 (by decide) ?_
        exact hR _ _ _ _ d_Mshared_24 (by decide) ⟨by unfold sR_shared; rw [if_pos (by omega)], rfl⟩
set_option maxHeartbeats 4000000 in
theorem w_Msplit_72 {l : Launch} {D : va_G} {w : zW} {G : zG zM} {μ c1 : zM} {p y2 y3 y4 : Int} (h34 : 0 ≤ y3 ∧ y3 < 32 ∧ 0 ≤ y4 ∧ y4 < 32) (hB : RB b_Msplit 6 G) (hH : RH b_Msplit G (w.1 0) (adM w) fxM nxM intsM boolsM) (hC : RC l D (tysM w) (wM w) R_M (rmK 1) b_Msplit G (w.1 0)) (hR : ∀ (u : zM) (pc : Nat) (lv : zL) (z : Int), decode b_Msplit pc = .ok (.ireturn, 1) → narrow .int (.int (zI z)) = .int (zI z) → (z = sR_split μ p ∧ u = sM_split μ p) → G u pc lv [.int (zI z)]) (hout : ∀ z2 : Int, z2 = y2 + 1 → G (wcp c1 y3 y4 4) 13 [(0, .ref (w.1 0)), (1, .int (zI p)), (2, .int (zI z2))] []) :
    ∀ (n : Nat) (y5 : Int) (cur : zM), (0 ≤ y5) → (y5 ≤ 4) → (4 < y5 + n) → (cur = wcp c1 y3 y4 y5) → G cur 72 [(0, .ref (w.1 0)), (1, .int (zI p)), (2, .int (zI y2)), (3, .int (zI y3)), (4, .int (zI y4)), (5, .int (zI y5))] [] := by
  intro n
  induction n with
  | zero =>
    intro y5 cur h1 h2 h3 hcur
    exfalso
    omega
  | succ n ih =>
    intro y5 cur h1 h2 h3 hcur
    refine rb_iload hB (j := 5) d_Msplit_72 rfl ?_
    refine rb_iconst hB d_Msplit_74 ?_
    refine rb_icmp_ge hB (tgt := 107) d_Msplit_75 (by omega) (by omega) (by decide) (fun c75 => ?_) (fun c75 => ?_)
    · refine rn_iinc hB 2 (fun y => [(0, .ref (w.1 0)), (1, .int (zI p)), (2, .int (zI y)), (3, .int (zI y3)), (4, .int (zI y4)), (5, .int (zI y5))]) d_Msplit_107 rfl (by decide) (fun _ => rfl) (fun y2_107 ey2_107 => ?_)
      refine rb_goto hB (tgt := 13) d_Msplit_110 (by decide) ?_
      refine rb_sub hB (ks := [0, 1, 2]) (lv1 := [(0, .ref (w.1 0)), (1, .int (zI p)), (2, .int (zI y2_107))]) rfl ?_
      have e5 : y5 = 4 := by omega
      rw [hcur, e5]
      exact hout y2_107 (by omega)
    · refine rb_aload_n hB (j := 0) d_Msplit_78 rfl ?_
      refine rh_get hH 1 (by decide) d_Msplit_79 rfl rfl ?_
      refine rb_iconst hB d_Msplit_82 ?_
      refine rb_iload hB (j := 4) d_Msplit_83 rfl ?_
      refine rb_imul hB d_Msplit_85 ?_
      refine rb_iload hB (j := 5) d_Msplit_86 rfl ?_
      refine rb_iadd hB d_Msplit_88 ?_
      refine rb_aload_n hB (j := 0) d_Msplit_89 rfl ?_
      refine rh_get hH 1 (by decide) d_Msplit_90 rfl rfl ?_
      refine rb_iconst hB d_Msplit_93 ?_
      refine rb_iload_n hB (j := 3) d_Msplit_94 rfl ?_
      refine rb_imul hB d_Msplit_95 ?_
      refine rb_iload hB (j := 5) d_Msplit_96 rfl ?_
      refine rb_iadd hB d_Msplit_98 ?_
      refine rh_ild hH 1 128 (by decide) d_Msplit_99 rfl rfl (by omega) ?_
      refine rh_ist hH 1 128 (by decide) d_Msplit_100 rfl rfl (by omega) ?_
      refine rn_iinc hB 5 (fun y => [(0, .ref (w.1 0)), (1, .int (zI p)), (2, .int (zI y2)), (3, .int (zI y3)), (4, .int (zI y4)), (5, .int (zI y))]) d_Msplit_101 rfl (by decide) (fun _ => rfl) (fun y5_101 ey5_101 => ?_)
      refine rb_goto hB (tgt := 72) d_Msplit_104 (by decide) ?_
      rw [hcur, wcp_r _ _ _ _ h1 (by omega), wcp_s _ _ _ _ h1]
      exact ih y5_101 _ (by omega) (by omega) (by omega) (by rw [ey5_101])
theorem MI_sp {μ : zM} {p : Int} (h : MI μ) (hp : 0 ≤ p ∧ p ≤ 1) : MI (spL μ p 16) := by
  have e0 : ∀ q : Int, 0 ≤ q → q < 32 → spL μ p 16 0 q = μ 0 (16 * p + q % 16) := by
    intro q q0 q1
    by_cases z : 16 * (1 - p) ≤ q ∧ q < 16 * (1 - p) + 16
    · unfold spL
      rw [if_pos ⟨rfl, z⟩]
      congr 1
      omega
    · rw [spL_p _ _ _ _ hp (by omega) (by omega)]
      congr 1
      omega
  refine ⟨fun q q0 q1 => ?_, fun v v0 v1 => ?_, fun q q0 q1 e => ?_⟩
  · rw [e0 q q0 q1]
    exact h.1 _ (by omega) (by omega)
  · rw [spL_2 v0, if_pos (by omega)]
    split <;> omega
  · rw [e0 q q0 q1] at e
    rw [spL_2 (by omega), if_pos (by omega), if_pos e]
set_option maxHeartbeats 4000000 in
theorem w_Msplit_13 {l : Launch} {D : va_G} {w : zW} {G : zG zM} {μ : zM} {p : Int} (hM : MI μ) (hp : 0 ≤ p ∧ p ≤ 1) (hB : RB b_Msplit 6 G) (hH : RH b_Msplit G (w.1 0) (adM w) fxM nxM intsM boolsM) (hC : RC l D (tysM w) (wM w) R_M (rmK 1) b_Msplit G (w.1 0)) (hR : ∀ (u : zM) (pc : Nat) (lv : zL) (z : Int), decode b_Msplit pc = .ok (.ireturn, 1) → narrow .int (.int (zI z)) = .int (zI z) → (z = sR_split μ p ∧ u = sM_split μ p) → G u pc lv [.int (zI z)]) :
    ∀ (n : Nat) (y2 : Int) (cur : zM), (0 ≤ y2) → (y2 ≤ 16) → (16 < y2 + n) → (cur = spL μ p y2) → G cur 13 [(0, .ref (w.1 0)), (1, .int (zI p)), (2, .int (zI y2))] [] := by
  intro n
  induction n with
  | zero =>
    intro y2 cur h1 h2 h3 hcur
    exfalso
    omega
  | succ n ih =>
    intro y2 cur h1 h2 h3 hcur
    refine rb_iload_n hB (j := 2) d_Msplit_13 rfl ?_
    refine rb_bipush hB d_Msplit_14 (by decide) ?_
    refine rb_icmp_ge hB (tgt := 113) d_Msplit_16 (by omega) (by omega) (by decide) (fun c16 => ?_) (fun c16 => ?_)
    · have e2 : y2 = 16 := by omega
      have hM2 : MI cur := by rw [hcur, e2]; exact MI_sp hM hp
      refine rb_aload_n hB (j := 0) d_Msplit_113 rfl ?_
      refine rb_iload_n hB (j := 1) d_Msplit_114 rfl ?_
      refine rc_i1 hC k_M35 (c_Mpresent (p := p) hM2 (by omega)) d_Msplit_115 (by decide) (Nat.le_of_ble_eq_true rfl) (fun z115 u115 h115 => ?_)
      obtain ⟨h115, he115⟩ := h115
      rw [he115]
      exact hR _ _ _ _ d_Msplit_118 rfl ⟨by rw [h115, hcur, e2]; unfold sR_split sR_present; rw [if_pos hp, if_pos hp]; exact smz_c (fun v v0 v1 => by rw [spL_p _ _ _ _ hp (by omega) (by omega)]), by unfold sM_split; rw [if_pos hp, hcur, e2]⟩
    · refine rb_bipush hB d_Msplit_19 (by decide) ?_
      refine rb_iload_n hB (j := 1) d_Msplit_21 rfl ?_
      refine rb_imul hB d_Msplit_22 ?_
      refine rb_iload_n hB (j := 2) d_Msplit_23 rfl ?_
      refine rb_iadd hB d_Msplit_24 ?_
      refine rn_istore_n hB (fun y => [(0, .ref (w.1 0)), (1, .int (zI p)), (2, .int (zI y2)), (3, .int (zI y))]) d_Msplit_25 (by decide) (fun _ => rfl) (fun y3_25 ey3_25 => ?_)
      refine rb_bipush hB d_Msplit_26 (by decide) ?_
      refine rb_iconst hB d_Msplit_28 ?_
      refine rb_iload_n hB (j := 1) d_Msplit_29 rfl ?_
      refine rb_isub hB d_Msplit_30 ?_
      refine rb_imul hB d_Msplit_31 ?_
      refine rb_iload_n hB (j := 2) d_Msplit_32 rfl ?_
      refine rb_iadd hB d_Msplit_33 ?_
      refine rn_istore hB (fun y => [(0, .ref (w.1 0)), (1, .int (zI p)), (2, .int (zI y2)), (3, .int (zI y3_25)), (4, .int (zI y))]) d_Msplit_34 (by decide) (fun _ => rfl) (fun y4_34 ey4_34 => ?_)
      refine rb_aload_n hB (j := 0) d_Msplit_36 rfl ?_
      refine rh_get hH 0 (by decide) d_Msplit_37 rfl rfl ?_
      refine rb_iload hB (j := 4) d_Msplit_40 rfl ?_
      refine rb_aload_n hB (j := 0) d_Msplit_42 rfl ?_
      refine rh_get hH 0 (by decide) d_Msplit_43 rfl rfl ?_
      refine rb_iload_n hB (j := 3) d_Msplit_46 rfl ?_
      refine rh_ild hH 0 32 (by decide) d_Msplit_47 rfl rfl (by omega) ?_
      refine rh_ist hH 0 32 (by decide) d_Msplit_48 rfl rfl (by omega) ?_
      refine rb_aload_n hB (j := 0) d_Msplit_49 rfl ?_
      refine rh_get hH 2 (by decide) d_Msplit_50 rfl rfl ?_
      refine rb_iload_n hB (j := 2) d_Msplit_53 rfl ?_
      refine rb_aload_n hB (j := 0) d_Msplit_54 rfl ?_
      refine rh_get hH 0 (by decide) d_Msplit_55 rfl rfl ?_
      refine rb_iload_n hB (j := 3) d_Msplit_58 rfl ?_
      refine rh_ild hH 0 32 (by decide) d_Msplit_59 rfl rfl (by omega) ?_
      have r0 : cur 0 y3_25 = μ 0 (16 * p + y2) := by rw [hcur, ey3_25]; exact spL_p _ _ _ _ hp (by omega) (by omega)
      have g0 := hM.1 (16 * p + y2) (by omega) (by omega)
      rw [up_n _ _ _ _ (show y3_25 ≠ y4_34 by omega), r0]
      refine rb_if_eq hB (tgt := 67) d_Msplit_60 (by omega) (by decide) (fun c60 => ?_) (fun c60 => ?_)
      · refine rb_iconst hB d_Msplit_67 ?_
        refine rh_bst hH 2 16 (by decide) d_Msplit_68 rfl rfl (by omega) (by omega) ?_
        refine rb_iconst hB d_Msplit_69 ?_
        refine rn_istore hB (fun y => [(0, .ref (w.1 0)), (1, .int (zI p)), (2, .int (zI y2)), (3, .int (zI y3_25)), (4, .int (zI y4_34)), (5, .int (zI y))]) d_Msplit_70 (by decide) (fun _ => rfl) (fun y5_70 ey5_70 => ?_)
        refine w_Msplit_72 (c1 := up (up (spL μ p y2) 0 (16 * (1 - p) + y2) (μ 0 (16 * p + y2))) 2 y2 (if μ 0 (16 * p + y2) = 0 then 0 else 1)) (by omega) hB hH hC hR (fun a ha => ?_) 5 y5_70 _ (by omega) (by omega) (by omega) ?_
        · rw [ey3_25, ey4_34, spL_s _ _ _ hp (by omega)]
          exact ih a _ (by omega) (by omega) (by omega) (by rw [ha])
        · rw [ey5_70, wcp_0, hcur, ey4_34, if_pos (by omega)]
      · refine rb_iconst hB d_Msplit_63 ?_
        refine rb_goto hB (tgt := 68) d_Msplit_64 (by decide) ?_
        refine rh_bst hH 2 16 (by decide) d_Msplit_68 rfl rfl (by omega) (by omega) ?_
        refine rb_iconst hB d_Msplit_69 ?_
        refine rn_istore hB (fun y => [(0, .ref (w.1 0)), (1, .int (zI p)), (2, .int (zI y2)), (3, .int (zI y3_25)), (4, .int (zI y4_34)), (5, .int (zI y))]) d_Msplit_70 (by decide) (fun _ => rfl) (fun y5_70 ey5_70 => ?_)
        refine w_Msplit_72 (c1 := up (up (spL μ p y2) 0 (16 * (1 - p) + y2) (μ 0 (16 * p + y2))) 2 y2 (if μ 0 (16 * p + y2) = 0 then 0 else 1)) (by omega) hB hH hC hR (fun a ha => ?_) 5 y5_70 _ (by omega) (by omega) (by omega) ?_
        · rw [ey3_25, ey4_34, spL_s _ _ _ hp (by omega)]
          exact ih a _ (by omega) (by omega) (by omega) (by rw [ha])
        · rw [ey5_70, wcp_0, hcur, ey4_34, if_neg (by omega)]
set_option maxHeartbeats 4000000 in
theorem c_Msplit {l : Launch} {D : va_G} {w : zW} {μ : zM} {p : Int} (hM : MI μ) (hp : -2147483648 ≤ p ∧ p ≤ 2147483647) : CI l D (tysM w) (wM w) y_Msplit b_Msplit 6 .int 1 [.ref (w.1 0), .int (zI p)] μ (fun z u => z = sR_split μ p ∧ u = sM_split μ p) := by
  refine conM_i [(0, .ref (w.1 0)), (1, .int (zI p))] rfl (Nat.le_of_ble_eq_true rfl) rfl (fun G hB hH hC hR => ?_)
  refine rb_iload_n hB (j := 1) d_Msplit_0 rfl ?_
  refine rb_if_lt hB (tgt := 9) d_Msplit_1 (by omega) (by decide) (fun c1 => ?_) (fun c1 => ?_)
  · refine rb_iconst hB d_Msplit_9 ?_
    exact hR _ _ _ _ d_Msplit_10 rfl ⟨by unfold sR_split; rw [if_neg (by omega)], by unfold sM_split; rw [if_neg (by omega)]⟩
  · refine rb_iload_n hB (j := 1) d_Msplit_4 rfl ?_
    refine rb_iconst hB d_Msplit_5 ?_
    refine rb_icmp_le hB (tgt := 11) d_Msplit_6 (by omega) (by omega) (by decide) (fun c6 => ?_) (fun c6 => ?_)
    · refine rb_iconst hB d_Msplit_11 ?_
      refine rn_istore_n hB (fun y => [(0, .ref (w.1 0)), (1, .int (zI p)), (2, .int (zI y))]) d_Msplit_12 (by decide) (fun _ => rfl) (fun y2_12 ey2_12 => ?_)
      exact w_Msplit_13 hM (by omega) hB hH hC hR 17 y2_12 _ (by omega) (by omega) (by omega) (by rw [ey2_12, spL_0])
    · refine rb_iconst hB d_Msplit_9 ?_
      exact hR _ _ _ _ d_Msplit_10 rfl ⟨by unfold sR_split; rw [if_neg (by omega)], by unfold sM_split; rw [if_neg (by omega)]⟩
set_option maxHeartbeats 4000000 in
theorem w_Mcopy_26 {l : Launch} {D : va_G} {w : zW} {G : zG zM} {μ : zM} {p v x : Int} (hM : MI μ) (hok : (0 ≤ p ∧ p ≤ 1 ∧ 0 ≤ v ∧ v ≤ 15) ∧ 0 ≤ x ∧ x ≤ 15) (hB : RB b_Mcopy 7 G) (hH : RH b_Mcopy G (w.1 0) (adM w) fxM nxM intsM boolsM) (hC : RC l D (tysM w) (wM w) R_M (rmK 5) b_Mcopy G (w.1 0)) (hR : ∀ (u : zM) (pc : Nat) (lv : zL) (z : Int), decode b_Mcopy pc = .ok (.ireturn, 1) → narrow .int (.int (zI z)) = .int (zI z) → (z = sR_copy μ p v x ∧ u = sM_copy μ p v x) → G u pc lv [.int (zI z)]) :
    ∀ (n : Nat) (y4 : Int) (y5 : Int) (cur : zM), (0 ≤ y5) → (y5 ≤ 4) → (4 < y5 + n) → (CpI μ (16 * p + v) (16 * p + x) y5 y4 cur) → (-4 ≤ y4 ∧ y4 ≤ 0) → G cur 26 [(0, .ref (w.1 0)), (1, .int (zI p)), (2, .int (zI v)), (3, .int (zI x)), (4, .int (zI y4)), (5, .int (zI y5))] [] := by
  intro n
  induction n with
  | zero =>
    intro y4 y5 cur h1 h2 h3 hcur h4
    exfalso
    omega
  | succ n ih =>
    intro y4 y5 cur h1 h2 h3 hcur h4
    refine rb_iload hB (j := 5) d_Mcopy_26 rfl ?_
    refine rb_iconst hB d_Mcopy_28 ?_
    refine rb_icmp_ge hB (tgt := 65) d_Mcopy_29 (by omega) (by omega) (by decide) (fun c29 => ?_) (fun c29 => ?_)
    · refine rb_iload hB (j := 4) d_Mcopy_65 rfl ?_
      have he := CpI_e h2 hcur (by omega)
      exact hR _ _ _ _ d_Mcopy_67 rfl ⟨by unfold sR_copy; rw [if_pos (by omega)]; exact he.1, by unfold sM_copy; rw [if_pos (by omega)]; exact he.2⟩
    · refine rb_iload hB (j := 4) d_Mcopy_32 rfl ?_
      refine rb_if_ne hB (tgt := 65) d_Mcopy_34 (by omega) (by decide) (fun c34 => ?_) (fun c34 => ?_)
      · refine rb_iload hB (j := 4) d_Mcopy_65 rfl ?_
        have he := CpI_e h2 hcur (by omega)
        exact hR _ _ _ _ d_Mcopy_67 rfl ⟨by unfold sR_copy; rw [if_pos (by omega)]; exact he.1, by unfold sM_copy; rw [if_pos (by omega)]; exact he.2⟩
      · have hc0 : CpI μ (16 * p + v) (16 * p + x) y5 0 cur := by rw [← c34]; exact hcur
        have hMc := CpI_MI hM (show 0 ≤ 16 * p + x ∧ 16 * p + x < 32 by omega) hc0
        refine rb_aload_n hB (j := 0) d_Mcopy_37 rfl ?_
        refine rb_iload_n hB (j := 1) d_Mcopy_38 rfl ?_
        refine rb_iload_n hB (j := 2) d_Mcopy_39 rfl ?_
        refine rb_iload hB (j := 5) d_Mcopy_40 rfl ?_
        refine rc_i3 hC k_M39 (c_Mread (p := p) (v := v) (k := y5) hMc (by omega) (by omega) (by omega)) d_Mcopy_42 (by decide) (Nat.le_of_ble_eq_true rfl) (fun z42 u42 h42 => ?_)
        obtain ⟨h42, he42⟩ := h42
        rw [he42]
        refine rn_istore hB (fun y => [(0, .ref (w.1 0)), (1, .int (zI p)), (2, .int (zI v)), (3, .int (zI x)), (4, .int (zI y4)), (5, .int (zI y5)), (6, .int (zI y))]) d_Mcopy_45 (by decide) (fun _ => rfl) (fun y6_45 ey6_45 => ?_)
        refine rb_aload_n hB (j := 0) d_Mcopy_47 rfl ?_
        refine rb_iload_n hB (j := 1) d_Mcopy_48 rfl ?_
        refine rb_iload_n hB (j := 3) d_Mcopy_49 rfl ?_
        refine rb_iload hB (j := 5) d_Mcopy_50 rfl ?_
        refine rb_iload hB (j := 6) d_Mcopy_52 rfl ?_
        refine rc_i4 hC k_M43 (c_Mwrite (p := p) (v := x) (k := y5) (x := y6_45) hMc (by omega) (by omega) (by omega)) d_Mcopy_54 (by decide) (Nat.le_of_ble_eq_true rfl) (fun z54 u54 h54 => ?_)
        refine rn_istore hB (fun y => [(0, .ref (w.1 0)), (1, .int (zI p)), (2, .int (zI v)), (3, .int (zI x)), (4, .int (zI y)), (5, .int (zI y5)), (6, .int (zI y6_45))]) d_Mcopy_57 (by decide) (fun _ => rfl) (fun y4_57 ey4_57 => ?_)
        refine rn_iinc hB 5 (fun y => [(0, .ref (w.1 0)), (1, .int (zI p)), (2, .int (zI v)), (3, .int (zI x)), (4, .int (zI y4_57)), (5, .int (zI y)), (6, .int (zI y6_45))]) d_Mcopy_59 rfl (by decide) (fun _ => rfl) (fun y5_59 ey5_59 => ?_)
        refine rb_goto hB (tgt := 26) d_Mcopy_62 (by decide) ?_
        refine rb_sub hB (ks := [0, 1, 2, 3, 4, 5]) (lv1 := [(0, .ref (w.1 0)), (1, .int (zI p)), (2, .int (zI v)), (3, .int (zI x)), (4, .int (zI y4_57)), (5, .int (zI y5_59))]) rfl ?_
        have hs := CpI_s hM (show 0 ≤ 16 * p + x ∧ 16 * p + x < 32 by omega) (show 0 ≤ y5 ∧ y5 < 4 by omega) hc0
        refine ih y4_57 y5_59 _ (by omega) (by omega) (by omega) ?_ ?_
        · rw [ey5_59, ey4_57, h54.1, h54.2]
          unfold sR_write sM_write
          rw [if_pos (by omega), if_pos (by omega), ey6_45, h42]
          unfold sR_read
          rw [if_pos (by omega)]
          exact hs
        · rw [ey4_57, h54.1]; unfold sR_write; rw [if_pos (by omega)]; unfold ownR; (repeat' split) <;> omega
set_option maxHeartbeats 4000000 in
theorem c_Mcopy {l : Launch} {D : va_G} {w : zW} {μ : zM} {p v x : Int} (hM : MI μ) (hp : -2147483648 ≤ p ∧ p ≤ 2147483647) (hv : -2147483648 ≤ v ∧ v ≤ 2147483647) (hx : -2147483648 ≤ x ∧ x ≤ 2147483647) : CI l D (tysM w) (wM w) y_Mcopy b_Mcopy 7 .int 5 [.ref (w.1 0), .int (zI p), .int (zI v), .int (zI x)] μ (fun z u => z = sR_copy μ p v x ∧ u = sM_copy μ p v x) := by
  refine conM_i [(0, .ref (w.1 0)), (1, .int (zI p)), (2, .int (zI v)), (3, .int (zI x))] rfl (Nat.le_of_ble_eq_true rfl) rfl (fun G hB hH hC hR => ?_)
  refine rb_aload_n hB (j := 0) d_Mcopy_0 rfl ?_
  refine rb_iload_n hB (j := 1) d_Mcopy_1 rfl ?_
  refine rb_iload_n hB (j := 2) d_Mcopy_2 rfl ?_
  refine rc_i2 hC k_M20 (c_MisPage (p := p) (v := v) (by omega) (by omega)) d_Mcopy_3 (by decide) (Nat.le_of_ble_eq_true rfl) (fun z3 u3 h3 => ?_)
  obtain ⟨h3, he3⟩ := h3
  rw [he3]
  have b3 : (z3 = 1 ∧ (0 ≤ p ∧ p ≤ 1 ∧ 0 ≤ v ∧ v ≤ 15)) ∨ (z3 = 0 ∧ ¬ (0 ≤ p ∧ p ≤ 1 ∧ 0 ≤ v ∧ v ≤ 15)) := by
    rw [h3]
    by_cases zz : (0 ≤ p ∧ p ≤ 1 ∧ 0 ≤ v ∧ v ≤ 15)
    · exact Or.inl ⟨if_pos zz, zz⟩
    · exact Or.inr ⟨if_neg zz, zz⟩
  refine rb_if_eq hB (tgt := 18) d_Mcopy_6 (by omega) (by decide) (fun c6 => ?_) (fun c6 => ?_)
  · refine rb_iconst hB d_Mcopy_18 ?_
    exact hR _ _ _ _ d_Mcopy_19 rfl ⟨by unfold sR_copy; rw [if_neg (by omega)], by unfold sM_copy; rw [if_neg (by omega)]⟩
  · refine rb_aload_n hB (j := 0) d_Mcopy_9 rfl ?_
    refine rb_iload_n hB (j := 1) d_Mcopy_10 rfl ?_
    refine rb_iload_n hB (j := 3) d_Mcopy_11 rfl ?_
    refine rc_i2 hC k_M20 (c_MisPage (p := p) (v := x) (by omega) (by omega)) d_Mcopy_12 (by decide) (Nat.le_of_ble_eq_true rfl) (fun z12 u12 h12 => ?_)
    obtain ⟨h12, he12⟩ := h12
    rw [he12]
    have b12 : (z12 = 1 ∧ (0 ≤ p ∧ p ≤ 1 ∧ 0 ≤ x ∧ x ≤ 15)) ∨ (z12 = 0 ∧ ¬ (0 ≤ p ∧ p ≤ 1 ∧ 0 ≤ x ∧ x ≤ 15)) := by
      rw [h12]
      by_cases zz : (0 ≤ p ∧ p ≤ 1 ∧ 0 ≤ x ∧ x ≤ 15)
      · exact Or.inl ⟨if_pos zz, zz⟩
      · exact Or.inr ⟨if_neg zz, zz⟩
    refine rb_if_ne hB (tgt := 20) d_Mcopy_15 (by omega) (by decide) (fun c15 => ?_) (fun c15 => ?_)
    · refine rb_iconst hB d_Mcopy_20 ?_
      refine rn_istore hB (fun y => [(0, .ref (w.1 0)), (1, .int (zI p)), (2, .int (zI v)), (3, .int (zI x)), (4, .int (zI y))]) d_Mcopy_21 (by decide) (fun _ => rfl) (fun y4_21 ey4_21 => ?_)
      refine rb_iconst hB d_Mcopy_23 ?_
      refine rn_istore hB (fun y => [(0, .ref (w.1 0)), (1, .int (zI p)), (2, .int (zI v)), (3, .int (zI x)), (4, .int (zI y4_21)), (5, .int (zI y))]) d_Mcopy_24 (by decide) (fun _ => rfl) (fun y5_24 ey5_24 => ?_)
      exact w_Mcopy_26 hM (by omega) hB hH hC hR 5 y4_21 y5_24 _ (by omega) (by omega) (by omega) (Or.inl ⟨by omega, by omega, rfl⟩) (by omega)
    · refine rb_iconst hB d_Mcopy_18 ?_
      exact hR _ _ _ _ d_Mcopy_19 rfl ⟨by unfold sR_copy; rw [if_neg (by omega)], by unfold sM_copy; rw [if_neg (by omega)]⟩
set_option maxHeartbeats 4000000 in
theorem w_MunmapRange_26 {l : Launch} {D : va_G} {w : zW} {G : zG zM} {N : zM} {p a b R : Int} (hp : 0 ≤ p ∧ p ≤ 1) (hb : 0 ≤ b ∧ b ≤ 15) (hB : RB b_MunmapRange 6 G) (hH : RH b_MunmapRange G (w.1 0) (adM w) fxM nxM intsM boolsM) (hC : RC l D (tysM w) (wM w) R_M (rmK 2) b_MunmapRange G (w.1 0)) (hR : ∀ (u : zM) (pc : Nat) (lv : zL) (z : Int), decode b_MunmapRange pc = .ok (.ireturn, 1) → narrow .int (.int (zI z)) = .int (zI z) → (z = R ∧ u = N) → G u pc lv [.int (zI z)]) :
    ∀ (n : Nat) (y4 : Int) (y5 : Int) (cur : zM), ((b + 1 - y5).toNat < n) → (0 ≤ y5 ∧ y5 ≤ 16) → (MI cur) → (y4 + urR cur p y5 (b + 1 - y5).toNat = R) → (urM cur p y5 (b + 1 - y5).toNat = N) → G cur 26 [(0, .ref (w.1 0)), (1, .int (zI p)), (2, .int (zI a)), (3, .int (zI b)), (4, .int (zI y4)), (5, .int (zI y5))] [] := by
  intro n
  induction n with
  | zero =>
    intro y4 y5 cur h1 h2 hcur hR1 hN1
    exfalso
    omega
  | succ n ih =>
    intro y4 y5 cur h1 h2 hcur hR1 hN1
    refine rb_iload hB (j := 5) d_MunmapRange_26 rfl ?_
    refine rb_iload_n hB (j := 3) d_MunmapRange_28 rfl ?_
    refine rb_icmp_gt hB (tgt := 51) d_MunmapRange_29 (by omega) (by omega) (by decide) (fun c29 => ?_) (fun c29 => ?_)
    · refine rb_iload hB (j := 4) d_MunmapRange_51 rfl ?_
      have hk : (b + 1 - y5).toNat = 0 := by omega
      rw [hk] at hR1 hN1
      have hR2 : y4 + 0 = R := hR1
      have hN2 : cur = N := hN1
      exact hR _ _ _ _ d_MunmapRange_53 rfl ⟨by omega, hN2⟩
    · refine rb_aload_n hB (j := 0) d_MunmapRange_32 rfl ?_
      refine rb_iload_n hB (j := 1) d_MunmapRange_33 rfl ?_
      refine rb_iload hB (j := 5) d_MunmapRange_34 rfl ?_
      refine rc_i2 hC k_M47 (c_Munmap (p := p) (v := y5) hcur (by omega) (by omega)) d_MunmapRange_36 (by decide) (Nat.le_of_ble_eq_true rfl) (fun z36 u36 h36 => ?_)
      obtain ⟨p36, q36⟩ := h36
      have t36 : z36 = if cur 0 (16 * p + y5) = 0 then -3 else 0 := by rw [p36]; unfold sR_unmap; rw [if_pos (by omega)]
      have t37 : u36 = unM cur (16 * p + y5) := by rw [q36]; unfold sM_unmap; rw [if_pos (by omega)]
      have t38 : -3 ≤ z36 ∧ z36 ≤ 0 := by rw [t36]; split <;> omega
      refine rb_if_ne hB (tgt := 45) d_MunmapRange_39 (by omega) (by decide) (fun c39 => ?_) (fun c39 => ?_)
      · refine rn_iinc hB 5 (fun y => [(0, .ref (w.1 0)), (1, .int (zI p)), (2, .int (zI a)), (3, .int (zI b)), (4, .int (zI y4)), (5, .int (zI y))]) d_MunmapRange_45 rfl (by decide) (fun _ => rfl) (fun y5_45 ey5_45 => ?_)
        refine rb_goto hB (tgt := 26) d_MunmapRange_48 (by decide) ?_
        have hk : (b + 1 - y5).toNat = (b + 1 - y5_45).toNat + 1 := by omega
        rw [hk] at hR1 hN1
        have hR2 : y4 + ((if cur 0 (16 * p + y5) = 0 then 0 else 1) + urR (unM cur (16 * p + y5)) p (y5 + 1) (b + 1 - y5_45).toNat) = R := hR1
        have hN2 : urM (unM cur (16 * p + y5)) p (y5 + 1) (b + 1 - y5_45).toNat = N := hN1
        rw [← ey5_45] at hR2 hN2
        have hy : cur 0 (16 * p + y5) = 0 := by
          by_cases y : cur 0 (16 * p + y5) = 0
          · exact y
          · rw [if_neg y] at t36
            omega
        rw [if_pos hy] at hR2
        rw [← t37] at hR2 hN2
        exact ih y4 y5_45 _ (by omega) (by omega) (by rw [t37]; exact MI_un hcur (by omega)) (by omega) hN2
      · refine rn_iinc hB 4 (fun y => [(0, .ref (w.1 0)), (1, .int (zI p)), (2, .int (zI a)), (3, .int (zI b)), (4, .int (zI y)), (5, .int (zI y5))]) d_MunmapRange_42 rfl (by decide) (fun _ => rfl) (fun y4_42 ey4_42 => ?_)
        refine rn_iinc hB 5 (fun y => [(0, .ref (w.1 0)), (1, .int (zI p)), (2, .int (zI a)), (3, .int (zI b)), (4, .int (zI y4_42)), (5, .int (zI y))]) d_MunmapRange_45 rfl (by decide) (fun _ => rfl) (fun y5_45 ey5_45 => ?_)
        refine rb_goto hB (tgt := 26) d_MunmapRange_48 (by decide) ?_
        have hk : (b + 1 - y5).toNat = (b + 1 - y5_45).toNat + 1 := by omega
        rw [hk] at hR1 hN1
        have hR2 : y4 + ((if cur 0 (16 * p + y5) = 0 then 0 else 1) + urR (unM cur (16 * p + y5)) p (y5 + 1) (b + 1 - y5_45).toNat) = R := hR1
        have hN2 : urM (unM cur (16 * p + y5)) p (y5 + 1) (b + 1 - y5_45).toNat = N := hN1
        rw [← ey5_45] at hR2 hN2
        have hy : ¬ cur 0 (16 * p + y5) = 0 := fun y => by
          rw [if_pos y] at t36
          omega
        rw [if_neg hy] at hR2
        rw [← t37] at hR2 hN2
        exact ih y4_42 y5_45 _ (by omega) (by omega) (by rw [t37]; exact MI_un hcur (by omega)) (by omega) hN2
set_option maxHeartbeats 4000000 in
theorem c_MunmapRange {l : Launch} {D : va_G} {w : zW} {μ : zM} {p a b : Int} (hM : MI μ) (hp : -2147483648 ≤ p ∧ p ≤ 2147483647) (ha : -2147483648 ≤ a ∧ a ≤ 2147483647) (hb : -2147483648 ≤ b ∧ b ≤ 2147483647) : CI l D (tysM w) (wM w) y_MunmapRange b_MunmapRange 6 .int 2 [.ref (w.1 0), .int (zI p), .int (zI a), .int (zI b)] μ (fun z u => z = sR_ur μ p a b ∧ u = sM_ur μ p a b) := by
  refine conM_i [(0, .ref (w.1 0)), (1, .int (zI p)), (2, .int (zI a)), (3, .int (zI b))] rfl (Nat.le_of_ble_eq_true rfl) rfl (fun G hB hH hC hR => ?_)
  refine rb_aload_n hB (j := 0) d_MunmapRange_0 rfl ?_
  refine rb_iload_n hB (j := 1) d_MunmapRange_1 rfl ?_
  refine rb_iload_n hB (j := 2) d_MunmapRange_2 rfl ?_
  refine rc_i2 hC k_M20 (c_MisPage (p := p) (v := a) (by omega) (by omega)) d_MunmapRange_3 (by decide) (Nat.le_of_ble_eq_true rfl) (fun z3 u3 h3 => ?_)
  obtain ⟨h3, he3⟩ := h3
  rw [he3]
  have b3 : (z3 = 1 ∧ (0 ≤ p ∧ p ≤ 1 ∧ 0 ≤ a ∧ a ≤ 15)) ∨ (z3 = 0 ∧ ¬ (0 ≤ p ∧ p ≤ 1 ∧ 0 ≤ a ∧ a ≤ 15)) := by
    rw [h3]
    by_cases zz : (0 ≤ p ∧ p ≤ 1 ∧ 0 ≤ a ∧ a ≤ 15)
    · exact Or.inl ⟨if_pos zz, zz⟩
    · exact Or.inr ⟨if_neg zz, zz⟩
  refine rb_if_eq hB (tgt := 18) d_MunmapRange_6 (by omega) (by decide) (fun c6 => ?_) (fun c6 => ?_)
  · refine rb_iconst hB d_MunmapRange_18 ?_
    exact hR _ _ _ _ d_MunmapRange_19 rfl ⟨by unfold sR_ur; rw [if_neg (by omega)], by unfold sM_ur; rw [if_neg (by omega)]⟩
  · refine rb_aload_n hB (j := 0) d_MunmapRange_9 rfl ?_
    refine rb_iload_n hB (j := 1) d_MunmapRange_10 rfl ?_
    refine rb_iload_n hB (j := 3) d_MunmapRange_11 rfl ?_
    refine rc_i2 hC k_M20 (c_MisPage (p := p) (v := b) (by omega) (by omega)) d_MunmapRange_12 (by decide) (Nat.le_of_ble_eq_true rfl) (fun z12 u12 h12 => ?_)
    obtain ⟨h12, he12⟩ := h12
    rw [he12]
    have b12 : (z12 = 1 ∧ (0 ≤ p ∧ p ≤ 1 ∧ 0 ≤ b ∧ b ≤ 15)) ∨ (z12 = 0 ∧ ¬ (0 ≤ p ∧ p ≤ 1 ∧ 0 ≤ b ∧ b ≤ 15)) := by
      rw [h12]
      by_cases zz : (0 ≤ p ∧ p ≤ 1 ∧ 0 ≤ b ∧ b ≤ 15)
      · exact Or.inl ⟨if_pos zz, zz⟩
      · exact Or.inr ⟨if_neg zz, zz⟩
    refine rb_if_ne hB (tgt := 20) d_MunmapRange_15 (by omega) (by decide) (fun c15 => ?_) (fun c15 => ?_)
    · refine rb_iconst hB d_MunmapRange_20 ?_
      refine rn_istore hB (fun y => [(0, .ref (w.1 0)), (1, .int (zI p)), (2, .int (zI a)), (3, .int (zI b)), (4, .int (zI y))]) d_MunmapRange_21 (by decide) (fun _ => rfl) (fun y4_21 ey4_21 => ?_)
      refine rb_iload_n hB (j := 2) d_MunmapRange_23 rfl ?_
      refine rn_istore hB (fun y => [(0, .ref (w.1 0)), (1, .int (zI p)), (2, .int (zI a)), (3, .int (zI b)), (4, .int (zI y4_21)), (5, .int (zI y))]) d_MunmapRange_24 (by decide) (fun _ => rfl) (fun y5_24 ey5_24 => ?_)
      refine w_MunmapRange_26 (by omega) (by omega) hB hH hC hR 20 y4_21 y5_24 μ (by omega) (by omega) hM ?_ ?_
      · rw [ey4_21, ey5_24]; unfold sR_ur; rw [if_pos (by omega)]; omega
      · rw [ey5_24]; unfold sM_ur; rw [if_pos (by omega)]
    · refine rb_iconst hB d_MunmapRange_18 ?_
      exact hR _ _ _ _ d_MunmapRange_19 rfl ⟨by unfold sR_ur; rw [if_neg (by omega)], by unfold sM_ur; rw [if_neg (by omega)]⟩
set_option maxHeartbeats 4000000 in
theorem w_Mdigest_24 {l : Launch} {D : va_G} {w : zW} {G : zG zM} {μ : zM} {p y3 S : Int} (hM : MI μ) (hp : 0 ≤ p ∧ p ≤ 1) (h3 : 0 ≤ y3 ∧ y3 < 16) (hB : RB b_Mdigest 6 G) (hH : RH b_Mdigest G (w.1 0) (adM w) fxM nxM intsM boolsM) (hC : RC l D (tysM w) (wM w) R_M (rmK 2) b_Mdigest G (w.1 0)) (hR : ∀ (u : zM) (pc : Nat) (lv : zL) (z : Int), decode b_Mdigest pc = .ok (.ireturn, 1) → narrow .int (.int (zI z)) = .int (zI z) → (z = sR_digest μ p ∧ u = μ) → G u pc lv [.int (zI z)]) (hout : ∀ y2 z3 : Int, y2 = S + smz 4 (fun k => rd μ (16 * p + y3) k * (4 * y3 + k + 1)) → z3 = y3 + 1 → G μ 15 [(0, .ref (w.1 0)), (1, .int (zI p)), (2, .int (zI y2)), (3, .int (zI z3))] []) :
    ∀ (n : Nat) (j : Nat) (y2 : Int) (y4 : Int), (j ≤ 4) → (4 < j + n) → (y4 = (j : Int)) → (y2 = S + smz j (fun k => rd μ (16 * p + y3) k * (4 * y3 + k + 1))) → G μ 24 [(0, .ref (w.1 0)), (1, .int (zI p)), (2, .int (zI y2)), (3, .int (zI y3)), (4, .int (zI y4))] [] := by
  intro n
  induction n with
  | zero =>
    intro j y2 y4 h1 h2 e4 e2
    exfalso
    omega
  | succ n ih =>
    intro j y2 y4 h1 h2 e4 e2
    refine rb_iload hB (j := 4) d_Mdigest_24 rfl ?_
    refine rb_iconst hB d_Mdigest_26 ?_
    refine rb_icmp_ge hB (tgt := 60) d_Mdigest_27 (by omega) (by omega) (by decide) (fun c27 => ?_) (fun c27 => ?_)
    · refine rn_iinc hB 3 (fun y => [(0, .ref (w.1 0)), (1, .int (zI p)), (2, .int (zI y2)), (3, .int (zI y)), (4, .int (zI y4))]) d_Mdigest_60 rfl (by decide) (fun _ => rfl) (fun y3_60 ey3_60 => ?_)
      refine rb_goto hB (tgt := 15) d_Mdigest_63 (by decide) ?_
      refine rb_sub hB (ks := [0, 1, 2, 3]) (lv1 := [(0, .ref (w.1 0)), (1, .int (zI p)), (2, .int (zI y2)), (3, .int (zI y3_60))]) rfl ?_
      have ej : j = 4 := by omega
      subst ej
      exact hout y2 y3_60 e2 (by omega)
    · refine rb_aload_n hB (j := 0) d_Mdigest_30 rfl ?_
      refine rb_iload_n hB (j := 1) d_Mdigest_31 rfl ?_
      refine rb_iload_n hB (j := 3) d_Mdigest_32 rfl ?_
      refine rb_iload hB (j := 4) d_Mdigest_33 rfl ?_
      refine rc_i3 hC k_M39 (c_Mread (p := p) (v := y3) (k := y4) hM (by omega) (by omega) (by omega)) d_Mdigest_35 (by decide) (Nat.le_of_ble_eq_true rfl) (fun z35 u35 h35 => ?_)
      obtain ⟨h35, he35⟩ := h35
      rw [he35]
      refine rn_istore hB (fun y => [(0, .ref (w.1 0)), (1, .int (zI p)), (2, .int (zI y2)), (3, .int (zI y3)), (4, .int (zI y4)), (5, .int (zI y))]) d_Mdigest_38 (by decide) (fun _ => rfl) (fun y5_38 ey5_38 => ?_)
      refine rb_iload_n hB (j := 2) d_Mdigest_40 rfl ?_
      refine rb_iload hB (j := 5) d_Mdigest_41 rfl ?_
      refine rb_iconst hB d_Mdigest_43 ?_
      refine rb_iload_n hB (j := 3) d_Mdigest_44 rfl ?_
      refine rb_imul hB d_Mdigest_45 ?_
      refine rb_iload hB (j := 4) d_Mdigest_46 rfl ?_
      refine rb_iadd hB d_Mdigest_48 ?_
      refine rb_iconst hB d_Mdigest_49 ?_
      refine rb_iadd hB d_Mdigest_50 ?_
      refine rb_imul hB d_Mdigest_51 ?_
      refine rb_iadd hB d_Mdigest_52 ?_
      refine rn_istore_n hB (fun y => [(0, .ref (w.1 0)), (1, .int (zI p)), (2, .int (zI y)), (3, .int (zI y3)), (4, .int (zI y4)), (5, .int (zI y5_38))]) d_Mdigest_53 (by decide) (fun _ => rfl) (fun y2_53 ey2_53 => ?_)
      refine rn_iinc hB 4 (fun y => [(0, .ref (w.1 0)), (1, .int (zI p)), (2, .int (zI y2_53)), (3, .int (zI y3)), (4, .int (zI y)), (5, .int (zI y5_38))]) d_Mdigest_54 rfl (by decide) (fun _ => rfl) (fun y4_54 ey4_54 => ?_)
      refine rb_goto hB (tgt := 24) d_Mdigest_57 (by decide) ?_
      refine rb_sub hB (ks := [0, 1, 2, 3, 4]) (lv1 := [(0, .ref (w.1 0)), (1, .int (zI p)), (2, .int (zI y2_53)), (3, .int (zI y3)), (4, .int (zI y4_54))]) rfl ?_
      exact ih (j + 1) y2_53 y4_54 (by omega) (by omega) (by omega) (by rw [smz_s, ← e4, ey2_53, ey5_38, h35, e2]; unfold sR_read; rw [if_pos (by omega)]; exact Int.add_assoc _ _ _)
set_option maxHeartbeats 4000000 in
theorem w_Mdigest_15 {l : Launch} {D : va_G} {w : zW} {G : zG zM} {μ : zM} {p : Int} (hM : MI μ) (hp : 0 ≤ p ∧ p ≤ 1) (hB : RB b_Mdigest 6 G) (hH : RH b_Mdigest G (w.1 0) (adM w) fxM nxM intsM boolsM) (hC : RC l D (tysM w) (wM w) R_M (rmK 2) b_Mdigest G (w.1 0)) (hR : ∀ (u : zM) (pc : Nat) (lv : zL) (z : Int), decode b_Mdigest pc = .ok (.ireturn, 1) → narrow .int (.int (zI z)) = .int (zI z) → (z = sR_digest μ p ∧ u = μ) → G u pc lv [.int (zI z)]) :
    ∀ (n : Nat) (i : Nat) (y2 : Int) (y3 : Int), (i ≤ 16) → (16 < i + n) → (y3 = (i : Int)) → (y2 = smz i (fun v => smz 4 (fun k => rd μ (16 * p + v) k * (4 * v + k + 1)))) → G μ 15 [(0, .ref (w.1 0)), (1, .int (zI p)), (2, .int (zI y2)), (3, .int (zI y3))] [] := by
  intro n
  induction n with
  | zero =>
    intro i y2 y3 h1 h2 e3 e2
    exfalso
    omega
  | succ n ih =>
    intro i y2 y3 h1 h2 e3 e2
    refine rb_iload_n hB (j := 3) d_Mdigest_15 rfl ?_
    refine rb_bipush hB d_Mdigest_16 (by decide) ?_
    refine rb_icmp_ge hB (tgt := 66) d_Mdigest_18 (by omega) (by omega) (by decide) (fun c18 => ?_) (fun c18 => ?_)
    · refine rb_iload_n hB (j := 2) d_Mdigest_66 rfl ?_
      have ei : i = 16 := by omega
      subst ei
      exact hR _ _ _ _ d_Mdigest_67 rfl ⟨by unfold sR_digest; rw [if_pos hp]; exact e2, rfl⟩
    · refine rb_iconst hB d_Mdigest_21 ?_
      refine rn_istore hB (fun y => [(0, .ref (w.1 0)), (1, .int (zI p)), (2, .int (zI y2)), (3, .int (zI y3)), (4, .int (zI y))]) d_Mdigest_22 (by decide) (fun _ => rfl) (fun y4_22 ey4_22 => ?_)
      refine w_Mdigest_24 hM hp (by omega) hB hH hC hR (S := y2) (fun a b ha hb => ?_) 5 0 y2 y4_22 (by omega) (by omega) (by omega) (by show y2 = y2 + 0; omega)
      exact ih (i + 1) a b (by omega) (by omega) (by omega) (by rw [smz_s, ← e2, ← e3]; exact ha)
set_option maxHeartbeats 4000000 in
theorem c_Mdigest {l : Launch} {D : va_G} {w : zW} {μ : zM} {p : Int} (hM : MI μ) (hp : -2147483648 ≤ p ∧ p ≤ 2147483647) : CI l D (tysM w) (wM w) y_Mdigest b_Mdigest 6 .int 2 [.ref (w.1 0), .int (zI p)] μ (fun z u => z = sR_digest μ p ∧ u = μ) := by
  refine conM_i [(0, .ref (w.1 0)), (1, .int (zI p))] rfl (Nat.le_of_ble_eq_true rfl) rfl (fun G hB hH hC hR => ?_)
  refine rb_iload_n hB (j := 1) d_Mdigest_0 rfl ?_
  refine rb_if_lt hB (tgt := 9) d_Mdigest_1 (by omega) (by decide) (fun c1 => ?_) (fun c1 => ?_)
  · refine rb_iconst hB d_Mdigest_9 ?_
    exact hR _ _ _ _ d_Mdigest_10 rfl ⟨by unfold sR_digest; rw [if_neg (by omega)], rfl⟩
  · refine rb_iload_n hB (j := 1) d_Mdigest_4 rfl ?_
    refine rb_iconst hB d_Mdigest_5 ?_
    refine rb_icmp_le hB (tgt := 11) d_Mdigest_6 (by omega) (by omega) (by decide) (fun c6 => ?_) (fun c6 => ?_)
    · refine rb_iconst hB d_Mdigest_11 ?_
      refine rn_istore_n hB (fun y => [(0, .ref (w.1 0)), (1, .int (zI p)), (2, .int (zI y))]) d_Mdigest_12 (by decide) (fun _ => rfl) (fun y2_12 ey2_12 => ?_)
      refine rb_iconst hB d_Mdigest_13 ?_
      refine rn_istore_n hB (fun y => [(0, .ref (w.1 0)), (1, .int (zI p)), (2, .int (zI y2_12)), (3, .int (zI y))]) d_Mdigest_14 (by decide) (fun _ => rfl) (fun y3_14 ey3_14 => ?_)
      exact w_Mdigest_15 hM (by omega) hB hH hC hR 17 0 y2_12 y3_14 (by omega) (by omega) (by omega) (by rw [ey2_12]; rfl)
    · refine rb_iconst hB d_Mdigest_9 ?_
      exact hR _ _ _ _ d_Mdigest_10 rfl ⟨by unfold sR_digest; rw [if_neg (by omega)], rfl⟩
end
section
theorem m_arrI : Cond.arrayClass .int ∈ wT := wT_in 59 rfl rfl
theorem m_arrZ : Cond.arrayClass .boolean ∈ wT := wT_in 60 rfl rfl
theorem m_oiX : Cond.methodLink R_X 1 objectInit ∈ wT := wT_in 28 rfl rfl
theorem m_oiM : Cond.methodLink R_M 1 objectInit ∈ wT := wT_in 192 rfl rfl
theorem m_oiI : Cond.instanceMethod objectInit ∈ wT := wT_in 29 rfl rfl
theorem m_oiC : Cond.code objectInit ⟨#[0xb1]⟩ 1 none ∈ wT := wT_in 30 rfl rfl
/-- the class' state behind its constructor, in its loops -/
def x0 (a b c : Int) : zM := fun j i => if j = 2 ∧ 0 ≤ i ∧ i < a then -1 else if j = 4 ∧ 0 ≤ i ∧ i < b then -1 else if j = 5 ∧ 0 ≤ i ∧ i < c then -1 else 0
def z0 : zM := fun _ _ => 0
theorem x0_0 : x0 0 0 0 = z0 := by
  funext j i
  unfold x0 z0
  rw [if_neg (by omega), if_neg (by omega), if_neg (by omega)]
theorem x0_a (a : Int) (h : 0 ≤ a) : up (x0 a 0 0) 2 a (-1) = x0 (a + 1) 0 0 := by
  funext j i
  simp only [x0, up_e]
  (repeat' split) <;> first | rfl | omega
theorem x0_b (a b : Int) (h : 0 ≤ b) : up (x0 a b 0) 4 b (-1) = x0 a (b + 1) 0 := by
  funext j i
  simp only [x0, up_e]
  (repeat' split) <;> first | rfl | omega
theorem x0_c (a b c : Int) (h : 0 ≤ c) : up (x0 a b c) 5 c (-1) = x0 a b (c + 1) := by
  funext j i
  simp only [x0, up_e]
  (repeat' split) <;> first | rfl | omega
theorem x0_e (j : Nat) (i : Int) : x0 32 8 4 j i = if j = 2 ∧ 0 ≤ i ∧ i < 32 then -1 else if j = 4 ∧ 0 ≤ i ∧ i < 8 then -1 else if j = 5 ∧ 0 ≤ i ∧ i < 4 then -1 else 0 := rfl
/-- at the start the two agree -/
theorem Rel_0 : Rel (x0 32 8 4) z0 := by
  have a1 : ∀ i : Int, x0 32 8 4 1 i = 0 := fun i => by rw [x0_e, if_neg (by omega), if_neg (by omega), if_neg (by omega)]
  have a2 : ∀ i : Int, 0 ≤ i → i < 32 → x0 32 8 4 2 i = -1 := fun i i0 i1 => by rw [x0_e, if_pos ⟨rfl, i0, i1⟩]
  have a3 : ∀ i : Int, x0 32 8 4 3 i = 0 := fun i => by rw [x0_e, if_neg (by omega), if_neg (by omega), if_neg (by omega)]
  have a4 : ∀ i : Int, 0 ≤ i → i < 8 → x0 32 8 4 4 i = -1 := fun i i0 i1 => by rw [x0_e, if_neg (by omega), if_pos ⟨rfl, i0, i1⟩]
  have a5 : ∀ i : Int, 0 ≤ i → i < 4 → x0 32 8 4 5 i = -1 := fun i i0 i1 => by rw [x0_e, if_neg (by omega), if_neg (by omega), if_pos ⟨rfl, i0, i1⟩]
  have af : ∀ q : Int, 0 ≤ q → q < 32 → fr (x0 32 8 4) q = -1 := fun q q0 q1 => by rw [fr_sm (by rw [a4 _ (by omega) (by omega)]; decide), a2 q q0 q1]
  refine ⟨⟨fun i i0 i1 => by rw [a1]; omega, fun i i0 i1 => by rw [a2 i i0 i1]; omega, fun i i0 i1 => by rw [a3]; omega, fun i i0 i1 => by rw [a4 i i0 i1]; omega, fun i i0 i1 => by rw [a5 i i0 i1]; omega⟩, ⟨?_, ?_, ?_, ?_⟩, ?_, ?_, ?_, ?_⟩
  · intro q q0 q1
    rw [af q q0 q1]; omega
  · intro q r q0 q1 r0 r1 hp
    rw [af q q0 q1] at hp; omega
  · intro q q0 q1 hp
    rw [af q q0 q1] at hp; omega
  · intro f f0 f1 hu
    exact absurd (a1 f) hu
  · intro q q0 q1 hl
    rw [a4 _ (by omega) (by omega)] at hl; omega
  · intro q q0 q1
    rw [af q q0 q1, if_neg (by omega)]; rfl
  · intro q k q0 q1 k0 k1 hp
    rw [af q q0 q1] at hp; omega
  · intro v v0 v1
    rw [af v v0 (by omega), if_neg (by omega)]; rfl
set_option maxHeartbeats 4000000 in
theorem w_Xinit_109 {w : zW} {G : zG zM}  (hB : RB b_Xinit 2 G) (hH : RH b_Xinit G (w.1 0) (adX w) fxX nxX intsX boolsX) (hR : ∀ (u : zM) (pc : Nat) (lv : zL), decode b_Xinit pc = .ok (.return_, 1) → (u = x0 32 8 4) → G u pc lv []) :
    ∀ (n : Nat) (y1 : Int) (cur : zM), (0 ≤ y1) → (y1 ≤ 4) → (4 < y1 + n) → (cur = x0 32 8 y1) → G cur 109 [(0, .ref (w.1 0)), (1, .int (zI y1))] [] := by
  intro n
  induction n with
  | zero =>
    intro y1 cur h1 h2 h3 hcur
    exfalso
    omega
  | succ n ih =>
    intro y1 cur h1 h2 h3 hcur
    refine rb_iload_n hB (j := 1) d_Xinit_109 rfl ?_
    refine rb_iconst hB d_Xinit_110 ?_
    refine rb_icmp_ge hB (tgt := 127) d_Xinit_111 (by omega) (by omega) (by decide) (fun c111 => ?_) (fun c111 => ?_)
    · have e1 : y1 = 4 := by omega
      exact hR _ _ _ d_Xinit_127 (by rw [hcur, e1])
    · refine rb_aload_n hB (j := 0) d_Xinit_114 rfl ?_
      refine rh_get hH 5 (by decide) d_Xinit_115 rfl rfl ?_
      refine rb_iload_n hB (j := 1) d_Xinit_118 rfl ?_
      refine rb_iconst hB d_Xinit_119 ?_
      refine rh_ist hH 5 4 (by decide) d_Xinit_120 rfl rfl (by omega) ?_
      refine rn_iinc hB 1 (fun y => [(0, .ref (w.1 0)), (1, .int (zI y))]) d_Xinit_121 rfl (by decide) (fun _ => rfl) (fun y1_121 ey1_121 => ?_)
      refine rb_goto hB (tgt := 109) d_Xinit_124 (by decide) ?_
      rw [hcur, x0_c _ _ _ h1]
      exact ih y1_121 _ (by omega) (by omega) (by omega) (by rw [ey1_121])
set_option maxHeartbeats 4000000 in
theorem w_Xinit_88 {w : zW} {G : zG zM}  (hB : RB b_Xinit 2 G) (hH : RH b_Xinit G (w.1 0) (adX w) fxX nxX intsX boolsX) (hR : ∀ (u : zM) (pc : Nat) (lv : zL), decode b_Xinit pc = .ok (.return_, 1) → (u = x0 32 8 4) → G u pc lv []) :
    ∀ (n : Nat) (y1 : Int) (cur : zM), (0 ≤ y1) → (y1 ≤ 8) → (8 < y1 + n) → (cur = x0 32 y1 0) → G cur 88 [(0, .ref (w.1 0)), (1, .int (zI y1))] [] := by
  intro n
  induction n with
  | zero =>
    intro y1 cur h1 h2 h3 hcur
    exfalso
    omega
  | succ n ih =>
    intro y1 cur h1 h2 h3 hcur
    refine rb_iload_n hB (j := 1) d_Xinit_88 rfl ?_
    refine rb_bipush hB d_Xinit_89 (by decide) ?_
    refine rb_icmp_ge hB (tgt := 107) d_Xinit_91 (by omega) (by omega) (by decide) (fun c91 => ?_) (fun c91 => ?_)
    · refine rb_iconst hB d_Xinit_107 ?_
      refine rn_istore_n hB (fun y => [(0, .ref (w.1 0)), (1, .int (zI y))]) d_Xinit_108 (by decide) (fun _ => rfl) (fun y1_108 ey1_108 => ?_)
      exact w_Xinit_109 hB hH hR 5 y1_108 _ (by omega) (by omega) (by omega) (by rw [hcur, ey1_108, show y1 = 8 by omega])
    · refine rb_aload_n hB (j := 0) d_Xinit_94 rfl ?_
      refine rh_get hH 4 (by decide) d_Xinit_95 rfl rfl ?_
      refine rb_iload_n hB (j := 1) d_Xinit_98 rfl ?_
      refine rb_iconst hB d_Xinit_99 ?_
      refine rh_ist hH 4 8 (by decide) d_Xinit_100 rfl rfl (by omega) ?_
      refine rn_iinc hB 1 (fun y => [(0, .ref (w.1 0)), (1, .int (zI y))]) d_Xinit_101 rfl (by decide) (fun _ => rfl) (fun y1_101 ey1_101 => ?_)
      refine rb_goto hB (tgt := 88) d_Xinit_104 (by decide) ?_
      rw [hcur, x0_b _ _ h1]
      exact ih y1_101 _ (by omega) (by omega) (by omega) (by rw [ey1_101])
set_option maxHeartbeats 4000000 in
theorem w_Xinit_67 {w : zW} {G : zG zM}  (hB : RB b_Xinit 2 G) (hH : RH b_Xinit G (w.1 0) (adX w) fxX nxX intsX boolsX) (hR : ∀ (u : zM) (pc : Nat) (lv : zL), decode b_Xinit pc = .ok (.return_, 1) → (u = x0 32 8 4) → G u pc lv []) :
    ∀ (n : Nat) (y1 : Int) (cur : zM), (0 ≤ y1) → (y1 ≤ 32) → (32 < y1 + n) → (cur = x0 y1 0 0) → G cur 67 [(0, .ref (w.1 0)), (1, .int (zI y1))] [] := by
  intro n
  induction n with
  | zero =>
    intro y1 cur h1 h2 h3 hcur
    exfalso
    omega
  | succ n ih =>
    intro y1 cur h1 h2 h3 hcur
    refine rb_iload_n hB (j := 1) d_Xinit_67 rfl ?_
    refine rb_bipush hB d_Xinit_68 (by decide) ?_
    refine rb_icmp_ge hB (tgt := 86) d_Xinit_70 (by omega) (by omega) (by decide) (fun c70 => ?_) (fun c70 => ?_)
    · refine rb_iconst hB d_Xinit_86 ?_
      refine rn_istore_n hB (fun y => [(0, .ref (w.1 0)), (1, .int (zI y))]) d_Xinit_87 (by decide) (fun _ => rfl) (fun y1_87 ey1_87 => ?_)
      exact w_Xinit_88 hB hH hR 9 y1_87 _ (by omega) (by omega) (by omega) (by rw [hcur, ey1_87, show y1 = 32 by omega])
    · refine rb_aload_n hB (j := 0) d_Xinit_73 rfl ?_
      refine rh_get hH 2 (by decide) d_Xinit_74 rfl rfl ?_
      refine rb_iload_n hB (j := 1) d_Xinit_77 rfl ?_
      refine rb_iconst hB d_Xinit_78 ?_
      refine rh_ist hH 2 32 (by decide) d_Xinit_79 rfl rfl (by omega) ?_
      refine rn_iinc hB 1 (fun y => [(0, .ref (w.1 0)), (1, .int (zI y))]) d_Xinit_80 rfl (by decide) (fun _ => rfl) (fun y1_80 ey1_80 => ?_)
      refine rb_goto hB (tgt := 67) d_Xinit_83 (by decide) ?_
      rw [hcur, x0_a _ h1]
      exact ih y1_80 _ (by omega) (by omega) (by omega) (by rw [ey1_80])
theorem w_Xinit_65 {w : zW} {G : zG zM} (hB : RB b_Xinit 2 G) (hH : RH b_Xinit G (w.1 0) (adX w) fxX nxX intsX boolsX) (hR : ∀ (u : zM) (pc : Nat) (lv : zL), decode b_Xinit pc = .ok (.return_, 1) → (u = x0 32 8 4) → G u pc lv []) : G z0 65 [(0, .ref (w.1 0))] [] := by
  refine rb_iconst hB d_Xinit_65 ?_
  refine rn_istore_n hB (fun y => [(0, .ref (w.1 0)), (1, .int (zI y))]) d_Xinit_66 (by decide) (fun _ => rfl) (fun y1_66 ey1_66 => ?_)
  exact w_Xinit_67 hB hH hR 33 y1_66 _ (by omega) (by omega) (by omega) (by rw [ey1_66, x0_0])
def mkX (h0 q1 q2 q3 q4 q5 q6 q7 q8 : Nat) (k1 k2 k3 k4 k5 k6 k7 k8 : ClassId) : zW := (fun k => match k with
  | 0 => h0
  | 1 => q1
  | 2 => q2
  | 3 => q3
  | 4 => q4
  | 5 => q5
  | 6 => q6
  | 7 => q7
  | _ => q8, fun k => match k with
  | 1 => k1
  | 2 => k2
  | 3 => k3
  | 4 => k4
  | 5 => k5
  | 6 => k6
  | 7 => k7
  | _ => k8)
theorem wX_0 (h0 q1 q2 q3 q4 q5 q6 q7 q8 : Nat) (k1 k2 k3 k4 k5 k6 k7 k8 : ClassId) : wX (mkX h0 q1 q2 q3 q4 q5 q6 q7 q8 k1 k2 k3 k4 k5 k6 k7 k8) z0 = [(h0, .inr (0, [.ref q1, .ref q2, .ref q3, .ref q4, .ref q5, .ref q6, .ref q7, .int 0, .ref q8])), (q1, .inl (k1, 64, .inl (fun _ : Nat => 0))), (q2, .inl (k2, 16, .inl (fun _ : Nat => 0))), (q3, .inl (k3, 32, .inl (fun _ : Nat => 0))), (q4, .inl (k4, 32, .inl (fun _ : Nat => 0))), (q5, .inl (k5, 8, .inl (fun _ : Nat => 0))), (q6, .inl (k6, 4, .inl (fun _ : Nat => 0))), (q7, .inl (k7, 4, .inl (fun _ : Nat => 0))), (q8, .inl (k8, 4, .inl (fun _ : Nat => 0)))] := by
  unfold wX z0
  rw [zI_0]
  rfl
set_option maxHeartbeats 4000000 in
set_option maxRecDepth 100000 in
theorem c_Xinit (l : Launch) (D : va_G) (h0 sz : Nat) : Met l y_Xinit (Cond.code y_Xinit b_Xinit 2 none :: wT) ({ frames := 1, cells := 8, slots := 164, locals := 12 }) (va_Pc [.ref h0] (fun U => U.heap.size = sz ∧ va_P D classes [(h0, .inr (0, [.null, .null, .null, .null, .null, .null, .null, .int 0, .null]))] U.heap ∧ va_K D classes [] U ∧ va_D (fun _ => True) [(h0, .inr (0, [.null, .null, .null, .null, .null, .null, .null, .int 0, .null]))])) (va_Qv (fun u : zW × zM => u.1.1 0 = h0 ∧ u.2 = x0 32 8 4) (fun u t => va_P D classes (wX u.1 u.2) t.heap ∧ va_K D classes (tysX u.1) t ∧ va_D (va_A [(h0, .inr (0, [.null, .null, .null, .null, .null, .null, .null, .int 0, .null]))] sz) (wX u.1 u.2)) (va_A [(h0, .inr (0, [.null, .null, .null, .null, .null, .null, .null, .int 0, .null]))] sz)) 8 164 (va_A [(h0, .inr (0, [.null, .null, .null, .null, .null, .null, .null, .int 0, .null]))] sz) := by
  refine Met.ofW (cc := b_Xinit) (maxL := 2) (ret := none) (by decide) rfl ?_
  intro p e s m args below meth c s₁ B hml hv
  obtain ⟨rfl, hsz, hP, hK, hD0⟩ := hv
  have hx := B.exec
  have hb := B.bytes
  have hr := B.returns
  have hts1 := atoms_spec (ws := Cond.code y_Xinit b_Xinit 2 none :: wT) B.pre
  have hts : ∀ w ∈ wT, w.before #[Value.ref h0] s = true := fun w h => hts1 w (List.mem_cons_of_mem _ h)
  have hown : s.vm.findClass R_X = some m.cls := findClass_of_methodNamed B.named
  have hlocks := B.notSynchronized
  have hin : meth.name = "<init>" := (name_of_methodNamed B.named B.method).1
  subst hsz
  have hD := hD0.self (sz := s.heap.size)
  generalize hAe : va_A [(h0, .inr (0, [.null, .null, .null, .null, .null, .null, .null, .int 0, .null]))] s.heap.size = A at hD ⊢
  have hA : ∀ q : Nat, s.heap.size ≤ q → A q := fun q h => by rw [← hAe]; exact Or.inr h
  have hS : va_S A s.heap s.heap [] := va_S.rf
  have hP : va_P D classes [(h0, .inr (0, [.null, .null, .null, .null, .null, .null, .null, .int 0, .null]))] s.heap := hP
  have hl := lv_entry ([.ref h0]) (n := 2) (Nat.le_of_ble_eq_true rfl)
  rw [lg_entry_eq]
  generalize (lg_sl ([.ref h0]) ++ List.replicate (2 - (lg_sl ([.ref h0])).length) Slot.unset).toArray = ls at hl ⊢
  have hl : lv_has ls 2 [(0, .ref h0)] := hl
  refine lv_aload_n hx hb d_Xinit_0 rfl (lv_at hl 0 rfl) ?_
  refine W.objInit hx hb hown (hts _ m_oiX) (hts _ m_oiI) (hts _ m_oiC) rfl (by rw [hml]; exact hl.1) rfl d_Xinit_1 (Nat.le_of_ble_eq_true rfl) (Nat.le_of_ble_eq_true rfl) ?_
  refine W.eq (g2 := F0 m 4 ls []) rfl ?_
  refine lv_aload_n hx hb d_Xinit_4 rfl (lv_at hl 0 rfl) ?_
  refine lv_bipush (v := 64) hx hb d_Xinit_5 (by decide) ?_
  refine va_newa (atype := .int) (ty := .int) (N' := 64) (a0 := (64, .inl (fun _ : Nat => 0))) hx hb (hts _ m_arrI) rfl hK hP hD hS hA (fun _ => rfl) (by decide) (by decide) (by decide) (Nat.le_of_ble_eq_true rfl) (Nat.le_of_ble_eq_true rfl) d_Xinit_7 (fun q1 k1 H hK hP hD hS => ?_)
  have hP : va_P D classes [(h0, .inr (0, [.null, .null, .null, .null, .null, .null, .null, .int 0, .null])), (q1, .inl (k1, 64, .inl (fun _ : Nat => 0)))] H := hP
  have hD : va_D A [(h0, .inr (0, [.null, .null, .null, .null, .null, .null, .null, .int 0, .null])), (q1, .inl (k1, 64, .inl (fun _ : Nat => 0)))] := hD
  have hK : va_K D classes [(k1, .int)] s := hK
  refine va_putF (D := D) (ci := 0) (v := .ref q1) (ty := .array .int) (C := R_X) (T := F_X) (N := 9) hx hb hts i_X t_X t_X_ok n_X hown hK hP hD hS 0 rfl rfl 0 (by decide) (hts _ m_fXwords) (fun _ h9 => h9) rfl hin rfl (by decide +kernel) rfl rfl (Nat.le_of_ble_eq_true rfl) d_Xinit_9 (fun H locs hP hD hS => ?_)
  have hP : va_P D classes [(h0, .inr (0, [.ref q1, .null, .null, .null, .null, .null, .null, .int 0, .null])), (q1, .inl (k1, 64, .inl (fun _ : Nat => 0)))] H := hP
  have hD : va_D A [(h0, .inr (0, [.ref q1, .null, .null, .null, .null, .null, .null, .int 0, .null])), (q1, .inl (k1, 64, .inl (fun _ : Nat => 0)))] := hD
  refine lv_aload_n hx hb d_Xinit_12 rfl (lv_at hl 0 rfl) ?_
  refine lv_bipush (v := 16) hx hb d_Xinit_13 (by decide) ?_
  refine va_newa (atype := .int) (ty := .int) (N' := 16) (a0 := (16, .inl (fun _ : Nat => 0))) hx hb (hts _ m_arrI) rfl hK hP hD hS hA (fun _ => rfl) (by decide) (by decide) (by decide) (Nat.le_of_ble_eq_true rfl) (Nat.le_of_ble_eq_true rfl) d_Xinit_15 (fun q2 k2 H hK hP hD hS => ?_)
  have hP : va_P D classes [(h0, .inr (0, [.ref q1, .null, .null, .null, .null, .null, .null, .int 0, .null])), (q1, .inl (k1, 64, .inl (fun _ : Nat => 0))), (q2, .inl (k2, 16, .inl (fun _ : Nat => 0)))] H := hP
  have hD : va_D A [(h0, .inr (0, [.ref q1, .null, .null, .null, .null, .null, .null, .int 0, .null])), (q1, .inl (k1, 64, .inl (fun _ : Nat => 0))), (q2, .inl (k2, 16, .inl (fun _ : Nat => 0)))] := hD
  have hK : va_K D classes [(k1, .int), (k2, .int)] s := hK
  refine va_putF (D := D) (ci := 0) (v := .ref q2) (ty := .array .int) (C := R_X) (T := F_X) (N := 9) hx hb hts i_X t_X t_X_ok n_X hown hK hP hD hS 0 rfl rfl 1 (by decide) (hts _ m_fXusers) (fun _ h9 => h9) rfl hin rfl (by decide +kernel) rfl rfl (Nat.le_of_ble_eq_true rfl) d_Xinit_17 (fun H locs hP hD hS => ?_)
  have hP : va_P D classes [(h0, .inr (0, [.ref q1, .ref q2, .null, .null, .null, .null, .null, .int 0, .null])), (q1, .inl (k1, 64, .inl (fun _ : Nat => 0))), (q2, .inl (k2, 16, .inl (fun _ : Nat => 0)))] H := hP
  have hD : va_D A [(h0, .inr (0, [.ref q1, .ref q2, .null, .null, .null, .null, .null, .int 0, .null])), (q1, .inl (k1, 64, .inl (fun _ : Nat => 0))), (q2, .inl (k2, 16, .inl (fun _ : Nat => 0)))] := hD
  refine lv_aload_n hx hb d_Xinit_20 rfl (lv_at hl 0 rfl) ?_
  refine lv_bipush (v := 32) hx hb d_Xinit_21 (by decide) ?_
  refine va_newa (atype := .int) (ty := .int) (N' := 32) (a0 := (32, .inl (fun _ : Nat => 0))) hx hb (hts _ m_arrI) rfl hK hP hD hS hA (fun _ => rfl) (by decide) (by decide) (by decide) (Nat.le_of_ble_eq_true rfl) (Nat.le_of_ble_eq_true rfl) d_Xinit_23 (fun q3 k3 H hK hP hD hS => ?_)
  have hP : va_P D classes [(h0, .inr (0, [.ref q1, .ref q2, .null, .null, .null, .null, .null, .int 0, .null])), (q1, .inl (k1, 64, .inl (fun _ : Nat => 0))), (q2, .inl (k2, 16, .inl (fun _ : Nat => 0))), (q3, .inl (k3, 32, .inl (fun _ : Nat => 0)))] H := hP
  have hD : va_D A [(h0, .inr (0, [.ref q1, .ref q2, .null, .null, .null, .null, .null, .int 0, .null])), (q1, .inl (k1, 64, .inl (fun _ : Nat => 0))), (q2, .inl (k2, 16, .inl (fun _ : Nat => 0))), (q3, .inl (k3, 32, .inl (fun _ : Nat => 0)))] := hD
  have hK : va_K D classes [(k1, .int), (k2, .int), (k3, .int)] s := hK
  refine va_putF (D := D) (ci := 0) (v := .ref q3) (ty := .array .int) (C := R_X) (T := F_X) (N := 9) hx hb hts i_X t_X t_X_ok n_X hown hK hP hD hS 0 rfl rfl 2 (by decide) (hts _ m_fXbase) (fun _ h9 => h9) rfl hin rfl (by decide +kernel) rfl rfl (Nat.le_of_ble_eq_true rfl) d_Xinit_25 (fun H locs hP hD hS => ?_)
  have hP : va_P D classes [(h0, .inr (0, [.ref q1, .ref q2, .ref q3, .null, .null, .null, .null, .int 0, .null])), (q1, .inl (k1, 64, .inl (fun _ : Nat => 0))), (q2, .inl (k2, 16, .inl (fun _ : Nat => 0))), (q3, .inl (k3, 32, .inl (fun _ : Nat => 0)))] H := hP
  have hD : va_D A [(h0, .inr (0, [.ref q1, .ref q2, .ref q3, .null, .null, .null, .null, .int 0, .null])), (q1, .inl (k1, 64, .inl (fun _ : Nat => 0))), (q2, .inl (k2, 16, .inl (fun _ : Nat => 0))), (q3, .inl (k3, 32, .inl (fun _ : Nat => 0)))] := hD
  refine lv_aload_n hx hb d_Xinit_28 rfl (lv_at hl 0 rfl) ?_
  refine lv_bipush (v := 32) hx hb d_Xinit_29 (by decide) ?_
  refine va_newa (atype := .boolean) (ty := .boolean) (N' := 32) (a0 := (32, .inl (fun _ : Nat => 0))) hx hb (hts _ m_arrZ) rfl hK hP hD hS hA (fun _ => rfl) (by decide) (by decide) (by decide) (Nat.le_of_ble_eq_true rfl) (Nat.le_of_ble_eq_true rfl) d_Xinit_31 (fun q4 k4 H hK hP hD hS => ?_)
  have hP : va_P D classes [(h0, .inr (0, [.ref q1, .ref q2, .ref q3, .null, .null, .null, .null, .int 0, .null])), (q1, .inl (k1, 64, .inl (fun _ : Nat => 0))), (q2, .inl (k2, 16, .inl (fun _ : Nat => 0))), (q3, .inl (k3, 32, .inl (fun _ : Nat => 0))), (q4, .inl (k4, 32, .inl (fun _ : Nat => 0)))] H := hP
  have hD : va_D A [(h0, .inr (0, [.ref q1, .ref q2, .ref q3, .null, .null, .null, .null, .int 0, .null])), (q1, .inl (k1, 64, .inl (fun _ : Nat => 0))), (q2, .inl (k2, 16, .inl (fun _ : Nat => 0))), (q3, .inl (k3, 32, .inl (fun _ : Nat => 0))), (q4, .inl (k4, 32, .inl (fun _ : Nat => 0)))] := hD
  have hK : va_K D classes [(k1, .int), (k2, .int), (k3, .int), (k4, .boolean)] s := hK
  refine va_putF (D := D) (ci := 0) (v := .ref q4) (ty := .array .boolean) (C := R_X) (T := F_X) (N := 9) hx hb hts i_X t_X t_X_ok n_X hown hK hP hD hS 0 rfl rfl 3 (by decide) (hts _ m_fXlocked) (fun _ h9 => h9) rfl hin rfl (by decide +kernel) rfl rfl (Nat.le_of_ble_eq_true rfl) d_Xinit_33 (fun H locs hP hD hS => ?_)
  have hP : va_P D classes [(h0, .inr (0, [.ref q1, .ref q2, .ref q3, .ref q4, .null, .null, .null, .int 0, .null])), (q1, .inl (k1, 64, .inl (fun _ : Nat => 0))), (q2, .inl (k2, 16, .inl (fun _ : Nat => 0))), (q3, .inl (k3, 32, .inl (fun _ : Nat => 0))), (q4, .inl (k4, 32, .inl (fun _ : Nat => 0)))] H := hP
  have hD : va_D A [(h0, .inr (0, [.ref q1, .ref q2, .ref q3, .ref q4, .null, .null, .null, .int 0, .null])), (q1, .inl (k1, 64, .inl (fun _ : Nat => 0))), (q2, .inl (k2, 16, .inl (fun _ : Nat => 0))), (q3, .inl (k3, 32, .inl (fun _ : Nat => 0))), (q4, .inl (k4, 32, .inl (fun _ : Nat => 0)))] := hD
  refine lv_aload_n hx hb d_Xinit_36 rfl (lv_at hl 0 rfl) ?_
  refine lv_bipush (v := 8) hx hb d_Xinit_37 (by decide) ?_
  refine va_newa (atype := .int) (ty := .int) (N' := 8) (a0 := (8, .inl (fun _ : Nat => 0))) hx hb (hts _ m_arrI) rfl hK hP hD hS hA (fun _ => rfl) (by decide) (by decide) (by decide) (Nat.le_of_ble_eq_true rfl) (Nat.le_of_ble_eq_true rfl) d_Xinit_39 (fun q5 k5 H hK hP hD hS => ?_)
  have hP : va_P D classes [(h0, .inr (0, [.ref q1, .ref q2, .ref q3, .ref q4, .null, .null, .null, .int 0, .null])), (q1, .inl (k1, 64, .inl (fun _ : Nat => 0))), (q2, .inl (k2, 16, .inl (fun _ : Nat => 0))), (q3, .inl (k3, 32, .inl (fun _ : Nat => 0))), (q4, .inl (k4, 32, .inl (fun _ : Nat => 0))), (q5, .inl (k5, 8, .inl (fun _ : Nat => 0)))] H := hP
  have hD : va_D A [(h0, .inr (0, [.ref q1, .ref q2, .ref q3, .ref q4, .null, .null, .null, .int 0, .null])), (q1, .inl (k1, 64, .inl (fun _ : Nat => 0))), (q2, .inl (k2, 16, .inl (fun _ : Nat => 0))), (q3, .inl (k3, 32, .inl (fun _ : Nat => 0))), (q4, .inl (k4, 32, .inl (fun _ : Nat => 0))), (q5, .inl (k5, 8, .inl (fun _ : Nat => 0)))] := hD
  have hK : va_K D classes [(k1, .int), (k2, .int), (k3, .int), (k4, .boolean), (k5, .int)] s := hK
  refine va_putF (D := D) (ci := 0) (v := .ref q5) (ty := .array .int) (C := R_X) (T := F_X) (N := 9) hx hb hts i_X t_X t_X_ok n_X hown hK hP hD hS 0 rfl rfl 4 (by decide) (hts _ m_fXlarge) (fun _ h9 => h9) rfl hin rfl (by decide +kernel) rfl rfl (Nat.le_of_ble_eq_true rfl) d_Xinit_41 (fun H locs hP hD hS => ?_)
  have hP : va_P D classes [(h0, .inr (0, [.ref q1, .ref q2, .ref q3, .ref q4, .ref q5, .null, .null, .int 0, .null])), (q1, .inl (k1, 64, .inl (fun _ : Nat => 0))), (q2, .inl (k2, 16, .inl (fun _ : Nat => 0))), (q3, .inl (k3, 32, .inl (fun _ : Nat => 0))), (q4, .inl (k4, 32, .inl (fun _ : Nat => 0))), (q5, .inl (k5, 8, .inl (fun _ : Nat => 0)))] H := hP
  have hD : va_D A [(h0, .inr (0, [.ref q1, .ref q2, .ref q3, .ref q4, .ref q5, .null, .null, .int 0, .null])), (q1, .inl (k1, 64, .inl (fun _ : Nat => 0))), (q2, .inl (k2, 16, .inl (fun _ : Nat => 0))), (q3, .inl (k3, 32, .inl (fun _ : Nat => 0))), (q4, .inl (k4, 32, .inl (fun _ : Nat => 0))), (q5, .inl (k5, 8, .inl (fun _ : Nat => 0)))] := hD
  refine lv_aload_n hx hb d_Xinit_44 rfl (lv_at hl 0 rfl) ?_
  refine lv_iconst (v := 4) hx hb d_Xinit_45 (by decide) ?_
  refine va_newa (atype := .int) (ty := .int) (N' := 4) (a0 := (4, .inl (fun _ : Nat => 0))) hx hb (hts _ m_arrI) rfl hK hP hD hS hA (fun _ => rfl) (by decide) (by decide) (by decide) (Nat.le_of_ble_eq_true rfl) (Nat.le_of_ble_eq_true rfl) d_Xinit_46 (fun q6 k6 H hK hP hD hS => ?_)
  have hP : va_P D classes [(h0, .inr (0, [.ref q1, .ref q2, .ref q3, .ref q4, .ref q5, .null, .null, .int 0, .null])), (q1, .inl (k1, 64, .inl (fun _ : Nat => 0))), (q2, .inl (k2, 16, .inl (fun _ : Nat => 0))), (q3, .inl (k3, 32, .inl (fun _ : Nat => 0))), (q4, .inl (k4, 32, .inl (fun _ : Nat => 0))), (q5, .inl (k5, 8, .inl (fun _ : Nat => 0))), (q6, .inl (k6, 4, .inl (fun _ : Nat => 0)))] H := hP
  have hD : va_D A [(h0, .inr (0, [.ref q1, .ref q2, .ref q3, .ref q4, .ref q5, .null, .null, .int 0, .null])), (q1, .inl (k1, 64, .inl (fun _ : Nat => 0))), (q2, .inl (k2, 16, .inl (fun _ : Nat => 0))), (q3, .inl (k3, 32, .inl (fun _ : Nat => 0))), (q4, .inl (k4, 32, .inl (fun _ : Nat => 0))), (q5, .inl (k5, 8, .inl (fun _ : Nat => 0))), (q6, .inl (k6, 4, .inl (fun _ : Nat => 0)))] := hD
  have hK : va_K D classes [(k1, .int), (k2, .int), (k3, .int), (k4, .boolean), (k5, .int), (k6, .int)] s := hK
  refine va_putF (D := D) (ci := 0) (v := .ref q6) (ty := .array .int) (C := R_X) (T := F_X) (N := 9) hx hb hts i_X t_X t_X_ok n_X hown hK hP hD hS 0 rfl rfl 5 (by decide) (hts _ m_fXholder) (fun _ h9 => h9) rfl hin rfl (by decide +kernel) rfl rfl (Nat.le_of_ble_eq_true rfl) d_Xinit_48 (fun H locs hP hD hS => ?_)
  have hP : va_P D classes [(h0, .inr (0, [.ref q1, .ref q2, .ref q3, .ref q4, .ref q5, .ref q6, .null, .int 0, .null])), (q1, .inl (k1, 64, .inl (fun _ : Nat => 0))), (q2, .inl (k2, 16, .inl (fun _ : Nat => 0))), (q3, .inl (k3, 32, .inl (fun _ : Nat => 0))), (q4, .inl (k4, 32, .inl (fun _ : Nat => 0))), (q5, .inl (k5, 8, .inl (fun _ : Nat => 0))), (q6, .inl (k6, 4, .inl (fun _ : Nat => 0)))] H := hP
  have hD : va_D A [(h0, .inr (0, [.ref q1, .ref q2, .ref q3, .ref q4, .ref q5, .ref q6, .null, .int 0, .null])), (q1, .inl (k1, 64, .inl (fun _ : Nat => 0))), (q2, .inl (k2, 16, .inl (fun _ : Nat => 0))), (q3, .inl (k3, 32, .inl (fun _ : Nat => 0))), (q4, .inl (k4, 32, .inl (fun _ : Nat => 0))), (q5, .inl (k5, 8, .inl (fun _ : Nat => 0))), (q6, .inl (k6, 4, .inl (fun _ : Nat => 0)))] := hD
  refine lv_aload_n hx hb d_Xinit_51 rfl (lv_at hl 0 rfl) ?_
  refine lv_iconst (v := 4) hx hb d_Xinit_52 (by decide) ?_
  refine va_newa (atype := .int) (ty := .int) (N' := 4) (a0 := (4, .inl (fun _ : Nat => 0))) hx hb (hts _ m_arrI) rfl hK hP hD hS hA (fun _ => rfl) (by decide) (by decide) (by decide) (Nat.le_of_ble_eq_true rfl) (Nat.le_of_ble_eq_true rfl) d_Xinit_53 (fun q7 k7 H hK hP hD hS => ?_)
  have hP : va_P D classes [(h0, .inr (0, [.ref q1, .ref q2, .ref q3, .ref q4, .ref q5, .ref q6, .null, .int 0, .null])), (q1, .inl (k1, 64, .inl (fun _ : Nat => 0))), (q2, .inl (k2, 16, .inl (fun _ : Nat => 0))), (q3, .inl (k3, 32, .inl (fun _ : Nat => 0))), (q4, .inl (k4, 32, .inl (fun _ : Nat => 0))), (q5, .inl (k5, 8, .inl (fun _ : Nat => 0))), (q6, .inl (k6, 4, .inl (fun _ : Nat => 0))), (q7, .inl (k7, 4, .inl (fun _ : Nat => 0)))] H := hP
  have hD : va_D A [(h0, .inr (0, [.ref q1, .ref q2, .ref q3, .ref q4, .ref q5, .ref q6, .null, .int 0, .null])), (q1, .inl (k1, 64, .inl (fun _ : Nat => 0))), (q2, .inl (k2, 16, .inl (fun _ : Nat => 0))), (q3, .inl (k3, 32, .inl (fun _ : Nat => 0))), (q4, .inl (k4, 32, .inl (fun _ : Nat => 0))), (q5, .inl (k5, 8, .inl (fun _ : Nat => 0))), (q6, .inl (k6, 4, .inl (fun _ : Nat => 0))), (q7, .inl (k7, 4, .inl (fun _ : Nat => 0)))] := hD
  have hK : va_K D classes [(k1, .int), (k2, .int), (k3, .int), (k4, .boolean), (k5, .int), (k6, .int), (k7, .int)] s := hK
  refine va_putF (D := D) (ci := 0) (v := .ref q7) (ty := .array .int) (C := R_X) (T := F_X) (N := 9) hx hb hts i_X t_X t_X_ok n_X hown hK hP hD hS 0 rfl rfl 6 (by decide) (hts _ m_fXstamp) (fun _ h9 => h9) rfl hin rfl (by decide +kernel) rfl rfl (Nat.le_of_ble_eq_true rfl) d_Xinit_55 (fun H locs hP hD hS => ?_)
  have hP : va_P D classes [(h0, .inr (0, [.ref q1, .ref q2, .ref q3, .ref q4, .ref q5, .ref q6, .ref q7, .int 0, .null])), (q1, .inl (k1, 64, .inl (fun _ : Nat => 0))), (q2, .inl (k2, 16, .inl (fun _ : Nat => 0))), (q3, .inl (k3, 32, .inl (fun _ : Nat => 0))), (q4, .inl (k4, 32, .inl (fun _ : Nat => 0))), (q5, .inl (k5, 8, .inl (fun _ : Nat => 0))), (q6, .inl (k6, 4, .inl (fun _ : Nat => 0))), (q7, .inl (k7, 4, .inl (fun _ : Nat => 0)))] H := hP
  have hD : va_D A [(h0, .inr (0, [.ref q1, .ref q2, .ref q3, .ref q4, .ref q5, .ref q6, .ref q7, .int 0, .null])), (q1, .inl (k1, 64, .inl (fun _ : Nat => 0))), (q2, .inl (k2, 16, .inl (fun _ : Nat => 0))), (q3, .inl (k3, 32, .inl (fun _ : Nat => 0))), (q4, .inl (k4, 32, .inl (fun _ : Nat => 0))), (q5, .inl (k5, 8, .inl (fun _ : Nat => 0))), (q6, .inl (k6, 4, .inl (fun _ : Nat => 0))), (q7, .inl (k7, 4, .inl (fun _ : Nat => 0)))] := hD
  refine lv_aload_n hx hb d_Xinit_58 rfl (lv_at hl 0 rfl) ?_
  refine lv_iconst (v := 4) hx hb d_Xinit_59 (by decide) ?_
  refine va_newa (atype := .int) (ty := .int) (N' := 4) (a0 := (4, .inl (fun _ : Nat => 0))) hx hb (hts _ m_arrI) rfl hK hP hD hS hA (fun _ => rfl) (by decide) (by decide) (by decide) (Nat.le_of_ble_eq_true rfl) (Nat.le_of_ble_eq_true rfl) d_Xinit_60 (fun q8 k8 H hK hP hD hS => ?_)
  have hP : va_P D classes [(h0, .inr (0, [.ref q1, .ref q2, .ref q3, .ref q4, .ref q5, .ref q6, .ref q7, .int 0, .null])), (q1, .inl (k1, 64, .inl (fun _ : Nat => 0))), (q2, .inl (k2, 16, .inl (fun _ : Nat => 0))), (q3, .inl (k3, 32, .inl (fun _ : Nat => 0))), (q4, .inl (k4, 32, .inl (fun _ : Nat => 0))), (q5, .inl (k5, 8, .inl (fun _ : Nat => 0))), (q6, .inl (k6, 4, .inl (fun _ : Nat => 0))), (q7, .inl (k7, 4, .inl (fun _ : Nat => 0))), (q8, .inl (k8, 4, .inl (fun _ : Nat => 0)))] H := hP
  have hD : va_D A [(h0, .inr (0, [.ref q1, .ref q2, .ref q3, .ref q4, .ref q5, .ref q6, .ref q7, .int 0, .null])), (q1, .inl (k1, 64, .inl (fun _ : Nat => 0))), (q2, .inl (k2, 16, .inl (fun _ : Nat => 0))), (q3, .inl (k3, 32, .inl (fun _ : Nat => 0))), (q4, .inl (k4, 32, .inl (fun _ : Nat => 0))), (q5, .inl (k5, 8, .inl (fun _ : Nat => 0))), (q6, .inl (k6, 4, .inl (fun _ : Nat => 0))), (q7, .inl (k7, 4, .inl (fun _ : Nat => 0))), (q8, .inl (k8, 4, .inl (fun _ : Nat => 0)))] := hD
  have hK : va_K D classes [(k1, .int), (k2, .int), (k3, .int), (k4, .boolean), (k5, .int), (k6, .int), (k7, .int), (k8, .int)] s := hK
  refine va_putF (D := D) (ci := 0) (v := .ref q8) (ty := .array .int) (C := R_X) (T := F_X) (N := 9) hx hb hts i_X t_X t_X_ok n_X hown hK hP hD hS 0 rfl rfl 8 (by decide) (hts _ m_fXcarried) (fun _ h9 => h9) rfl hin rfl (by decide +kernel) rfl rfl (Nat.le_of_ble_eq_true rfl) d_Xinit_62 (fun H locs hP hD hS => ?_)
  have hP : va_P D classes [(h0, .inr (0, [.ref q1, .ref q2, .ref q3, .ref q4, .ref q5, .ref q6, .ref q7, .int 0, .ref q8])), (q1, .inl (k1, 64, .inl (fun _ : Nat => 0))), (q2, .inl (k2, 16, .inl (fun _ : Nat => 0))), (q3, .inl (k3, 32, .inl (fun _ : Nat => 0))), (q4, .inl (k4, 32, .inl (fun _ : Nat => 0))), (q5, .inl (k5, 8, .inl (fun _ : Nat => 0))), (q6, .inl (k6, 4, .inl (fun _ : Nat => 0))), (q7, .inl (k7, 4, .inl (fun _ : Nat => 0))), (q8, .inl (k8, 4, .inl (fun _ : Nat => 0)))] H := hP
  have hD : va_D A [(h0, .inr (0, [.ref q1, .ref q2, .ref q3, .ref q4, .ref q5, .ref q6, .ref q7, .int 0, .ref q8])), (q1, .inl (k1, 64, .inl (fun _ : Nat => 0))), (q2, .inl (k2, 16, .inl (fun _ : Nat => 0))), (q3, .inl (k3, 32, .inl (fun _ : Nat => 0))), (q4, .inl (k4, 32, .inl (fun _ : Nat => 0))), (q5, .inl (k5, 8, .inl (fun _ : Nat => 0))), (q6, .inl (k6, 4, .inl (fun _ : Nat => 0))), (q7, .inl (k7, 4, .inl (fun _ : Nat => 0))), (q8, .inl (k8, 4, .inl (fun _ : Nat => 0)))] := hD
  rw [← wX_0] at hP hD
  have hK : va_K D classes (tysX (mkX h0 q1 q2 q3 q4 q5 q6 q7 q8 k1 k2 k3 k4 k5 k6 k7 k8)) s := hK
  generalize hw : mkX h0 q1 q2 q3 q4 q5 q6 q7 q8 k1 k2 k3 k4 k5 k6 k7 k8 = w at hP hD hK
  have hw0 : w.1 0 = h0 := by rw [← hw]; rfl
  refine W.widen (k := 8) (n := 164) (Nat.le_of_ble_eq_true rfl) (Nat.le_of_ble_eq_true rfl) ?_
  rw [← hw0] at hl
  exact w_Xinit_65 (w := w) (G := GW p l e _ s m _ below meth c 8 164 _ D A s.heap 2 (wX w)) (RB_GW hx hb) (RH_X hx hb hown hts hK) (fun u pc lv d hp H locs ls hP hD hS hl => W.vret hx hb hr (fun t ht hW => ⟨⟨(w, u), rfl, ⟨hw0, hp⟩, by rw [ht]; exact hP, va_K.moved hW.alike hK, hD⟩, hS.F ht⟩) hS.2.2 d) H locs ls hP hD hS hl
def mkM (h0 q1 q2 q3 : Nat) (k1 k2 k3 : ClassId) : zW := (fun k => match k with
  | 0 => h0
  | 1 => q1
  | 2 => q2
  | _ => q3, fun k => match k with
  | 1 => k1
  | 2 => k2
  | _ => k3)
theorem wM_0 (h0 q1 q2 q3 : Nat) (k1 k2 k3 : ClassId) : wM (mkM h0 q1 q2 q3 k1 k2 k3) z0 = [(h0, .inr (1, [.ref q1, .ref q2, .ref q3])), (q1, .inl (k1, 32, .inl (fun _ : Nat => 0))), (q2, .inl (k2, 128, .inl (fun _ : Nat => 0))), (q3, .inl (k3, 16, .inl (fun _ : Nat => 0)))] := by
  unfold wM z0
  rw [zI_0]
  rfl
set_option maxHeartbeats 4000000 in
set_option maxRecDepth 100000 in
theorem c_Minit (l : Launch) (D : va_G) (h0 sz : Nat) : Met l y_Minit (Cond.code y_Minit b_Minit 1 none :: wT) ({ frames := 1, cells := 3, slots := 176, locals := 12 }) (va_Pc [.ref h0] (fun U => U.heap.size = sz ∧ va_P D classes [(h0, .inr (1, [.null, .null, .null]))] U.heap ∧ va_K D classes [] U ∧ va_D (fun _ => True) [(h0, .inr (1, [.null, .null, .null]))])) (va_Qv (fun u : zW × zM => u.1.1 0 = h0 ∧ u.2 = z0) (fun u t => va_P D classes (wM u.1 u.2) t.heap ∧ va_K D classes (tysM u.1) t ∧ va_D (va_A [(h0, .inr (1, [.null, .null, .null]))] sz) (wM u.1 u.2)) (va_A [(h0, .inr (1, [.null, .null, .null]))] sz)) 3 176 (va_A [(h0, .inr (1, [.null, .null, .null]))] sz) := by
  refine Met.ofW (cc := b_Minit) (maxL := 1) (ret := none) (by decide) rfl ?_
  intro p e s m args below meth c s₁ B hml hv
  obtain ⟨rfl, hsz, hP, hK, hD0⟩ := hv
  have hx := B.exec
  have hb := B.bytes
  have hr := B.returns
  have hts1 := atoms_spec (ws := Cond.code y_Minit b_Minit 1 none :: wT) B.pre
  have hts : ∀ w ∈ wT, w.before #[Value.ref h0] s = true := fun w h => hts1 w (List.mem_cons_of_mem _ h)
  have hown : s.vm.findClass R_M = some m.cls := findClass_of_methodNamed B.named
  have hlocks := B.notSynchronized
  have hin : meth.name = "<init>" := (name_of_methodNamed B.named B.method).1
  subst hsz
  have hD := hD0.self (sz := s.heap.size)
  generalize hAe : va_A [(h0, .inr (1, [.null, .null, .null]))] s.heap.size = A at hD ⊢
  have hA : ∀ q : Nat, s.heap.size ≤ q → A q := fun q h => by rw [← hAe]; exact Or.inr h
  have hS : va_S A s.heap s.heap [] := va_S.rf
  have hP : va_P D classes [(h0, .inr (1, [.null, .null, .null]))] s.heap := hP
  have hl := lv_entry ([.ref h0]) (n := 1) (Nat.le_of_ble_eq_true rfl)
  rw [lg_entry_eq]
  generalize (lg_sl ([.ref h0]) ++ List.replicate (1 - (lg_sl ([.ref h0])).length) Slot.unset).toArray = ls at hl ⊢
  have hl : lv_has ls 1 [(0, .ref h0)] := hl
  refine lv_aload_n hx hb d_Minit_0 rfl (lv_at hl 0 rfl) ?_
  refine W.objInit hx hb hown (hts _ m_oiM) (hts _ m_oiI) (hts _ m_oiC) rfl (by rw [hml]; exact hl.1) rfl d_Minit_1 (Nat.le_of_ble_eq_true rfl) (Nat.le_of_ble_eq_true rfl) ?_
  refine W.eq (g2 := F0 m 4 ls []) rfl ?_
  refine lv_aload_n hx hb d_Minit_4 rfl (lv_at hl 0 rfl) ?_
  refine lv_bipush (v := 32) hx hb d_Minit_5 (by decide) ?_
  refine va_newa (atype := .int) (ty := .int) (N' := 32) (a0 := (32, .inl (fun _ : Nat => 0))) hx hb (hts _ m_arrI) rfl hK hP hD hS hA (fun _ => rfl) (by decide) (by decide) (by decide) (Nat.le_of_ble_eq_true rfl) (Nat.le_of_ble_eq_true rfl) d_Minit_7 (fun q1 k1 H hK hP hD hS => ?_)
  have hP : va_P D classes [(h0, .inr (1, [.null, .null, .null])), (q1, .inl (k1, 32, .inl (fun _ : Nat => 0)))] H := hP
  have hD : va_D A [(h0, .inr (1, [.null, .null, .null])), (q1, .inl (k1, 32, .inl (fun _ : Nat => 0)))] := hD
  have hK : va_K D classes [(k1, .int)] s := hK
  refine va_putF (D := D) (ci := 1) (v := .ref q1) (ty := .array .int) (C := R_M) (T := F_M) (N := 3) hx hb hts i_M t_M t_M_ok n_M hown hK hP hD hS 0 rfl rfl 0 (by decide) (hts _ m_fMstate) (fun _ h9 => h9) rfl hin rfl (by decide +kernel) rfl rfl (Nat.le_of_ble_eq_true rfl) d_Minit_9 (fun H locs hP hD hS => ?_)
  have hP : va_P D classes [(h0, .inr (1, [.ref q1, .null, .null])), (q1, .inl (k1, 32, .inl (fun _ : Nat => 0)))] H := hP
  have hD : va_D A [(h0, .inr (1, [.ref q1, .null, .null])), (q1, .inl (k1, 32, .inl (fun _ : Nat => 0)))] := hD
  refine lv_aload_n hx hb d_Minit_12 rfl (lv_at hl 0 rfl) ?_
  refine lv_sipush (v := 128) hx hb d_Minit_13 (by decide) ?_
  refine va_newa (atype := .int) (ty := .int) (N' := 128) (a0 := (128, .inl (fun _ : Nat => 0))) hx hb (hts _ m_arrI) rfl hK hP hD hS hA (fun _ => rfl) (by decide) (by decide) (by decide) (Nat.le_of_ble_eq_true rfl) (Nat.le_of_ble_eq_true rfl) d_Minit_16 (fun q2 k2 H hK hP hD hS => ?_)
  have hP : va_P D classes [(h0, .inr (1, [.ref q1, .null, .null])), (q1, .inl (k1, 32, .inl (fun _ : Nat => 0))), (q2, .inl (k2, 128, .inl (fun _ : Nat => 0)))] H := hP
  have hD : va_D A [(h0, .inr (1, [.ref q1, .null, .null])), (q1, .inl (k1, 32, .inl (fun _ : Nat => 0))), (q2, .inl (k2, 128, .inl (fun _ : Nat => 0)))] := hD
  have hK : va_K D classes [(k1, .int), (k2, .int)] s := hK
  refine va_putF (D := D) (ci := 1) (v := .ref q2) (ty := .array .int) (C := R_M) (T := F_M) (N := 3) hx hb hts i_M t_M t_M_ok n_M hown hK hP hD hS 0 rfl rfl 1 (by decide) (hts _ m_fMwords) (fun _ h9 => h9) rfl hin rfl (by decide +kernel) rfl rfl (Nat.le_of_ble_eq_true rfl) d_Minit_18 (fun H locs hP hD hS => ?_)
  have hP : va_P D classes [(h0, .inr (1, [.ref q1, .ref q2, .null])), (q1, .inl (k1, 32, .inl (fun _ : Nat => 0))), (q2, .inl (k2, 128, .inl (fun _ : Nat => 0)))] H := hP
  have hD : va_D A [(h0, .inr (1, [.ref q1, .ref q2, .null])), (q1, .inl (k1, 32, .inl (fun _ : Nat => 0))), (q2, .inl (k2, 128, .inl (fun _ : Nat => 0)))] := hD
  refine lv_aload_n hx hb d_Minit_21 rfl (lv_at hl 0 rfl) ?_
  refine lv_bipush (v := 16) hx hb d_Minit_22 (by decide) ?_
  refine va_newa (atype := .boolean) (ty := .boolean) (N' := 16) (a0 := (16, .inl (fun _ : Nat => 0))) hx hb (hts _ m_arrZ) rfl hK hP hD hS hA (fun _ => rfl) (by decide) (by decide) (by decide) (Nat.le_of_ble_eq_true rfl) (Nat.le_of_ble_eq_true rfl) d_Minit_24 (fun q3 k3 H hK hP hD hS => ?_)
  have hP : va_P D classes [(h0, .inr (1, [.ref q1, .ref q2, .null])), (q1, .inl (k1, 32, .inl (fun _ : Nat => 0))), (q2, .inl (k2, 128, .inl (fun _ : Nat => 0))), (q3, .inl (k3, 16, .inl (fun _ : Nat => 0)))] H := hP
  have hD : va_D A [(h0, .inr (1, [.ref q1, .ref q2, .null])), (q1, .inl (k1, 32, .inl (fun _ : Nat => 0))), (q2, .inl (k2, 128, .inl (fun _ : Nat => 0))), (q3, .inl (k3, 16, .inl (fun _ : Nat => 0)))] := hD
  have hK : va_K D classes [(k1, .int), (k2, .int), (k3, .boolean)] s := hK
  refine va_putF (D := D) (ci := 1) (v := .ref q3) (ty := .array .boolean) (C := R_M) (T := F_M) (N := 3) hx hb hts i_M t_M t_M_ok n_M hown hK hP hD hS 0 rfl rfl 2 (by decide) (hts _ m_fMcommon) (fun _ h9 => h9) rfl hin rfl (by decide +kernel) rfl rfl (Nat.le_of_ble_eq_true rfl) d_Minit_26 (fun H locs hP hD hS => ?_)
  have hP : va_P D classes [(h0, .inr (1, [.ref q1, .ref q2, .ref q3])), (q1, .inl (k1, 32, .inl (fun _ : Nat => 0))), (q2, .inl (k2, 128, .inl (fun _ : Nat => 0))), (q3, .inl (k3, 16, .inl (fun _ : Nat => 0)))] H := hP
  have hD : va_D A [(h0, .inr (1, [.ref q1, .ref q2, .ref q3])), (q1, .inl (k1, 32, .inl (fun _ : Nat => 0))), (q2, .inl (k2, 128, .inl (fun _ : Nat => 0))), (q3, .inl (k3, 16, .inl (fun _ : Nat => 0)))] := hD
  rw [← wM_0] at hP hD
  have hK : va_K D classes (tysM (mkM h0 q1 q2 q3 k1 k2 k3)) s := hK
  generalize hw : mkM h0 q1 q2 q3 k1 k2 k3 = w at hP hD hK
  have hw0 : w.1 0 = h0 := by rw [← hw]; rfl
  refine W.widen (k := 3) (n := 176) (Nat.le_of_ble_eq_true rfl) (Nat.le_of_ble_eq_true rfl) ?_
  exact W.vret hx hb hr (fun t ht hW => ⟨⟨(w, z0), rfl, ⟨hw0, rfl⟩, by rw [ht]; exact hP, va_K.moved hW.alike hK, hD⟩, hS.F ht⟩) hS.2.2 d_Minit_29
end
section
/-! THE CLAIM OUT OF ONE WALK OF THE LAW'S BODY. Your part is whole_start (and what it stands on); all else here is the same for every law, but numbers. -/
def lw_P (b : Addr) (xs : List Int32) (args : Array Value) (s : State) : Prop := args = #[.ref b] ∧ s.IntsAt b xs ∧ xs.length ≤ 2560 ∧ (Jvm.Cond.and given_1 narrow_1).before args s = true
def lw_Q (_ : Array Value) (s : State) (o : Outcome) (t : State) : Prop := o = .returned (some (.int 1)) ∧ Framed s o t [] 13 352
def lw_Z (below : List Frame) (a : Array Value) (s : State) : State → Prop := fun t => ∃ o, t.status = .running ∧ Ended t below o ∧ lw_Q a s o t
/-- the law's own end, with 1 on the stack, nothing written that was there before, its room as the claim has it -/
theorem lw_ret {p : Program} {l : Launch} {e : Env} {s : State} {m : MethodId} {below : List Frame} {meth : Method} {c : Code} {b : Nat} (hx : p.tables.exec = Jvm.exec) (hb : c.code = code) (hr : meth.sig.returnType = ret) (hlocks : meth.locks = false) {pc : Nat} {H : Heap} {ls : Array Slot} (hdg : decode code pc = .ok (.ireturn, 1)) : W p l e room_1 s m #[Value.ref b] below meth c H [] 13 352 (lw_Z below #[Value.ref b] s) (F0 m pc ls [.int 1]) := by
  intro T hT X
  obtain ⟨fs, hret, hrun, hended, hW, hframe⟩ := X.leave (v := some (.int 1)) (hlocks := hlocks) (fun h => by rw [hr] at h; cases h)
  have hmeth' : T.vm.method? m = some meth := X.method'
  refine ⟨T.setFrames fs, ?_, .returned (some (.int 1)), hrun, hended, rfl, ⟨_, rfl⟩, hW, hframe⟩
  jvm_step X.here [X.here.top, hx, hb, hdg, hmeth', hr, ret, narrow_b1]
  (try refine ⟨rfl, ?_⟩); (try refine ⟨rfl, ?_⟩)
  first | (intro acts; rw [hret _ acts rfl rfl rfl]) | rw [hret _ _ rfl rfl rfl]
  exact Steps.refl _
/-- what holds at the law's entry: the machine, the code, the tables' words (any of lw_tbl by 'hts w (by decide +kernel)'), the script of L ints xs at the cell b, what the Statement gives of the start (any of its parts by flat_of_before) -/
def lw_At (p : Program) (s : State) (m : MethodId) (meth : Method) (c : Code) (b L : Nat) (xs : Nat → Int32) : Prop :=
  p.tables.exec = Jvm.exec ∧ c.code = code ∧ meth.sig.returnType = ret ∧ c.maxLocals = 4 ∧ s.vm.findClass R_law = some m.cls ∧ (∀ w ∈ lw_tbl, w.before #[Value.ref b] s = true) ∧ va_X b L xs s s.heap ∧ b < s.heap.size ∧ meth.locks = false ∧ (Jvm.Cond.and given_1 narrow_1).before #[Value.ref b] s = true
/-- the law's world: the class' object and the reference's -/
def w2f (w1 w2 : zW) (s : zM × zM) : va_W := wX w1 s.1 ++ wM w2 s.2
/-- the script, the mask, the switch -/
def RS (G : zG (zM × zM)) (b L : Nat) (ys : Int → Int) : Prop :=
  (∀ (st : zM × zM) (pc : Nat) (lv : zL) (stk : List Value), decode code pc = .ok (.arraylength, 1) → G st (pc + 1) lv (.int (zI (L : Int)) :: stk) → G st pc lv (.ref b :: stk)) ∧
  (∀ (st : zM × zM) (pc : Nat) (lv : zL) (stk : List Value) (i : Int), decode code pc = .ok (.iaload, 1) → (0 ≤ i ∧ i < (L : Int)) → G st (pc + 1) lv (.int (zI (ys i)) :: stk) → G st pc lv (.int (zI i) :: .ref b :: stk)) ∧
  (∀ (st : zM × zM) (pc : Nat) (lv : zL) (stk : List Value) (x : Int), decode code pc = .ok (.iand, 1) → (∀ j : Int, 0 ≤ j → j < 16 → G st (pc + 1) lv (.int (zI j) :: stk)) → G st pc lv (.int (zI 15) :: .int (zI x) :: stk)) ∧
  (∀ (st : zM × zM) (pc : Nat) (lv : zL) (stk : List Value) (x dflt lo hi : Int) (offs : Array Int) (len : Nat) (off : Int) (tgt : Nat), decode code pc = .ok (.tableswitch dflt lo hi offs, len) → ¬ (zI x).toInt < lo → ¬ hi < (zI x).toInt → offs[((zI x).toInt - lo).toNat]? = some off → (pc : Int) + off = (tgt : Int) → G st tgt lv stk → G st pc lv (.int (zI x) :: stk)) ∧
  (∀ (st : zM × zM) (pc : Nat) (lv : zL) (stk : List Value) (x dflt lo hi : Int) (offs : Array Int) (len : Nat) (tgt : Nat), decode code pc = .ok (.tableswitch dflt lo hi offs, len) → ((zI x).toInt < lo ∨ hi < (zI x).toInt) → (pc : Int) + dflt = (tgt : Int) → G st tgt lv stk → G st pc lv (.int (zI x) :: stk))
/-- calls of the class, of the reference -/
def LX (l : Launch) (D : va_G) (w1 : zW) (G : zG (zM × zM)) : Prop :=
  ∀ (st μ : zM) (pc : Nat) (lv : zL) (stk : List Value) (idx : Nat) (y : MethodName) (b1 : ByteArray) (mL : Nat) (rt : FieldType) (n k : Nat) (As : List Value) (post : Int → zM → Prop), Lk R_law R_X idx y b1 mL (some rt) n → As.length = n → (k + 1 ≤ 8 ∧ 8 + (mL + 11) + 40 * k ≤ 296) → CI l D (tysX w1) (wX w1) y b1 mL rt k (.ref (w1.1 0) :: As) st post → decode code pc = .ok (.invokevirtual idx, 3) → (stk.map fun v => v.category).sum ≤ 8 → (∀ z u, post z u → G (u, μ) (pc + 3) lv (.int (zI z) :: stk)) → G (st, μ) pc lv (As.reverse ++ .ref (w1.1 0) :: stk)
def LM (l : Launch) (D : va_G) (w2 : zW) (G : zG (zM × zM)) : Prop :=
  ∀ (st μ : zM) (pc : Nat) (lv : zL) (stk : List Value) (idx : Nat) (y : MethodName) (b1 : ByteArray) (mL : Nat) (rt : FieldType) (n k : Nat) (As : List Value) (post : Int → zM → Prop), Lk R_law R_M idx y b1 mL (some rt) n → As.length = n → (k + 1 ≤ 8 ∧ 8 + (mL + 11) + 40 * k ≤ 296) → CI l D (tysM w2) (wM w2) y b1 mL rt k (.ref (w2.1 0) :: As) μ post → decode code pc = .ok (.invokevirtual idx, 3) → (stk.map fun v => v.category).sum ≤ 8 → (∀ z u, post z u → G (st, u) (pc + 3) lv (.int (zI z) :: stk)) → G (st, μ) pc lv (As.reverse ++ .ref (w2.1 0) :: stk)
section LU
variable {l : Launch} {D : va_G} {w1 w2 : zW} {G : zG (zM × zM)} {st μ : zM} {pc : Nat} {lv : zL} {stk : List Value} {idx : Nat} {y : MethodName} {b1 : ByteArray} {mL : Nat} {rt : FieldType} {k : Nat} {post : Int → zM → Prop}
theorem lX_0 (h : LX l D w1 G) (hk : Lk R_law R_X idx y b1 mL (some rt) 0) (hc : CI l D (tysX w1) (wX w1) y b1 mL rt k (.ref (w1.1 0) :: []) st post) (d : decode code pc = .ok (.invokevirtual idx, 3)) (hr : k + 1 ≤ 8 ∧ 8 + (mL + 11) + 40 * k ≤ 296) (hs : (stk.map fun v => v.category).sum ≤ 8) (kk : ∀ z u, post z u → G (u, μ) (pc + 3) lv (.int (zI z) :: stk)) : G (st, μ) pc lv (.ref (w1.1 0) :: stk) := h st μ pc lv stk idx y b1 mL rt 0 k [] post hk rfl hr hc d hs kk
theorem lM_0 (h : LM l D w2 G) (hk : Lk R_law R_M idx y b1 mL (some rt) 0) (hc : CI l D (tysM w2) (wM w2) y b1 mL rt k (.ref (w2.1 0) :: []) μ post) (d : decode code pc = .ok (.invokevirtual idx, 3)) (hr : k + 1 ≤ 8 ∧ 8 + (mL + 11) + 40 * k ≤ 296) (hs : (stk.map fun v => v.category).sum ≤ 8) (kk : ∀ z u, post z u → G (st, u) (pc + 3) lv (.int (zI z) :: stk)) : G (st, μ) pc lv (.ref (w2.1 0) :: stk) := h st μ pc lv stk idx y b1 mL rt 0 k [] post hk rfl hr hc d hs kk
theorem lX_1 (h : LX l D w1 G) {x0 : Int} (hk : Lk R_law R_X idx y b1 mL (some rt) 1) (hc : CI l D (tysX w1) (wX w1) y b1 mL rt k (.ref (w1.1 0) :: [.int (zI x0)]) st post) (d : decode code pc = .ok (.invokevirtual idx, 3)) (hr : k + 1 ≤ 8 ∧ 8 + (mL + 11) + 40 * k ≤ 296) (hs : (stk.map fun v => v.category).sum ≤ 8) (kk : ∀ z u, post z u → G (u, μ) (pc + 3) lv (.int (zI z) :: stk)) : G (st, μ) pc lv (.int (zI x0) :: .ref (w1.1 0) :: stk) := h st μ pc lv stk idx y b1 mL rt 1 k [.int (zI x0)] post hk rfl hr hc d hs kk
theorem lM_1 (h : LM l D w2 G) {x0 : Int} (hk : Lk R_law R_M idx y b1 mL (some rt) 1) (hc : CI l D (tysM w2) (wM w2) y b1 mL rt k (.ref (w2.1 0) :: [.int (zI x0)]) μ post) (d : decode code pc = .ok (.invokevirtual idx, 3)) (hr : k + 1 ≤ 8 ∧ 8 + (mL + 11) + 40 * k ≤ 296) (hs : (stk.map fun v => v.category).sum ≤ 8) (kk : ∀ z u, post z u → G (st, u) (pc + 3) lv (.int (zI z) :: stk)) : G (st, μ) pc lv (.int (zI x0) :: .ref (w2.1 0) :: stk) := h st μ pc lv stk idx y b1 mL rt 1 k [.int (zI x0)] post hk rfl hr hc d hs kk
theorem lX_2 (h : LX l D w1 G) {x0 x1 : Int} (hk : Lk R_law R_X idx y b1 mL (some rt) 2) (hc : CI l D (tysX w1) (wX w1) y b1 mL rt k (.ref (w1.1 0) :: [.int (zI x0), .int (zI x1)]) st post) (d : decode code pc = .ok (.invokevirtual idx, 3)) (hr : k + 1 ≤ 8 ∧ 8 + (mL + 11) + 40 * k ≤ 296) (hs : (stk.map fun v => v.category).sum ≤ 8) (kk : ∀ z u, post z u → G (u, μ) (pc + 3) lv (.int (zI z) :: stk)) : G (st, μ) pc lv (.int (zI x1) :: .int (zI x0) :: .ref (w1.1 0) :: stk) := h st μ pc lv stk idx y b1 mL rt 2 k [.int (zI x0), .int (zI x1)] post hk rfl hr hc d hs kk
theorem lM_2 (h : LM l D w2 G) {x0 x1 : Int} (hk : Lk R_law R_M idx y b1 mL (some rt) 2) (hc : CI l D (tysM w2) (wM w2) y b1 mL rt k (.ref (w2.1 0) :: [.int (zI x0), .int (zI x1)]) μ post) (d : decode code pc = .ok (.invokevirtual idx, 3)) (hr : k + 1 ≤ 8 ∧ 8 + (mL + 11) + 40 * k ≤ 296) (hs : (stk.map fun v => v.category).sum ≤ 8) (kk : ∀ z u, post z u → G (st, u) (pc + 3) lv (.int (zI z) :: stk)) : G (st, μ) pc lv (.int (zI x1) :: .int (zI x0) :: .ref (w2.1 0) :: stk) := h st μ pc lv stk idx y b1 mL rt 2 k [.int (zI x0), .int (zI x1)] post hk rfl hr hc d hs kk
theorem lX_3 (h : LX l D w1 G) {x0 x1 x2 : Int} (hk : Lk R_law R_X idx y b1 mL (some rt) 3) (hc : CI l D (tysX w1) (wX w1) y b1 mL rt k (.ref (w1.1 0) :: [.int (zI x0), .int (zI x1), .int (zI x2)]) st post) (d : decode code pc = .ok (.invokevirtual idx, 3)) (hr : k + 1 ≤ 8 ∧ 8 + (mL + 11) + 40 * k ≤ 296) (hs : (stk.map fun v => v.category).sum ≤ 8) (kk : ∀ z u, post z u → G (u, μ) (pc + 3) lv (.int (zI z) :: stk)) : G (st, μ) pc lv (.int (zI x2) :: .int (zI x1) :: .int (zI x0) :: .ref (w1.1 0) :: stk) := h st μ pc lv stk idx y b1 mL rt 3 k [.int (zI x0), .int (zI x1), .int (zI x2)] post hk rfl hr hc d hs kk
theorem lM_3 (h : LM l D w2 G) {x0 x1 x2 : Int} (hk : Lk R_law R_M idx y b1 mL (some rt) 3) (hc : CI l D (tysM w2) (wM w2) y b1 mL rt k (.ref (w2.1 0) :: [.int (zI x0), .int (zI x1), .int (zI x2)]) μ post) (d : decode code pc = .ok (.invokevirtual idx, 3)) (hr : k + 1 ≤ 8 ∧ 8 + (mL + 11) + 40 * k ≤ 296) (hs : (stk.map fun v => v.category).sum ≤ 8) (kk : ∀ z u, post z u → G (st, u) (pc + 3) lv (.int (zI z) :: stk)) : G (st, μ) pc lv (.int (zI x2) :: .int (zI x1) :: .int (zI x0) :: .ref (w2.1 0) :: stk) := h st μ pc lv stk idx y b1 mL rt 3 k [.int (zI x0), .int (zI x1), .int (zI x2)] post hk rfl hr hc d hs kk
theorem lX_4 (h : LX l D w1 G) {x0 x1 x2 x3 : Int} (hk : Lk R_law R_X idx y b1 mL (some rt) 4) (hc : CI l D (tysX w1) (wX w1) y b1 mL rt k (.ref (w1.1 0) :: [.int (zI x0), .int (zI x1), .int (zI x2), .int (zI x3)]) st post) (d : decode code pc = .ok (.invokevirtual idx, 3)) (hr : k + 1 ≤ 8 ∧ 8 + (mL + 11) + 40 * k ≤ 296) (hs : (stk.map fun v => v.category).sum ≤ 8) (kk : ∀ z u, post z u → G (u, μ) (pc + 3) lv (.int (zI z) :: stk)) : G (st, μ) pc lv (.int (zI x3) :: .int (zI x2) :: .int (zI x1) :: .int (zI x0) :: .ref (w1.1 0) :: stk) := h st μ pc lv stk idx y b1 mL rt 4 k [.int (zI x0), .int (zI x1), .int (zI x2), .int (zI x3)] post hk rfl hr hc d hs kk
theorem lM_4 (h : LM l D w2 G) {x0 x1 x2 x3 : Int} (hk : Lk R_law R_M idx y b1 mL (some rt) 4) (hc : CI l D (tysM w2) (wM w2) y b1 mL rt k (.ref (w2.1 0) :: [.int (zI x0), .int (zI x1), .int (zI x2), .int (zI x3)]) μ post) (d : decode code pc = .ok (.invokevirtual idx, 3)) (hr : k + 1 ≤ 8 ∧ 8 + (mL + 11) + 40 * k ≤ 296) (hs : (stk.map fun v => v.category).sum ≤ 8) (kk : ∀ z u, post z u → G (st, u) (pc + 3) lv (.int (zI z) :: stk)) : G (st, μ) pc lv (.int (zI x3) :: .int (zI x2) :: .int (zI x1) :: .int (zI x0) :: .ref (w2.1 0) :: stk) := h st μ pc lv stk idx y b1 mL rt 4 k [.int (zI x0), .int (zI x1), .int (zI x2), .int (zI x3)] post hk rfl hr hc d hs kk
end LU
set_option maxHeartbeats 4000000 in
/-- THE LAW'S LOOP: at its head the class and the reference agree -/
theorem law_18 {l : Launch} {D : va_G} {w1 w2 : zW} {G : zG (zM × zM)} {b L : Nat} {ys : Int → Int} (hB : RB code 4 G) (hS : RS G b L ys) (hX : LX l D w1 G) (hM : LM l D w2 G) (hE : ∀ (st : zM × zM) (lv : zL), G st 536 lv [.int (zI 1)]) (hL : L ≤ 2560) (hys : ∀ i : Int, -2147483648 ≤ ys i ∧ ys i ≤ 2147483647) :
    ∀ (n : Nat) (y3 : Int) (st μ : zM), 0 ≤ y3 → y3 ≤ (L : Int) + 5 → (L : Int) + 5 - y3 < (n : Int) → Rel st μ → G (st, μ) 18 [(0, .ref b), (1, .ref (w1.1 0)), (2, .ref (w2.1 0)), (3, .int (zI y3))] [] := by
  intro n
  induction n with
  | zero =>
    intro y3 st μ h1 h2 h3 hRel
    exfalso
    omega
  | succ n ih =>
    intro y3 st μ h1 h2 h3 hRel
    refine rb_iload_n hB (j := 3) d_law_18 rfl ?_
    refine rb_aload_n hB (j := 0) d_law_19 rfl ?_
    refine hS.1 _ _ _ _ d_law_20 ?_
    refine rb_iconst hB d_law_21 ?_
    refine rb_isub hB d_law_22 ?_
    refine rb_icmp_gt hB (tgt := 535) d_law_23 (by omega) (by omega) (by decide) (fun c23 => ?_) (fun c23 => ?_)
    · refine rb_iconst hB d_law_535 ?_
      exact hE _ _
    have hnext : ∀ st1 μ1 : zM, Rel st1 μ1 → G (st1, μ1) 529 [(0, .ref b), (1, .ref (w1.1 0)), (2, .ref (w2.1 0)), (3, .int (zI y3))] [] := fun st1 μ1 h => by
      refine rn_iinc hB 3 (fun y => [(0, .ref b), (1, .ref (w1.1 0)), (2, .ref (w2.1 0)), (3, .int (zI y))]) d_law_529 rfl (by decide) (fun _ => rfl) (fun z3 ez3 => ?_)
      refine rb_goto hB (tgt := 18) d_law_532 (by decide) ?_
      exact ih z3 st1 μ1 (by omega) (by omega) (by omega) h
    refine rb_aload_n hB (j := 0) d_law_26 rfl ?_
    refine rb_iload_n hB (j := 3) d_law_27 rfl ?_
    refine hS.2.1 _ _ _ _ _ d_law_28 (by omega) ?_
    refine rb_bipush hB d_law_29 (by decide) ?_
    refine hS.2.2.1 _ _ _ _ _ d_law_31 (fun j j0 j1 => ?_)
    rcases (show j = 0 ∨ j = 1 ∨ j = 2 ∨ j = 3 ∨ j = 4 ∨ j = 5 ∨ j = 6 ∨ j = 7 ∨ j = 8 ∨ j = 9 ∨ j = 10 ∨ j = 11 ∨ j = 12 ∨ j = 13 ∨ j = 14 ∨ j = 15 by omega) with rfl | rfl | rfl | rfl | rfl | rfl | rfl | rfl | rfl | rfl | rfl | rfl | rfl | rfl | rfl | rfl
    · refine hS.2.2.2.1 _ _ _ _ _ _ _ _ _ _ _ 100 d_law_32 (by decide) (by decide) rfl (by decide) ?_
      refine rb_aload_n hB (j := 1) d_law_100 rfl ?_
      refine rb_aload_n hB (j := 0) d_law_101 rfl ?_
      refine rb_iload_n hB (j := 3) d_law_102 rfl ?_
      refine rb_iconst hB d_law_103 ?_
      refine rb_iadd hB d_law_104 ?_
      refine hS.2.1 _ _ _ _ _ d_law_105 (by omega) ?_
      refine rb_aload_n hB (j := 0) d_law_106 rfl ?_
      refine rb_iload_n hB (j := 3) d_law_107 rfl ?_
      refine rb_iconst hB d_law_108 ?_
      refine rb_iadd hB d_law_109 ?_
      refine hS.2.1 _ _ _ _ _ d_law_110 (by omega) ?_
      refine lX_2 hX k_L13 (c_Xtouch (μ := μ) hRel (hys _) (hys _)) d_law_111 (by decide) (Nat.le_of_ble_eq_true rfl) (fun zx ux hx => ?_)
      refine rb_aload_n hB (j := 2) d_law_114 rfl ?_
      refine rb_aload_n hB (j := 0) d_law_115 rfl ?_
      refine rb_iload_n hB (j := 3) d_law_116 rfl ?_
      refine rb_iconst hB d_law_117 ?_
      refine rb_iadd hB d_law_118 ?_
      refine hS.2.1 _ _ _ _ _ d_law_119 (by omega) ?_
      refine rb_aload_n hB (j := 0) d_law_120 rfl ?_
      refine rb_iload_n hB (j := 3) d_law_121 rfl ?_
      refine rb_iconst hB d_law_122 ?_
      refine rb_iadd hB d_law_123 ?_
      refine hS.2.1 _ _ _ _ _ d_law_124 (by omega) ?_
      refine lM_2 hM k_L17 (c_Mtouch hRel.MI (hys _) (hys _)) d_law_125 (by decide) (Nat.le_of_ble_eq_true rfl) (fun zm um hm => ?_)
      rw [hm.2]
      refine rb_icmp_eq_same hB (tgt := 529) d_law_128 (by rw [hx.1, hm.1]) (by decide) ?_
      exact hnext _ _ hx.2
    · refine hS.2.2.2.1 _ _ _ _ _ _ _ _ _ _ _ 133 d_law_32 (by decide) (by decide) rfl (by decide) ?_
      refine rb_aload_n hB (j := 1) d_law_133 rfl ?_
      refine rb_aload_n hB (j := 0) d_law_134 rfl ?_
      refine rb_iload_n hB (j := 3) d_law_135 rfl ?_
      refine rb_iconst hB d_law_136 ?_
      refine rb_iadd hB d_law_137 ?_
      refine hS.2.1 _ _ _ _ _ d_law_138 (by omega) ?_
      refine rb_aload_n hB (j := 0) d_law_139 rfl ?_
      refine rb_iload_n hB (j := 3) d_law_140 rfl ?_
      refine rb_iconst hB d_law_141 ?_
      refine rb_iadd hB d_law_142 ?_
      refine hS.2.1 _ _ _ _ _ d_law_143 (by omega) ?_
      refine rb_aload_n hB (j := 0) d_law_144 rfl ?_
      refine rb_iload_n hB (j := 3) d_law_145 rfl ?_
      refine rb_iconst hB d_law_146 ?_
      refine rb_iadd hB d_law_147 ?_
      refine hS.2.1 _ _ _ _ _ d_law_148 (by omega) ?_
      refine rb_aload_n hB (j := 0) d_law_149 rfl ?_
      refine rb_iload_n hB (j := 3) d_law_150 rfl ?_
      refine rb_iconst hB d_law_151 ?_
      refine rb_iadd hB d_law_152 ?_
      refine hS.2.1 _ _ _ _ _ d_law_153 (by omega) ?_
      refine lX_4 hX k_L18 (c_Xwrite (μ := μ) hRel (hys _) (hys _) (hys _)) d_law_154 (by decide) (Nat.le_of_ble_eq_true rfl) (fun zx ux hx => ?_)
      refine rb_aload_n hB (j := 2) d_law_157 rfl ?_
      refine rb_aload_n hB (j := 0) d_law_158 rfl ?_
      refine rb_iload_n hB (j := 3) d_law_159 rfl ?_
      refine rb_iconst hB d_law_160 ?_
      refine rb_iadd hB d_law_161 ?_
      refine hS.2.1 _ _ _ _ _ d_law_162 (by omega) ?_
      refine rb_aload_n hB (j := 0) d_law_163 rfl ?_
      refine rb_iload_n hB (j := 3) d_law_164 rfl ?_
      refine rb_iconst hB d_law_165 ?_
      refine rb_iadd hB d_law_166 ?_
      refine hS.2.1 _ _ _ _ _ d_law_167 (by omega) ?_
      refine rb_aload_n hB (j := 0) d_law_168 rfl ?_
      refine rb_iload_n hB (j := 3) d_law_169 rfl ?_
      refine rb_iconst hB d_law_170 ?_
      refine rb_iadd hB d_law_171 ?_
      refine hS.2.1 _ _ _ _ _ d_law_172 (by omega) ?_
      refine rb_aload_n hB (j := 0) d_law_173 rfl ?_
      refine rb_iload_n hB (j := 3) d_law_174 rfl ?_
      refine rb_iconst hB d_law_175 ?_
      refine rb_iadd hB d_law_176 ?_
      refine hS.2.1 _ _ _ _ _ d_law_177 (by omega) ?_
      refine lM_4 hM k_L22 (c_Mwrite hRel.MI (hys _) (hys _) (hys _)) d_law_178 (by decide) (Nat.le_of_ble_eq_true rfl) (fun zm um hm => ?_)
      rw [hm.2]
      refine rb_icmp_eq_same hB (tgt := 529) d_law_181 (by rw [hx.1, hm.1]) (by decide) ?_
      exact hnext _ _ hx.2
    · refine hS.2.2.2.1 _ _ _ _ _ _ _ _ _ _ _ 186 d_law_32 (by decide) (by decide) rfl (by decide) ?_
      refine rb_aload_n hB (j := 1) d_law_186 rfl ?_
      refine rb_aload_n hB (j := 0) d_law_187 rfl ?_
      refine rb_iload_n hB (j := 3) d_law_188 rfl ?_
      refine rb_iconst hB d_law_189 ?_
      refine rb_iadd hB d_law_190 ?_
      refine hS.2.1 _ _ _ _ _ d_law_191 (by omega) ?_
      refine rb_aload_n hB (j := 0) d_law_192 rfl ?_
      refine rb_iload_n hB (j := 3) d_law_193 rfl ?_
      refine rb_iconst hB d_law_194 ?_
      refine rb_iadd hB d_law_195 ?_
      refine hS.2.1 _ _ _ _ _ d_law_196 (by omega) ?_
      refine rb_aload_n hB (j := 0) d_law_197 rfl ?_
      refine rb_iload_n hB (j := 3) d_law_198 rfl ?_
      refine rb_iconst hB d_law_199 ?_
      refine rb_iadd hB d_law_200 ?_
      refine hS.2.1 _ _ _ _ _ d_law_201 (by omega) ?_
      refine lX_3 hX k_L23 (c_Xread (μ := μ) hRel (hys _) (hys _) (hys _)) d_law_202 (by decide) (Nat.le_of_ble_eq_true rfl) (fun zx ux hx => ?_)
      rw [hx.2]
      refine rb_aload_n hB (j := 2) d_law_205 rfl ?_
      refine rb_aload_n hB (j := 0) d_law_206 rfl ?_
      refine rb_iload_n hB (j := 3) d_law_207 rfl ?_
      refine rb_iconst hB d_law_208 ?_
      refine rb_iadd hB d_law_209 ?_
      refine hS.2.1 _ _ _ _ _ d_law_210 (by omega) ?_
      refine rb_aload_n hB (j := 0) d_law_211 rfl ?_
      refine rb_iload_n hB (j := 3) d_law_212 rfl ?_
      refine rb_iconst hB d_law_213 ?_
      refine rb_iadd hB d_law_214 ?_
      refine hS.2.1 _ _ _ _ _ d_law_215 (by omega) ?_
      refine rb_aload_n hB (j := 0) d_law_216 rfl ?_
      refine rb_iload_n hB (j := 3) d_law_217 rfl ?_
      refine rb_iconst hB d_law_218 ?_
      refine rb_iadd hB d_law_219 ?_
      refine hS.2.1 _ _ _ _ _ d_law_220 (by omega) ?_
      refine lM_3 hM k_L27 (c_Mread hRel.MI (hys _) (hys _) (hys _)) d_law_221 (by decide) (Nat.le_of_ble_eq_true rfl) (fun zm um hm => ?_)
      rw [hm.2]
      refine rb_icmp_eq_same hB (tgt := 529) d_law_224 (by rw [hx.1, hm.1]) (by decide) ?_
      exact hnext _ _ hRel
    · refine hS.2.2.2.1 _ _ _ _ _ _ _ _ _ _ _ 229 d_law_32 (by decide) (by decide) rfl (by decide) ?_
      refine rb_aload_n hB (j := 1) d_law_229 rfl ?_
      refine rb_aload_n hB (j := 0) d_law_230 rfl ?_
      refine rb_iload_n hB (j := 3) d_law_231 rfl ?_
      refine rb_iconst hB d_law_232 ?_
      refine rb_iadd hB d_law_233 ?_
      refine hS.2.1 _ _ _ _ _ d_law_234 (by omega) ?_
      refine rb_aload_n hB (j := 0) d_law_235 rfl ?_
      refine rb_iload_n hB (j := 3) d_law_236 rfl ?_
      refine rb_iconst hB d_law_237 ?_
      refine rb_iadd hB d_law_238 ?_
      refine hS.2.1 _ _ _ _ _ d_law_239 (by omega) ?_
      refine lX_2 hX k_L28 (c_Xunmap (μ := μ) hRel (hys _) (hys _)) d_law_240 (by decide) (Nat.le_of_ble_eq_true rfl) (fun zx ux hx => ?_)
      refine rb_aload_n hB (j := 2) d_law_243 rfl ?_
      refine rb_aload_n hB (j := 0) d_law_244 rfl ?_
      refine rb_iload_n hB (j := 3) d_law_245 rfl ?_
      refine rb_iconst hB d_law_246 ?_
      refine rb_iadd hB d_law_247 ?_
      refine hS.2.1 _ _ _ _ _ d_law_248 (by omega) ?_
      refine rb_aload_n hB (j := 0) d_law_249 rfl ?_
      refine rb_iload_n hB (j := 3) d_law_250 rfl ?_
      refine rb_iconst hB d_law_251 ?_
      refine rb_iadd hB d_law_252 ?_
      refine hS.2.1 _ _ _ _ _ d_law_253 (by omega) ?_
      refine lM_2 hM k_L31 (c_Munmap hRel.MI (hys _) (hys _)) d_law_254 (by decide) (Nat.le_of_ble_eq_true rfl) (fun zm um hm => ?_)
      rw [hm.2]
      refine rb_icmp_eq_same hB (tgt := 529) d_law_257 (by rw [hx.1, hm.1]) (by decide) ?_
      exact hnext _ _ hx.2
    · refine hS.2.2.2.1 _ _ _ _ _ _ _ _ _ _ _ 262 d_law_32 (by decide) (by decide) rfl (by decide) ?_
      refine rb_aload_n hB (j := 1) d_law_262 rfl ?_
      refine rb_aload_n hB (j := 0) d_law_263 rfl ?_
      refine rb_iload_n hB (j := 3) d_law_264 rfl ?_
      refine rb_iconst hB d_law_265 ?_
      refine rb_iadd hB d_law_266 ?_
      refine hS.2.1 _ _ _ _ _ d_law_267 (by omega) ?_
      refine rb_aload_n hB (j := 0) d_law_268 rfl ?_
      refine rb_iload_n hB (j := 3) d_law_269 rfl ?_
      refine rb_iconst hB d_law_270 ?_
      refine rb_iadd hB d_law_271 ?_
      refine hS.2.1 _ _ _ _ _ d_law_272 (by omega) ?_
      refine rb_aload_n hB (j := 0) d_law_273 rfl ?_
      refine rb_iload_n hB (j := 3) d_law_274 rfl ?_
      refine rb_iconst hB d_law_275 ?_
      refine rb_iadd hB d_law_276 ?_
      refine hS.2.1 _ _ _ _ _ d_law_277 (by omega) ?_
      refine lX_3 hX k_L32 (c_Xprotect (μ := μ) hRel (hys _) (hys _) (hys _)) d_law_278 (by decide) (Nat.le_of_ble_eq_true rfl) (fun zx ux hx => ?_)
      refine rb_aload_n hB (j := 2) d_law_281 rfl ?_
      refine rb_aload_n hB (j := 0) d_law_282 rfl ?_
      refine rb_iload_n hB (j := 3) d_law_283 rfl ?_
      refine rb_iconst hB d_law_284 ?_
      refine rb_iadd hB d_law_285 ?_
      refine hS.2.1 _ _ _ _ _ d_law_286 (by omega) ?_
      refine rb_aload_n hB (j := 0) d_law_287 rfl ?_
      refine rb_iload_n hB (j := 3) d_law_288 rfl ?_
      refine rb_iconst hB d_law_289 ?_
      refine rb_iadd hB d_law_290 ?_
      refine hS.2.1 _ _ _ _ _ d_law_291 (by omega) ?_
      refine rb_aload_n hB (j := 0) d_law_292 rfl ?_
      refine rb_iload_n hB (j := 3) d_law_293 rfl ?_
      refine rb_iconst hB d_law_294 ?_
      refine rb_iadd hB d_law_295 ?_
      refine hS.2.1 _ _ _ _ _ d_law_296 (by omega) ?_
      refine lM_3 hM k_L35 (c_Mprotect hRel.MI (hys _) (hys _) (hys _)) d_law_297 (by decide) (Nat.le_of_ble_eq_true rfl) (fun zm um hm => ?_)
      rw [hm.2]
      refine rb_icmp_eq_same hB (tgt := 529) d_law_300 (by rw [hx.1, hm.1]) (by decide) ?_
      exact hnext _ _ hx.2
    · refine hS.2.2.2.1 _ _ _ _ _ _ _ _ _ _ _ 305 d_law_32 (by decide) (by decide) rfl (by decide) ?_
      refine rb_aload_n hB (j := 1) d_law_305 rfl ?_
      refine rb_aload_n hB (j := 0) d_law_306 rfl ?_
      refine rb_iload_n hB (j := 3) d_law_307 rfl ?_
      refine rb_iconst hB d_law_308 ?_
      refine rb_iadd hB d_law_309 ?_
      refine hS.2.1 _ _ _ _ _ d_law_310 (by omega) ?_
      refine rb_aload_n hB (j := 0) d_law_311 rfl ?_
      refine rb_iload_n hB (j := 3) d_law_312 rfl ?_
      refine rb_iconst hB d_law_313 ?_
      refine rb_iadd hB d_law_314 ?_
      refine hS.2.1 _ _ _ _ _ d_law_315 (by omega) ?_
      refine lX_2 hX k_L36 (c_Xstate (μ := μ) hRel (hys _) (hys _)) d_law_316 (by decide) (Nat.le_of_ble_eq_true rfl) (fun zx ux hx => ?_)
      rw [hx.2]
      refine rb_aload_n hB (j := 2) d_law_319 rfl ?_
      refine rb_aload_n hB (j := 0) d_law_320 rfl ?_
      refine rb_iload_n hB (j := 3) d_law_321 rfl ?_
      refine rb_iconst hB d_law_322 ?_
      refine rb_iadd hB d_law_323 ?_
      refine hS.2.1 _ _ _ _ _ d_law_324 (by omega) ?_
      refine rb_aload_n hB (j := 0) d_law_325 rfl ?_
      refine rb_iload_n hB (j := 3) d_law_326 rfl ?_
      refine rb_iconst hB d_law_327 ?_
      refine rb_iadd hB d_law_328 ?_
      refine hS.2.1 _ _ _ _ _ d_law_329 (by omega) ?_
      refine lM_2 hM k_L39 (c_Mstate hRel.MI (hys _) (hys _)) d_law_330 (by decide) (Nat.le_of_ble_eq_true rfl) (fun zm um hm => ?_)
      rw [hm.2]
      refine rb_icmp_eq_same hB (tgt := 529) d_law_333 (by rw [hx.1, hm.1]) (by decide) ?_
      exact hnext _ _ hRel
    · refine hS.2.2.2.1 _ _ _ _ _ _ _ _ _ _ _ 338 d_law_32 (by decide) (by decide) rfl (by decide) ?_
      refine rb_aload_n hB (j := 1) d_law_338 rfl ?_
      refine rb_aload_n hB (j := 0) d_law_339 rfl ?_
      refine rb_iload_n hB (j := 3) d_law_340 rfl ?_
      refine rb_iconst hB d_law_341 ?_
      refine rb_iadd hB d_law_342 ?_
      refine hS.2.1 _ _ _ _ _ d_law_343 (by omega) ?_
      refine lX_1 hX k_L40 (c_Xshared (μ := μ) hRel (hys _)) d_law_344 (by decide) (Nat.le_of_ble_eq_true rfl) (fun zx ux hx => ?_)
      rw [hx.2]
      refine rb_aload_n hB (j := 2) d_law_347 rfl ?_
      refine rb_aload_n hB (j := 0) d_law_348 rfl ?_
      refine rb_iload_n hB (j := 3) d_law_349 rfl ?_
      refine rb_iconst hB d_law_350 ?_
      refine rb_iadd hB d_law_351 ?_
      refine hS.2.1 _ _ _ _ _ d_law_352 (by omega) ?_
      refine lM_1 hM k_L44 (c_Mshared hRel.MI (hys _)) d_law_353 (by decide) (Nat.le_of_ble_eq_true rfl) (fun zm um hm => ?_)
      rw [hm.2]
      refine rb_icmp_eq_same hB (tgt := 529) d_law_356 (by rw [hx.1, hm.1]) (by decide) ?_
      exact hnext _ _ hRel
    · refine hS.2.2.2.1 _ _ _ _ _ _ _ _ _ _ _ 361 d_law_32 (by decide) (by decide) rfl (by decide) ?_
      refine rb_aload_n hB (j := 1) d_law_361 rfl ?_
      refine rb_aload_n hB (j := 0) d_law_362 rfl ?_
      refine rb_iload_n hB (j := 3) d_law_363 rfl ?_
      refine rb_iconst hB d_law_364 ?_
      refine rb_iadd hB d_law_365 ?_
      refine hS.2.1 _ _ _ _ _ d_law_366 (by omega) ?_
      refine lX_1 hX k_L45 (c_Xsplit (μ := μ) hRel (hys _)) d_law_367 (by decide) (Nat.le_of_ble_eq_true rfl) (fun zx ux hx => ?_)
      refine rb_aload_n hB (j := 2) d_law_370 rfl ?_
      refine rb_aload_n hB (j := 0) d_law_371 rfl ?_
      refine rb_iload_n hB (j := 3) d_law_372 rfl ?_
      refine rb_iconst hB d_law_373 ?_
      refine rb_iadd hB d_law_374 ?_
      refine hS.2.1 _ _ _ _ _ d_law_375 (by omega) ?_
      refine lM_1 hM k_L49 (c_Msplit hRel.MI (hys _)) d_law_376 (by decide) (Nat.le_of_ble_eq_true rfl) (fun zm um hm => ?_)
      rw [hm.2]
      refine rb_icmp_eq_same hB (tgt := 529) d_law_379 (by rw [hx.1, hm.1]) (by decide) ?_
      exact hnext _ _ hx.2
    · refine hS.2.2.2.1 _ _ _ _ _ _ _ _ _ _ _ 384 d_law_32 (by decide) (by decide) rfl (by decide) ?_
      refine rb_aload_n hB (j := 1) d_law_384 rfl ?_
      refine rb_aload_n hB (j := 0) d_law_385 rfl ?_
      refine rb_iload_n hB (j := 3) d_law_386 rfl ?_
      refine rb_iconst hB d_law_387 ?_
      refine rb_iadd hB d_law_388 ?_
      refine hS.2.1 _ _ _ _ _ d_law_389 (by omega) ?_
      refine rb_aload_n hB (j := 0) d_law_390 rfl ?_
      refine rb_iload_n hB (j := 3) d_law_391 rfl ?_
      refine rb_iconst hB d_law_392 ?_
      refine rb_iadd hB d_law_393 ?_
      refine hS.2.1 _ _ _ _ _ d_law_394 (by omega) ?_
      refine rb_aload_n hB (j := 0) d_law_395 rfl ?_
      refine rb_iload_n hB (j := 3) d_law_396 rfl ?_
      refine rb_iconst hB d_law_397 ?_
      refine rb_iadd hB d_law_398 ?_
      refine hS.2.1 _ _ _ _ _ d_law_399 (by omega) ?_
      refine lX_3 hX k_L50 (c_Xcopy (μ := μ) hRel (hys _) (hys _) (hys _)) d_law_400 (by decide) (Nat.le_of_ble_eq_true rfl) (fun zx ux hx => ?_)
      refine rb_aload_n hB (j := 2) d_law_403 rfl ?_
      refine rb_aload_n hB (j := 0) d_law_404 rfl ?_
      refine rb_iload_n hB (j := 3) d_law_405 rfl ?_
      refine rb_iconst hB d_law_406 ?_
      refine rb_iadd hB d_law_407 ?_
      refine hS.2.1 _ _ _ _ _ d_law_408 (by omega) ?_
      refine rb_aload_n hB (j := 0) d_law_409 rfl ?_
      refine rb_iload_n hB (j := 3) d_law_410 rfl ?_
      refine rb_iconst hB d_law_411 ?_
      refine rb_iadd hB d_law_412 ?_
      refine hS.2.1 _ _ _ _ _ d_law_413 (by omega) ?_
      refine rb_aload_n hB (j := 0) d_law_414 rfl ?_
      refine rb_iload_n hB (j := 3) d_law_415 rfl ?_
      refine rb_iconst hB d_law_416 ?_
      refine rb_iadd hB d_law_417 ?_
      refine hS.2.1 _ _ _ _ _ d_law_418 (by omega) ?_
      refine lM_3 hM k_L53 (c_Mcopy hRel.MI (hys _) (hys _) (hys _)) d_law_419 (by decide) (Nat.le_of_ble_eq_true rfl) (fun zm um hm => ?_)
      rw [hm.2]
      refine rb_icmp_eq_same hB (tgt := 529) d_law_422 (by rw [hx.1, hm.1]) (by decide) ?_
      exact hnext _ _ hx.2
    · refine hS.2.2.2.1 _ _ _ _ _ _ _ _ _ _ _ 427 d_law_32 (by decide) (by decide) rfl (by decide) ?_
      refine rb_aload_n hB (j := 1) d_law_427 rfl ?_
      refine rb_aload_n hB (j := 0) d_law_428 rfl ?_
      refine rb_iload_n hB (j := 3) d_law_429 rfl ?_
      refine rb_iconst hB d_law_430 ?_
      refine rb_iadd hB d_law_431 ?_
      refine hS.2.1 _ _ _ _ _ d_law_432 (by omega) ?_
      refine rb_aload_n hB (j := 0) d_law_433 rfl ?_
      refine rb_iload_n hB (j := 3) d_law_434 rfl ?_
      refine rb_iconst hB d_law_435 ?_
      refine rb_iadd hB d_law_436 ?_
      refine hS.2.1 _ _ _ _ _ d_law_437 (by omega) ?_
      refine rb_aload_n hB (j := 0) d_law_438 rfl ?_
      refine rb_iload_n hB (j := 3) d_law_439 rfl ?_
      refine rb_iconst hB d_law_440 ?_
      refine rb_iadd hB d_law_441 ?_
      refine hS.2.1 _ _ _ _ _ d_law_442 (by omega) ?_
      refine lX_3 hX k_L54 (c_XunmapRange (μ := μ) hRel (hys _) (hys _) (hys _)) d_law_443 (by decide) (Nat.le_of_ble_eq_true rfl) (fun zx ux hx => ?_)
      refine rb_aload_n hB (j := 2) d_law_446 rfl ?_
      refine rb_aload_n hB (j := 0) d_law_447 rfl ?_
      refine rb_iload_n hB (j := 3) d_law_448 rfl ?_
      refine rb_iconst hB d_law_449 ?_
      refine rb_iadd hB d_law_450 ?_
      refine hS.2.1 _ _ _ _ _ d_law_451 (by omega) ?_
      refine rb_aload_n hB (j := 0) d_law_452 rfl ?_
      refine rb_iload_n hB (j := 3) d_law_453 rfl ?_
      refine rb_iconst hB d_law_454 ?_
      refine rb_iadd hB d_law_455 ?_
      refine hS.2.1 _ _ _ _ _ d_law_456 (by omega) ?_
      refine rb_aload_n hB (j := 0) d_law_457 rfl ?_
      refine rb_iload_n hB (j := 3) d_law_458 rfl ?_
      refine rb_iconst hB d_law_459 ?_
      refine rb_iadd hB d_law_460 ?_
      refine hS.2.1 _ _ _ _ _ d_law_461 (by omega) ?_
      refine lM_3 hM k_L57 (c_MunmapRange hRel.MI (hys _) (hys _) (hys _)) d_law_462 (by decide) (Nat.le_of_ble_eq_true rfl) (fun zm um hm => ?_)
      rw [hm.2]
      refine rb_icmp_eq_same hB (tgt := 529) d_law_465 (by rw [hx.1, hm.1]) (by decide) ?_
      exact hnext _ _ hx.2
    · refine hS.2.2.2.1 _ _ _ _ _ _ _ _ _ _ _ 470 d_law_32 (by decide) (by decide) rfl (by decide) ?_
      refine rb_aload_n hB (j := 1) d_law_470 rfl ?_
      refine rb_aload_n hB (j := 0) d_law_471 rfl ?_
      refine rb_iload_n hB (j := 3) d_law_472 rfl ?_
      refine rb_iconst hB d_law_473 ?_
      refine rb_iadd hB d_law_474 ?_
      refine hS.2.1 _ _ _ _ _ d_law_475 (by omega) ?_
      refine lX_1 hX k_L58 (c_Xpresent (μ := μ) hRel (hys _)) d_law_476 (by decide) (Nat.le_of_ble_eq_true rfl) (fun zx ux hx => ?_)
      rw [hx.2]
      refine rb_aload_n hB (j := 2) d_law_479 rfl ?_
      refine rb_aload_n hB (j := 0) d_law_480 rfl ?_
      refine rb_iload_n hB (j := 3) d_law_481 rfl ?_
      refine rb_iconst hB d_law_482 ?_
      refine rb_iadd hB d_law_483 ?_
      refine hS.2.1 _ _ _ _ _ d_law_484 (by omega) ?_
      refine lM_1 hM k_L61 (c_Mpresent hRel.MI (hys _)) d_law_485 (by decide) (Nat.le_of_ble_eq_true rfl) (fun zm um hm => ?_)
      rw [hm.2]
      refine rb_icmp_eq_same hB (tgt := 529) d_law_488 (by rw [hx.1, hm.1]) (by decide) ?_
      exact hnext _ _ hRel
    · refine hS.2.2.2.1 _ _ _ _ _ _ _ _ _ _ _ 493 d_law_32 (by decide) (by decide) rfl (by decide) ?_
      refine rb_aload_n hB (j := 1) d_law_493 rfl ?_
      refine lX_0 hX k_L62 (c_XinUse (μ := μ) hRel ) d_law_494 (by decide) (Nat.le_of_ble_eq_true rfl) (fun zx ux hx => ?_)
      rw [hx.2]
      refine rb_aload_n hB (j := 2) d_law_497 rfl ?_
      refine lM_0 hM k_L66 (c_MinUse hRel.MI ) d_law_498 (by decide) (Nat.le_of_ble_eq_true rfl) (fun zm um hm => ?_)
      rw [hm.2]
      refine rb_icmp_eq_same hB (tgt := 529) d_law_501 (by rw [hx.1, hm.1]) (by decide) ?_
      exact hnext _ _ hRel
    · refine hS.2.2.2.1 _ _ _ _ _ _ _ _ _ _ _ 506 d_law_32 (by decide) (by decide) rfl (by decide) ?_
      refine rb_aload_n hB (j := 1) d_law_506 rfl ?_
      refine rb_aload_n hB (j := 0) d_law_507 rfl ?_
      refine rb_iload_n hB (j := 3) d_law_508 rfl ?_
      refine rb_iconst hB d_law_509 ?_
      refine rb_iadd hB d_law_510 ?_
      refine hS.2.1 _ _ _ _ _ d_law_511 (by omega) ?_
      refine lX_1 hX k_L67 (c_Xdigest (μ := μ) hRel (hys _)) d_law_512 (by decide) (Nat.le_of_ble_eq_true rfl) (fun zx ux hx => ?_)
      rw [hx.2]
      refine rb_aload_n hB (j := 2) d_law_515 rfl ?_
      refine rb_aload_n hB (j := 0) d_law_516 rfl ?_
      refine rb_iload_n hB (j := 3) d_law_517 rfl ?_
      refine rb_iconst hB d_law_518 ?_
      refine rb_iadd hB d_law_519 ?_
      refine hS.2.1 _ _ _ _ _ d_law_520 (by omega) ?_
      refine lM_1 hM k_L70 (c_Mdigest hRel.MI (hys _)) d_law_521 (by decide) (Nat.le_of_ble_eq_true rfl) (fun zm um hm => ?_)
      rw [hm.2]
      refine rb_icmp_eq_same hB (tgt := 529) d_law_524 (by rw [hx.1, hm.1]) (by decide) ?_
      exact hnext _ _ hRel
    · exact hS.2.2.2.2 _ _ _ _ _ _ _ _ _ _ 529 d_law_32 (by decide) (by decide) (hnext _ _ hRel)
    · exact hS.2.2.2.2 _ _ _ _ _ _ _ _ _ _ 529 d_law_32 (by decide) (by decide) (hnext _ _ hRel)
    · exact hS.2.2.2.2 _ _ _ _ _ _ _ _ _ _ 529 d_law_32 (by decide) (by decide) (hnext _ _ hRel)
end
section
section LW
variable {p : Program} {l : Launch} {e : Env} {s : State} {m : MethodId} {args : Array Value} {below : List Frame} {meth : Method} {c : Code} {Q : State → Prop} {D : va_G} {A : Nat → Prop} {H0 : Heap} {w1 w2 : zW}
theorem LX_GW (hx : p.tables.exec = Jvm.exec) (hb : c.code = code) (hml : c.maxLocals = 4) (hown : s.vm.findClass R_law = some m.cls) (hts : ∀ w ∈ lw_tbl, w.before args s = true) (hK : va_K D classes (tysX w1 ++ tysM w2) s) (hA : ∀ q, H0.size ≤ q → A q) : LX l D w1 (GW p l e room_1 s m args below meth c 13 352 Q D A H0 4 (w2f w1 w2)) := by
  intro st μ pc lv stk idx y b1 mL rt n k As post hk hn hr hc d hs kk H locs ls hP hD hS hl
  have hP : va_P D classes (wX w1 st ++ wM w2 μ) H := hP
  have hD : va_D A (wX w1 st ++ wM w2 μ) := hD
  have hPc := hP.sub (ws' := wX w1 st) [0, 1, 2, 3, 4, 5, 6, 7, 8] rfl
  have hDc := hD.sub (ws' := wX w1 st) [0, 1, 2, 3, 4, 5, 6, 7, 8] (by decide) rfl
  have hKc := hK.sub (tys' := tysX w1) [0, 1, 2, 3, 4, 5, 6, 7] rfl
  have hFc := va_free (wc := wX w1 st) hD hS hA [0, 1, 2, 3, 4, 5, 6, 7, 8] rfl
  refine va_calli (va_runV (As := As) (rest := stk) ⟨hx, hb, hml, hown, hts⟩ (hc H.size) (cwV n hts (zgood wT_sub hk) rfl rfl rfl hk.2.2.2.2.2 hr) ⟨fun a U g mk q => by obtain ⟨q0, q1, qP, qK, qD⟩ := q; exact ⟨q0, q1, qP, va_K.moved (u := U) (U := U.calling g mk a) (Vm.Alike.refl U.vm) qK, qD⟩, va_recv hKc hPc (ci := 0) (q0 := 0) rfl rfl, fun U hU hW => ⟨rfl, by rw [hU], by rw [hU]; exact hPc, va_K.moved hW.alike hKc, hDc.weaken (fun _ _ _ _ => trivial)⟩⟩ rfl hn hl.1 rfl (lv_room hs) d ⟨Nat.le_of_ble_eq_true rfl, Nat.le_of_ble_eq_true rfl⟩) hS (fun q _ h => hFc q h) hFc (fun r u t H1 locs1 ht hvm hw hB hz1 hk1 hS1 => ?_)
  obtain ⟨hP1, hK1, hD1⟩ := hB
  rw [ht] at hP1
  obtain ⟨z, hr9, hp⟩ := hw
  subst hr9
  obtain ⟨hP2, hD2⟩ := va_join (wr := wM w2 μ) (w1 := wX w1 u) hP hD [0, 1, 2, 3, 4, 5, 6, 7, 8] [9, 10, 11, 12] rfl rfl (by decide) (by decide) hk1 hFc hP1 hD1
  exact kk z u hp H1 locs1 ls (hP2.sub [4, 5, 6, 7, 8, 9, 10, 11, 12, 0, 1, 2, 3] rfl) (hD2.sub [4, 5, 6, 7, 8, 9, 10, 11, 12, 0, 1, 2, 3] (by decide) rfl) hS1 hl
theorem LM_GW (hx : p.tables.exec = Jvm.exec) (hb : c.code = code) (hml : c.maxLocals = 4) (hown : s.vm.findClass R_law = some m.cls) (hts : ∀ w ∈ lw_tbl, w.before args s = true) (hK : va_K D classes (tysX w1 ++ tysM w2) s) (hA : ∀ q, H0.size ≤ q → A q) : LM l D w2 (GW p l e room_1 s m args below meth c 13 352 Q D A H0 4 (w2f w1 w2)) := by
  intro st μ pc lv stk idx y b1 mL rt n k As post hk hn hr hc d hs kk H locs ls hP hD hS hl
  have hP : va_P D classes (wX w1 st ++ wM w2 μ) H := hP
  have hD : va_D A (wX w1 st ++ wM w2 μ) := hD
  have hPc := hP.sub (ws' := wM w2 μ) [9, 10, 11, 12] rfl
  have hDc := hD.sub (ws' := wM w2 μ) [9, 10, 11, 12] (by decide) rfl
  have hKc := hK.sub (tys' := tysM w2) [8, 9, 10] rfl
  have hFc := va_free (wc := wM w2 μ) hD hS hA [9, 10, 11, 12] rfl
  refine va_calli (va_runV (As := As) (rest := stk) ⟨hx, hb, hml, hown, hts⟩ (hc H.size) (cwV n hts (zgood wT_sub hk) rfl rfl rfl hk.2.2.2.2.2 hr) ⟨fun a U g mk q => by obtain ⟨q0, q1, qP, qK, qD⟩ := q; exact ⟨q0, q1, qP, va_K.moved (u := U) (U := U.calling g mk a) (Vm.Alike.refl U.vm) qK, qD⟩, va_recv hKc hPc (ci := 1) (q0 := 0) rfl rfl, fun U hU hW => ⟨rfl, by rw [hU], by rw [hU]; exact hPc, va_K.moved hW.alike hKc, hDc.weaken (fun _ _ _ _ => trivial)⟩⟩ rfl hn hl.1 rfl (lv_room hs) d ⟨Nat.le_of_ble_eq_true rfl, Nat.le_of_ble_eq_true rfl⟩) hS (fun q _ h => hFc q h) hFc (fun r u t H1 locs1 ht hvm hw hB hz1 hk1 hS1 => ?_)
  obtain ⟨hP1, hK1, hD1⟩ := hB
  rw [ht] at hP1
  obtain ⟨z, hr9, hp⟩ := hw
  subst hr9
  obtain ⟨hP2, hD2⟩ := va_join (wr := wX w1 st) (w1 := wM w2 u) hP hD [9, 10, 11, 12] [0, 1, 2, 3, 4, 5, 6, 7, 8] rfl rfl (by decide) (by decide) hk1 hFc hP1 hD1
  exact kk z u hp H1 locs1 ls hP2 hD2 hS1 hl
theorem RS_GW {b L : Nat} {xs : Nat → Int32} (hx : p.tables.exec = Jvm.exec) (hb : c.code = code) (hX : va_X b L xs s H0) (hbl : b < H0.size) (hbA : ¬ A b) (hL : L ≤ 2560) : RS (GW p l e room_1 s m args below meth c 13 352 Q D A H0 4 (w2f w1 w2)) b L (fun i => (xs i.toNat).toInt) := by
  refine ⟨?_, ?_, ?_, ?_, ?_⟩
  · intro st pc lv stk d k H locs ls hP hD hS hl
    refine va_slen hx hb hX hbl hbA hS d ?_
    rw [show Int32.ofNat L = zI (L : Int) from (zI_nat L).symm]
    exact k H locs ls hP hD hS hl
  · intro st pc lv stk i d hi k H locs ls hP hD hS hl
    refine va_sld hx hb hX hbl hbA hS (zI_in hi.1 hi.2 (by omega)) d ?_
    rw [zI_clamp hi.1 (by omega), ← zI_of (xs i.toNat)]
    exact k H locs ls hP hD hS hl
  · intro st pc lv stk x d k H locs ls hP hD hS hl
    refine lv_iand hx hb d ?_
    obtain ⟨j, hj, ej⟩ := pk_andE (zI x) (m := zI 15) 4 (by decide)
    rw [ej, ← zI_nat]
    exact k (j : Int) (by omega) (by omega) H locs ls hP hD hS hl
  · intro st pc lv stk x dflt lo hi offs len off tgt d h1 h2 ho ht k H locs ls hP hD hS hl
    exact lv_tableIn hx hb d h1 h2 ho ht (k H locs ls hP hD hS hl)
  · intro st pc lv stk x dflt lo hi offs len tgt d h ht k H locs ls hP hD hS hl
    exact lv_tableOut hx hb d h ht (k H locs ls hP hD hS hl)
end LW
theorem zgoodI {y : MethodName} {b : ByteArray} {mL : Nat} {ret : Option FieldType} (h : Cond.code y b mL ret ∈ wT) : GoodIn lw_tbl (Cond.code y b mL ret :: wT) := by
  intro w hw
  rcases List.mem_cons.mp hw with rfl | hw
  · exact ⟨wT_sub _ h, good_of_word (wT_good _ h)⟩
  · exact ⟨wT_sub _ hw, good_of_word (wT_good _ hw)⟩
theorem m_cXinit : Cond.code y_Xinit b_Xinit 2 none ∈ wT := wT_in 27 rfl rfl
theorem m_lXinit : Cond.methodLink R_law 9 y_Xinit ∈ wT := wT_in 25 rfl rfl
theorem m_iXinit : Cond.instanceMethod y_Xinit ∈ wT := wT_in 26 rfl rfl
theorem m_nX : Cond.instantiable R_X 9 ∈ wT := wT_in 24 rfl rfl
theorem m_kX : Cond.classLink R_law 7 R_X ∈ wT := wT_in 23 rfl rfl
theorem m_cMinit : Cond.code y_Minit b_Minit 1 none ∈ wT := wT_in 191 rfl rfl
theorem m_lMinit : Cond.methodLink R_law 12 y_Minit ∈ wT := wT_in 189 rfl rfl
theorem m_iMinit : Cond.instanceMethod y_Minit ∈ wT := wT_in 190 rfl rfl
theorem m_nM : Cond.instantiable R_M 3 ∈ wT := wT_in 188 rfl rfl
theorem m_kM : Cond.classLink R_law 10 R_M ∈ wT := wT_in 187 rfl rfl
set_option maxHeartbeats 4000000 in
set_option maxRecDepth 100000 in
/-- THE LAW, from its entry -/
theorem whole_start {p : Program} {e : Env} {s : State} {m : MethodId} {below : List Frame} {meth : Method} {c : Code} (l : Launch) {b L : Nat} {xs : Nat → Int32} (hL : L ≤ 2560) (C0 : lw_At p s m meth c b L xs) : W p l e room_1 s m #[Value.ref b] below meth c s.heap [] 0 0 (lw_Z below #[Value.ref b] s) (entryFrame m ([Value.ref b] : List Value).toArray 4) := by
  obtain ⟨hx, hb, hr, hml, hown, hts, hX, hbl, hlocks, hgv⟩ := id C0
  have hA : ∀ q : Nat, s.heap.size ≤ q → (fun q : Nat => s.heap.size ≤ q) q := fun _ h => h
  have hbA : ¬ (fun q : Nat => s.heap.size ≤ q) b := Nat.not_le.mpr hbl
  obtain ⟨c0, iS0, hKn0⟩ := u_known (C := R_X) (T := F_X) (N := 9) (n := 9) hts (fun w h => wT_sub w (i_X w h)) (hts _ (wT_sub _ m_nX))
  obtain ⟨c1, iS1, hKn1⟩ := u_known (C := R_M) (T := F_M) (N := 3) (n := 3) hts (fun w h => wT_sub w (i_M w h)) (hts _ (wT_sub _ m_nM))
  obtain ⟨dC, dI, hKc⟩ : ∃ (dC : Nat → ClassId) (dI : Nat → Nat → Nat), ∀ (k : Nat) (q : vw_C), classes[k]? = some q → u_Kn s q.1 q.2.1 q.2.2 (dC k) (dI k) := by
    refine ⟨fun k => if k = 0 then c0 else c1, fun k => if k = 0 then iS0 else iS1, ?_⟩
    intro k q hq
    match k, hq with
    | 0, hq => cases hq; exact hKn0
    | 1, hq => cases hq; exact hKn1
    | k + 2, hq => simp [classes] at hq
  have hS : va_S (fun q : Nat => s.heap.size ≤ q) s.heap s.heap [] := va_S.rf
  have hK : va_K (dC, dI) classes [] s := ⟨hKc, fun k q h => by simp at h⟩
  have hP : va_P (dC, dI) classes [] s.heap := fun k q h => by simp at h
  have hD : va_D (fun q : Nat => s.heap.size ≤ q) [] := ⟨fun i j p q h => by simp at h, fun k q h => by simp at h⟩
  have hl := lv_entry ([.ref b]) (n := 4) (Nat.le_of_ble_eq_true rfl)
  rw [lg_entry_eq]
  generalize (lg_sl ([.ref b]) ++ List.replicate (4 - (lg_sl ([.ref b])).length) Slot.unset).toArray = ls at hl ⊢
  have hl : lv_has ls 4 [(0, .ref b)] := hl
  refine va_new (ci := 0) (fs := [.null, .null, .null, .null, .null, .null, .null, .int 0, .null]) (C := R_X) (T := F_X) (N := 9) hx hb hts (fun w h => wT_sub w (i_X w h)) t_X t_X_ok hown (hts _ (wT_sub _ m_kX)) (hts _ (wT_sub _ m_nX)) (hts _ (wT_sub _ m_ini_X)) hK hP hD hS hA rfl (fun j hj => by rcases (show j = 0 ∨ j = 1 ∨ j = 2 ∨ j = 3 ∨ j = 4 ∨ j = 5 ∨ j = 6 ∨ j = 7 ∨ j = 8 by omega) with rfl | rfl | rfl | rfl | rfl | rfl | rfl | rfl | rfl <;> rfl) (Nat.le_of_ble_eq_true rfl) (Nat.le_of_ble_eq_true rfl) d_law_0 (fun qx H hP hD hS => ?_)
  have hP : va_P (dC, dI) classes ([(qx, .inr (0, [.null, .null, .null, .null, .null, .null, .null, .int 0, .null]))]) H := hP
  have hD : va_D (fun q : Nat => s.heap.size ≤ q) ([(qx, .inr (0, [.null, .null, .null, .null, .null, .null, .null, .int 0, .null]))]) := hD
  refine W.widen (k := 1) (n := 9) (Nat.le_of_ble_eq_true rfl) (Nat.le_of_ble_eq_true rfl) ?_
  refine lv_dup hx hb d_law_3 rfl ?_
  have hPc := hP.sub (ws' := [(qx, .inr (0, [.null, .null, .null, .null, .null, .null, .null, .int 0, .null]))]) [0] rfl
  have hDc := hD.sub (ws' := [(qx, .inr (0, [.null, .null, .null, .null, .null, .null, .null, .int 0, .null]))]) [0] (by decide) rfl
  have hKc := hK.sub (tys' := []) [] rfl
  have hFc := va_free (wc := [(qx, .inr (0, [.null, .null, .null, .null, .null, .null, .null, .int 0, .null]))]) hD hS hA [0] rfl
  refine va_callv (va_runI (As := []) (rest := [.ref qx]) ⟨hx, hb, hml, hown, hts⟩ (c_Xinit l (dC, dI) qx H.size) (cwI 0 hts (zgoodI m_cXinit) rfl rfl rfl (hts _ (wT_sub _ m_ini_X)) (hts _ (wT_sub _ m_lXinit)) (hts _ (wT_sub _ m_iXinit)) rfl (by decide +kernel) ⟨Nat.le_of_ble_eq_true rfl, Nat.le_of_ble_eq_true rfl⟩) ⟨fun a U g mk q => by obtain ⟨q0, q1, qP, qK, qD⟩ := q; exact ⟨q0, q1, qP, va_K.moved (u := U) (U := U.calling g mk a) (Vm.Alike.refl U.vm) qK, qD⟩, fun U hU hW => ⟨rfl, by rw [hU], by rw [hU]; exact hPc, va_K.moved hW.alike hKc, hDc.weaken (fun _ _ _ _ => trivial)⟩⟩ rfl rfl hl.1 rfl (lv_room (Nat.le_of_ble_eq_true rfl)) d_law_4 ⟨Nat.le_of_ble_eq_true rfl, Nat.le_of_ble_eq_true rfl⟩) hS (fun q _ h => hFc q h) hFc (fun u t H1 locs ht hvm hw hB hz1 hk1 hS => ?_)
  obtain ⟨w1, st⟩ := u
  obtain ⟨hw10, hst⟩ := hw
  obtain ⟨hP1, hK1, hD1⟩ := hB
  rw [ht] at hP1
  have hK1 := va_K.moved hvm.symm hK1
  obtain ⟨hP, hD⟩ := va_join (wr := []) (w1 := wX w1 st) hP hD [0] [] rfl rfl (by decide) (by decide) hk1 hFc hP1 hD1
  have hK := (hK.sub (tys' := []) [] rfl).app hK1
  generalize H1 = H at hP hS ⊢
  refine W.widen (k := 9) (n := 173) (Nat.le_of_ble_eq_true rfl) (Nat.le_of_ble_eq_true rfl) ?_
  have hP : va_P (dC, dI) classes (wX w1 st) H := hP
  have hD : va_D (fun q : Nat => s.heap.size ≤ q) (wX w1 st) := hD
  have hK : va_K (dC, dI) classes (tysX w1) s := hK
  refine lv_astore_n (lv' := [(1, .ref qx), (0, .ref b)]) hx hb d_law_7 rfl hl (by decide) rfl (fun ls hl => ?_)
  refine va_new (ci := 1) (fs := [.null, .null, .null]) (C := R_M) (T := F_M) (N := 3) hx hb hts (fun w h => wT_sub w (i_M w h)) t_M t_M_ok hown (hts _ (wT_sub _ m_kM)) (hts _ (wT_sub _ m_nM)) (hts _ (wT_sub _ m_ini_M)) hK hP hD hS hA rfl (fun j hj => by rcases (show j = 0 ∨ j = 1 ∨ j = 2 by omega) with rfl | rfl | rfl <;> rfl) (Nat.le_of_ble_eq_true rfl) (Nat.le_of_ble_eq_true rfl) d_law_8 (fun qm H hP hD hS => ?_)
  have hP : va_P (dC, dI) classes (wX w1 st ++ [(qm, .inr (1, [.null, .null, .null]))]) H := hP
  have hD : va_D (fun q : Nat => s.heap.size ≤ q) (wX w1 st ++ [(qm, .inr (1, [.null, .null, .null]))]) := hD
  refine W.widen (k := 10) (n := 176) (Nat.le_of_ble_eq_true rfl) (Nat.le_of_ble_eq_true rfl) ?_
  refine lv_dup hx hb d_law_11 rfl ?_
  have hPc := hP.sub (ws' := [(qm, .inr (1, [.null, .null, .null]))]) [9] rfl
  have hDc := hD.sub (ws' := [(qm, .inr (1, [.null, .null, .null]))]) [9] (by decide) rfl
  have hKc := hK.sub (tys' := []) [] rfl
  have hFc := va_free (wc := [(qm, .inr (1, [.null, .null, .null]))]) hD hS hA [9] rfl
  refine va_callv (va_runI (As := []) (rest := [.ref qm]) ⟨hx, hb, hml, hown, hts⟩ (c_Minit l (dC, dI) qm H.size) (cwI 0 hts (zgoodI m_cMinit) rfl rfl rfl (hts _ (wT_sub _ m_ini_M)) (hts _ (wT_sub _ m_lMinit)) (hts _ (wT_sub _ m_iMinit)) rfl (by decide +kernel) ⟨Nat.le_of_ble_eq_true rfl, Nat.le_of_ble_eq_true rfl⟩) ⟨fun a U g mk q => by obtain ⟨q0, q1, qP, qK, qD⟩ := q; exact ⟨q0, q1, qP, va_K.moved (u := U) (U := U.calling g mk a) (Vm.Alike.refl U.vm) qK, qD⟩, fun U hU hW => ⟨rfl, by rw [hU], by rw [hU]; exact hPc, va_K.moved hW.alike hKc, hDc.weaken (fun _ _ _ _ => trivial)⟩⟩ rfl rfl hl.1 rfl (lv_room (Nat.le_of_ble_eq_true rfl)) d_law_12 ⟨Nat.le_of_ble_eq_true rfl, Nat.le_of_ble_eq_true rfl⟩) hS (fun q _ h => hFc q h) hFc (fun u t H1 locs ht hvm hw hB hz1 hk1 hS => ?_)
  obtain ⟨w2, μ⟩ := u
  obtain ⟨hw20, hμ⟩ := hw
  obtain ⟨hP1, hK1, hD1⟩ := hB
  rw [ht] at hP1
  have hK1 := va_K.moved hvm.symm hK1
  obtain ⟨hP, hD⟩ := va_join (wr := wX w1 st) (w1 := wM w2 μ) hP hD [9] [0, 1, 2, 3, 4, 5, 6, 7, 8] rfl rfl (by decide) (by decide) hk1 hFc hP1 hD1
  have hK := (hK.sub (tys' := tysX w1) [0, 1, 2, 3, 4, 5, 6, 7] rfl).app hK1
  generalize H1 = H at hP hS ⊢
  refine W.widen (k := 13) (n := 352) (Nat.le_of_ble_eq_true rfl) (Nat.le_of_ble_eq_true rfl) ?_
  have hP : va_P (dC, dI) classes (w2f w1 w2 (st, μ)) H := hP
  have hD : va_D (fun q : Nat => s.heap.size ≤ q) (w2f w1 w2 (st, μ)) := hD
  have hK : va_K (dC, dI) classes (tysX w1 ++ tysM w2) s := hK
  refine lv_astore_n (lv' := [(2, .ref qm), (1, .ref qx), (0, .ref b)]) hx hb d_law_15 rfl hl (by decide) rfl (fun ls hl => ?_)
  refine lv_iconst (v := 0) hx hb d_law_16 (by decide) ?_
  refine lv_istore_n (lv' := [(3, .int 0), (2, .ref qm), (1, .ref qx), (0, .ref b)]) hx hb d_law_17 rfl hl (by decide) rfl (fun ls hl => ?_)
  have hl4 : lv_has ls 4 [(0, .ref b), (1, .ref (w1.1 0)), (2, .ref (w2.1 0)), (3, .int (zI 0))] := by
    rw [hw10, hw20, zI_0]
    exact lv_sub hl [3, 2, 1, 0] rfl
  have hRel : Rel st μ := by
    have e1 : st = x0 32 8 4 := hst
    have e2 : μ = z0 := hμ
    rw [e1, e2]
    exact Rel_0
  exact law_18 (G := GW p l e room_1 s m #[Value.ref b] below meth c 13 352 (lw_Z below #[Value.ref b] s) (dC, dI) (fun q : Nat => s.heap.size ≤ q) s.heap 4 (w2f w1 w2)) (RB_GW hx hb) (RS_GW hx hb hX hbl hbA hL) (LX_GW hx hb hml hown hts hK hA) (LM_GW hx hb hml hown hts hK hA) (fun st lv H locs ls hP hD hS hl => by
    refine va_forget (fun q hq => hS.2.2 q hq) ?_
    rw [show zI 1 = 1 by decide]
    exact lw_ret hx hb hr hlocks d_law_536) hL (fun i => zI_rng _) (L + 6) 0 st μ (by omega) (by omega) (by omega) hRel H locs ls hP hD hS hl4
end
section
set_option maxHeartbeats 4000000 in
theorem lw_walk (l : Launch) (b : Addr) (xs : List Int32) : MetFree l x (headSpec (Jvm.Cond.code x code maxLocals ret :: tables_1) room_1) (lw_P b xs) (fun _ _ _ _ _ => True) lw_Q := by
  refine MetFree.of_bodyS (code := code) (maxLocals := maxLocals) (ret := ret) (by decide) ?_ ?_
  · intro args s m h hn
    obtain ⟨meth, c, h1, h2, h3, h4, h5, h6, -, -⟩ := Cond.code_spec hn (atoms_spec (ws := Jvm.Cond.code x code maxLocals ret :: tables_1) h _ List.mem_cons_self)
    exact ⟨meth, c, h1, h2, h3, h4, h5, h6⟩
  · intro p e s m args below meth c s₁ B hml0 hP _
    obtain ⟨rfl, hx, hbd, hgv⟩ := hP
    obtain ⟨scr, harrAt, hlist, hof, hsmall⟩ := hx
    obtain ⟨hcb, hkn, -, -⟩ := State.arrayAt?_spec harrAt
    have hown : s.vm.findClass R_law = some m.cls := findClass_of_methodNamed B.named
    have hts0 : ∀ c ∈ (Jvm.Cond.code x code maxLocals ret :: tables_1), c.before #[Value.ref b] s = true := atoms_spec (ws := Jvm.Cond.code x code maxLocals ret :: tables_1) B.pre
    have hts : ∀ w ∈ lw_tbl, w.before #[Value.ref b] s = true := k2_hts_sels lw_privs (fun w hw => hts0 w (List.mem_cons_of_mem _ hw)) lw_privs_ok
    have hml : c.maxLocals = 4 := B.maxLocals_eq (hts0 _ List.mem_cons_self)
    have X₀ : Stand p l e room_1 s m #[Value.ref b] below meth c s₁ [] 0 0 := Stand.of_body B
    have hh0 : s₁.heap = s.heap := by rw [B.state]; rfl
    have hsz : scr.slots.size = xs.length := by rw [← Array.length_toList, hlist, List.length_map]
    have hval : ∀ j : Nat, j < xs.length → scr.slots[j]? = some (.int (xs.getD j 0)) := fun j hj => by
      rw [← Array.getElem?_toList, hlist]
      simp [hj]
    have hbl : b < s.heap.size := (Array.getElem?_eq_some_iff.mp hcb).1
    have hX : va_X b xs.length (fun j => xs.getD j 0) s s.heap := ⟨scr, hcb, hof, hkn, hsz, hval⟩
    have K : W p l e room_1 s m #[Value.ref b] below meth c s₁.heap [] 0 0 (lw_Z below #[Value.ref b] s) (entryFrame m ([Value.ref b] : List Value).toArray 4) := by
      rw [hh0]
      exact whole_start l hbd ⟨B.exec, B.bytes, B.returns, hml, hown, hts, hX, hbl, B.notSynchronized, hgv⟩
    obtain ⟨t, a1, o, b1, b2, b3⟩ := K s₁ rfl X₀
    exact ⟨t, o, a1, b1, b2, b3⟩
theorem lw_pre_spec {args : Array Value} {s : State} (h : (Jvm.Cond.and given_1 narrow_1).before args s = true) (hr : rest_1_c.before args s = true) : ∃ (b : Addr) (xs : List Int32), lw_P b xs args s := by
  have hs := flat_of_before _ h
  have hq := flat_of_before _ hr
  have hc : (Cond.count 1).before args s = true := hs _ (by decide +kernel)
  have harr : (Cond.arrayOf (.arg 0) .int).before args s = true := hs _ (by decide +kernel)
  have hle : (Cond.le (.length (.arg 0)) (.int 2560)).before args s = true := hs _ (by decide +kernel)
  have hlen : (Cond.isInt (.length (.arg 0))).before args s = true := hq _ (by decide +kernel)
  have hall : (Cond.all (.arg 0) (.isInt (.elem (.arg 0) (.index 0)))).before args s = true := hq _ (by decide +kernel)
  obtain ⟨b, xs, hb, hx⟩ := State.ints_of_pre rfl harr hlen hall
  have hsm : xs.length < 2 ^ 31 := hx.choose_spec.2.2.2
  have hev : (Term.length (.arg 0)).eval args s none [] s = some (.int xs.length.toInt32) := hx.length_eval hb
  have hv := Cond.le_ints hev (show (Term.int 2560).eval args s none [] s = some (.int 2560) from rfl)
  have hd : xs.length.toInt32 ≤ 2560 := by
    simpa [Cond.before, Cond.holds, hv] using hle
  have hN : xs.length ≤ 2560 := (Int32.ofNat_le_ofNat hsm (by decide)).mp (show Int32.ofNat xs.length ≤ Int32.ofNat 2560 from hd)
  exact ⟨b, xs, Cond.one_arg hc (show args[0]? = some (.ref b) from hb), hx, hN, h⟩
theorem lw_comes (l : Launch) : Comes l x (Jvm.Cond.code x code maxLocals ret :: tables_1) room_1 (fun tb e args s => Calls_1 tb e args s ∧ rest_1 tb e args s ∧ Pre_1 tb e args s)
    (fun _ _ args s o t => lw_Q args s o t) := by
  intro p e ha hc hk s m args below hf hfit hheap happ hpre
  obtain ⟨b, xs, hP⟩ := lw_pre_spec hpre.2.2 hpre.2.1
  obtain ⟨k, o, h1, h2, h3, hQ⟩ := lw_walk l b xs p e ha hc hk s m args below hf ((Spec.applies_iff_loose hf).mp happ).1 hP trivial
  exact ⟨k, o, h1, h2, h3, hQ⟩
theorem lw_frame {s t : State} {o : Outcome} {args : Array Value} (h : Framed s o t [] 13 352) :
    Framed s o t (fieldLocs frame_1_writes args s ++ arrayLocs frame_1_arrays args s ++ staticLocs frame_1_statics s) 13 352 := h
theorem lw_limb (L : Cond) (hL : ∀ (args : Array Value) (s t : State), L.after args s (.returned (some (.int 1))) t = true) :
    ArmFor flags0 classFile x code maxLocals ret World_1 tables_1 room_1 Calls_1 rest_1 Pre_1
      (fun tb e a s o t => postC L tb e a s o t ∧ Framed s o t (fieldLocs frame_1_writes a s ++ arrayLocs frame_1_arrays a s ++ staticLocs frame_1_statics s) 13 352) := by
  intro l _ _ _ p e ha hc hk s m args below hf hfit hheap happ hpre
  obtain ⟨k, o, h1, h2, h3, rfl, hF⟩ := lw_comes l p e ha hc hk s m args below hf hfit hheap happ hpre
  exact ⟨k, _, h1, h2, h3, hL args s _, lw_frame hF⟩
theorem i_vc : Claimed_1_1 ∧ Claimed_1_2 := ⟨lw_limb limb_1_1 (fun args s t => by simp [limb_1_1, Cond.after, Cond.holds, Cond.value]), lw_limb limb_1_2 (fun args s t => Cond.after_iff.mpr (by
  first | (rw [show limb_1_2 = Cond.eq .result (.int 1) from rfl, Cond.eq_ints (x := 1) (y := 1) rfl rfl]; simp; done) | (simp [limb_1_2, Cond.value, Term.eval]; done)))⟩
end
