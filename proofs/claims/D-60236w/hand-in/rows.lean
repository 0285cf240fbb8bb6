section
-- ===== PART A: goes FIRST, ahead of the names: the tables' words, and 'selects' of the private methods out of them =====
/-- a private method of a class that the tables say can be made, by its rows of tables_1 -/
def lw_okq (q : MethodName × Nat) : Prop := (q.1.cls ≠ "java/lang/invoke/MethodHandle" ∧ q.1.cls ≠ "java/lang/invoke/VarHandle") ∧ Cond.instantiable q.1.cls q.2 ∈ tables_1 ∧ Cond.privateMethod q.1 ∈ tables_1 ∧ Cond.instanceMethod q.1 ∈ tables_1
theorem lw_p0 : lw_okq (⟨"CertaintyChainer", "isRule", "(I)Z"⟩, 17) := ⟨⟨by decide +kernel, by decide +kernel⟩, List.mem_of_getElem? (i := 4) (by decide +kernel), List.mem_of_getElem? (i := 85) (by decide +kernel), List.mem_of_getElem? (i := 86) (by decide +kernel)⟩
theorem lw_p1 : lw_okq (⟨"CertaintyChainer", "refresh", "()V"⟩, 17) := ⟨⟨by decide +kernel, by decide +kernel⟩, List.mem_of_getElem? (i := 4) (by decide +kernel), List.mem_of_getElem? (i := 113) (by decide +kernel), List.mem_of_getElem? (i := 114) (by decide +kernel)⟩
theorem lw_p2 : lw_okq (⟨"CertaintyChainer", "settleAll", "()V"⟩, 17) := ⟨⟨by decide +kernel, by decide +kernel⟩, List.mem_of_getElem? (i := 4) (by decide +kernel), List.mem_of_getElem? (i := 117) (by decide +kernel), List.mem_of_getElem? (i := 118) (by decide +kernel)⟩
theorem lw_p3 : lw_okq (⟨"CertaintyChainer", "makeOffer", "(I)V"⟩, 17) := ⟨⟨by decide +kernel, by decide +kernel⟩, List.mem_of_getElem? (i := 4) (by decide +kernel), List.mem_of_getElem? (i := 121) (by decide +kernel), List.mem_of_getElem? (i := 122) (by decide +kernel)⟩
theorem lw_p4 : lw_okq (⟨"CertaintyChainer", "worth", "(I)I"⟩, 17) := ⟨⟨by decide +kernel, by decide +kernel⟩, List.mem_of_getElem? (i := 4) (by decide +kernel), List.mem_of_getElem? (i := 125) (by decide +kernel), List.mem_of_getElem? (i := 126) (by decide +kernel)⟩
theorem lw_p5 : lw_okq (⟨"CertaintyChainer", "best", "(I)I"⟩, 17) := ⟨⟨by decide +kernel, by decide +kernel⟩, List.mem_of_getElem? (i := 4) (by decide +kernel), List.mem_of_getElem? (i := 129) (by decide +kernel), List.mem_of_getElem? (i := 130) (by decide +kernel)⟩
theorem lw_p6 : lw_okq (⟨"CertaintyChainer", "count", "(II)V"⟩, 17) := ⟨⟨by decide +kernel, by decide +kernel⟩, List.mem_of_getElem? (i := 4) (by decide +kernel), List.mem_of_getElem? (i := 133) (by decide +kernel), List.mem_of_getElem? (i := 134) (by decide +kernel)⟩
theorem lw_p7 : lw_okq (⟨"CertaintyChainer", "settleWithout", "(I)V"⟩, 17) := ⟨⟨by decide +kernel, by decide +kernel⟩, List.mem_of_getElem? (i := 4) (by decide +kernel), List.mem_of_getElem? (i := 145) (by decide +kernel), List.mem_of_getElem? (i := 146) (by decide +kernel)⟩
theorem lw_p8 : lw_okq (⟨"CertaintyChainer", "keepValues", "()V"⟩, 17) := ⟨⟨by decide +kernel, by decide +kernel⟩, List.mem_of_getElem? (i := 4) (by decide +kernel), List.mem_of_getElem? (i := 169) (by decide +kernel), List.mem_of_getElem? (i := 170) (by decide +kernel)⟩
theorem lw_p9 : lw_okq (⟨"CertaintyChainer", "changes", "()I"⟩, 17) := ⟨⟨by decide +kernel, by decide +kernel⟩, List.mem_of_getElem? (i := 4) (by decide +kernel), List.mem_of_getElem? (i := 173) (by decide +kernel), List.mem_of_getElem? (i := 174) (by decide +kernel)⟩
theorem lw_p10 : lw_okq (⟨"CertaintyChainerModel", "bad", "(I)Z"⟩, 12) := ⟨⟨by decide +kernel, by decide +kernel⟩, List.mem_of_getElem? (i := 181) (by decide +kernel), List.mem_of_getElem? (i := 228) (by decide +kernel), List.mem_of_getElem? (i := 229) (by decide +kernel)⟩
theorem lw_p11 : lw_okq (⟨"CertaintyChainerModel", "badRule", "(I)Z"⟩, 12) := ⟨⟨by decide +kernel, by decide +kernel⟩, List.mem_of_getElem? (i := 181) (by decide +kernel), List.mem_of_getElem? (i := 244) (by decide +kernel), List.mem_of_getElem? (i := 245) (by decide +kernel)⟩
theorem lw_p12 : lw_okq (⟨"CertaintyChainerModel", "workOut", "(III)V"⟩, 12) := ⟨⟨by decide +kernel, by decide +kernel⟩, List.mem_of_getElem? (i := 181) (by decide +kernel), List.mem_of_getElem? (i := 272) (by decide +kernel), List.mem_of_getElem? (i := 273) (by decide +kernel)⟩
theorem lw_p13 : lw_okq (⟨"CertaintyChainerModel", "raise", "(II)Z"⟩, 12) := ⟨⟨by decide +kernel, by decide +kernel⟩, List.mem_of_getElem? (i := 181) (by decide +kernel), List.mem_of_getElem? (i := 276) (by decide +kernel), List.mem_of_getElem? (i := 277) (by decide +kernel)⟩
theorem lw_p14 : lw_okq (⟨"CertaintyChainerModel", "asks", "(I)I"⟩, 12) := ⟨⟨by decide +kernel, by decide +kernel⟩, List.mem_of_getElem? (i := 181) (by decide +kernel), List.mem_of_getElem? (i := 280) (by decide +kernel), List.mem_of_getElem? (i := 281) (by decide +kernel)⟩
theorem lw_p15 : lw_okq (⟨"CertaintyChainerModel", "keep", "()V"⟩, 12) := ⟨⟨by decide +kernel, by decide +kernel⟩, List.mem_of_getElem? (i := 181) (by decide +kernel), List.mem_of_getElem? (i := 312) (by decide +kernel), List.mem_of_getElem? (i := 313) (by decide +kernel)⟩
def lw_privs_1 : List (MethodName × Nat) := [(⟨"CertaintyChainer", "isRule", "(I)Z"⟩, 17), (⟨"CertaintyChainer", "refresh", "()V"⟩, 17), (⟨"CertaintyChainer", "settleAll", "()V"⟩, 17), (⟨"CertaintyChainer", "makeOffer", "(I)V"⟩, 17), (⟨"CertaintyChainer", "worth", "(I)I"⟩, 17), (⟨"CertaintyChainer", "best", "(I)I"⟩, 17), (⟨"CertaintyChainer", "count", "(II)V"⟩, 17), (⟨"CertaintyChainer", "settleWithout", "(I)V"⟩, 17), (⟨"CertaintyChainer", "keepValues", "()V"⟩, 17), (⟨"CertaintyChainer", "changes", "()I"⟩, 17), (⟨"CertaintyChainerModel", "bad", "(I)Z"⟩, 12), (⟨"CertaintyChainerModel", "badRule", "(I)Z"⟩, 12), (⟨"CertaintyChainerModel", "workOut", "(III)V"⟩, 12), (⟨"CertaintyChainerModel", "raise", "(II)Z"⟩, 12), (⟨"CertaintyChainerModel", "asks", "(I)I"⟩, 12), (⟨"CertaintyChainerModel", "keep", "()V"⟩, 12)]
theorem lw_r1 : ∀ q ∈ lw_privs_1, lw_okq q := List.forall_mem_cons.mpr ⟨lw_p0, List.forall_mem_cons.mpr ⟨lw_p1, List.forall_mem_cons.mpr ⟨lw_p2, List.forall_mem_cons.mpr ⟨lw_p3, List.forall_mem_cons.mpr ⟨lw_p4, List.forall_mem_cons.mpr ⟨lw_p5, List.forall_mem_cons.mpr ⟨lw_p6, List.forall_mem_cons.mpr ⟨lw_p7, List.forall_mem_cons.mpr ⟨lw_p8, List.forall_mem_cons.mpr ⟨lw_p9, List.forall_mem_cons.mpr ⟨lw_p10, List.forall_mem_cons.mpr ⟨lw_p11, List.forall_mem_cons.mpr ⟨lw_p12, List.forall_mem_cons.mpr ⟨lw_p13, List.forall_mem_cons.mpr ⟨lw_p14, List.forall_mem_cons.mpr ⟨lw_p15, fun _ h => absurd h List.not_mem_nil⟩⟩⟩⟩⟩⟩⟩⟩⟩⟩⟩⟩⟩⟩⟩⟩
theorem lw_p16 : lw_okq (⟨"CertaintyChainerModel", "others", "()I"⟩, 12) := ⟨⟨by decide +kernel, by decide +kernel⟩, List.mem_of_getElem? (i := 181) (by decide +kernel), List.mem_of_getElem? (i := 316) (by decide +kernel), List.mem_of_getElem? (i := 317) (by decide +kernel)⟩
def lw_privs_2 : List (MethodName × Nat) := [(⟨"CertaintyChainerModel", "others", "()I"⟩, 12)]
theorem lw_r2 : ∀ q ∈ lw_privs_2, lw_okq q := List.forall_mem_cons.mpr ⟨lw_p16, fun _ h => absurd h List.not_mem_nil⟩
def lw_privs : List (MethodName × Nat) := lw_privs_1 ++ (lw_privs_2)
def lw_tbl : List Cond := k2_sels lw_privs ++ tables_1
theorem lw_privs_ok : ∀ q ∈ lw_privs, lw_okq q := by
  show ∀ q ∈ lw_privs_1 ++ (lw_privs_2), lw_okq q
  exact List.forall_mem_append.mpr ⟨lw_r1, lw_r2⟩
/-! ===== names ===== -/
def R_X : String := "CertaintyChainer"
def F_X : u_T := fun k => match k with
  | 0 => ("CertaintyChainer", "heads", "[I", true)
  | 1 => ("CertaintyChainer", "strengths", "[I", true)
  | 2 => ("CertaintyChainer", "sizes", "[I", true)
  | 3 => ("CertaintyChainer", "parts", "[I", true)
  | 4 => ("CertaintyChainer", "negations", "[Z", true)
  | 5 => ("CertaintyChainer", "draftParts", "[I", true)
  | 6 => ("CertaintyChainer", "draftNegations", "[Z", true)
  | 7 => ("CertaintyChainer", "seen", "[I", true)
  | 8 => ("CertaintyChainer", "value", "[I", true)
  | 9 => ("CertaintyChainer", "offer", "[I", true)
  | 10 => ("CertaintyChainer", "settled", "[Z", true)
  | 11 => ("CertaintyChainer", "waiting", "[I", true)
  | 12 => ("CertaintyChainer", "kept", "[I", true)
  | 13 => ("CertaintyChainer", "draftSize", "I", false)
  | 14 => ("CertaintyChainer", "count", "I", false)
  | 15 => ("CertaintyChainer", "skipped", "I", false)
  | _ => ("CertaintyChainer", "current", "Z", false)
def t_X : Nat → FieldType := fun k => match k with
  | 0 => .array .int
  | 1 => .array .int
  | 2 => .array .int
  | 3 => .array .int
  | 4 => .array .boolean
  | 5 => .array .int
  | 6 => .array .boolean
  | 7 => .array .int
  | 8 => .array .int
  | 9 => .array .int
  | 10 => .array .boolean
  | 11 => .array .int
  | 12 => .array .int
  | 13 => .int
  | 14 => .int
  | 15 => .int
  | _ => .boolean
abbrev w_X : List Cond := u_ws R_X F_X 17
def R_M : String := "CertaintyChainerModel"
def F_M : u_T := fun k => match k with
  | 0 => ("CertaintyChainerModel", "observed", "[I", false)
  | 1 => ("CertaintyChainerModel", "drafted", "I", false)
  | 2 => ("CertaintyChainerModel", "draftClaim", "[I", false)
  | 3 => ("CertaintyChainerModel", "draftNot", "[Z", false)
  | 4 => ("CertaintyChainerModel", "count", "I", false)
  | 5 => ("CertaintyChainerModel", "head", "[I", false)
  | 6 => ("CertaintyChainerModel", "strength", "[I", false)
  | 7 => ("CertaintyChainerModel", "size", "[I", false)
  | 8 => ("CertaintyChainerModel", "claims", "[I", false)
  | 9 => ("CertaintyChainerModel", "negated", "[Z", false)
  | 10 => ("CertaintyChainerModel", "value", "[I", false)
  | _ => ("CertaintyChainerModel", "kept", "[I", false)
def t_M : Nat → FieldType := fun k => match k with
  | 0 => .array .int
  | 1 => .int
  | 2 => .array .int
  | 3 => .array .boolean
  | 4 => .int
  | 5 => .array .int
  | 6 => .array .int
  | 7 => .array .int
  | 8 => .array .int
  | 9 => .array .boolean
  | 10 => .array .int
  | _ => .array .int
abbrev w_M : List Cond := u_ws R_M F_M 12
def lw_g : List Cond := lw_tbl.filter goodWord
abbrev classes : List vw_C := [(R_X, F_X, 17), (R_M, F_M, 12)]
theorem n_X : ∀ a, a < 17 → ∀ b, b < 17 → a ≠ b → (F_X a).2.1 ≠ (F_X b).2.1 := by decide +kernel
theorem t_X_ok : ∀ k, k < 17 → parseFieldDescriptor (F_X k).2.2.1 = some (t_X k) := by decide +kernel
theorem i_X : ∀ w ∈ w_X, w ∈ lw_g := by decide +kernel
theorem n_M : ∀ a, a < 12 → ∀ b, b < 12 → a ≠ b → (F_M a).2.1 ≠ (F_M b).2.1 := by decide +kernel
theorem t_M_ok : ∀ k, k < 12 → parseFieldDescriptor (F_M k).2.2.1 = some (t_M k) := by decide +kernel
theorem i_M : ∀ w ∈ w_M, w ∈ lw_g := by decide +kernel
theorem lw_good : ∀ w ∈ lw_g, goodWord w = true := fun w h => (List.mem_filter.mp h).2
theorem lw_gsub : ∀ w ∈ lw_g, w ∈ lw_tbl := fun w h => (List.mem_filter.mp h).1
/-! ===== words of the tables, by their places ===== -/
theorem fl_X_7 : Cond.fieldLink R_X 7 "CertaintyChainer" "heads" "[I" ∈ lw_g := List.mem_filter.mpr ⟨List.mem_of_getElem? (i := 28) (by decide +kernel), rfl⟩
theorem fl_X_13 : Cond.fieldLink R_X 13 "CertaintyChainer" "strengths" "[I" ∈ lw_g := List.mem_filter.mpr ⟨List.mem_of_getElem? (i := 29) (by decide +kernel), rfl⟩
theorem fl_X_16 : Cond.fieldLink R_X 16 "CertaintyChainer" "sizes" "[I" ∈ lw_g := List.mem_filter.mpr ⟨List.mem_of_getElem? (i := 30) (by decide +kernel), rfl⟩
theorem fl_X_19 : Cond.fieldLink R_X 19 "CertaintyChainer" "parts" "[I" ∈ lw_g := List.mem_filter.mpr ⟨List.mem_of_getElem? (i := 31) (by decide +kernel), rfl⟩
theorem fl_X_22 : Cond.fieldLink R_X 22 "CertaintyChainer" "negations" "[Z" ∈ lw_g := List.mem_filter.mpr ⟨List.mem_of_getElem? (i := 32) (by decide +kernel), rfl⟩
theorem fl_X_26 : Cond.fieldLink R_X 26 "CertaintyChainer" "draftParts" "[I" ∈ lw_g := List.mem_filter.mpr ⟨List.mem_of_getElem? (i := 33) (by decide +kernel), rfl⟩
theorem fl_X_29 : Cond.fieldLink R_X 29 "CertaintyChainer" "draftNegations" "[Z" ∈ lw_g := List.mem_filter.mpr ⟨List.mem_of_getElem? (i := 34) (by decide +kernel), rfl⟩
theorem fl_X_32 : Cond.fieldLink R_X 32 "CertaintyChainer" "seen" "[I" ∈ lw_g := List.mem_filter.mpr ⟨List.mem_of_getElem? (i := 35) (by decide +kernel), rfl⟩
theorem fl_X_35 : Cond.fieldLink R_X 35 "CertaintyChainer" "value" "[I" ∈ lw_g := List.mem_filter.mpr ⟨List.mem_of_getElem? (i := 36) (by decide +kernel), rfl⟩
theorem fl_X_38 : Cond.fieldLink R_X 38 "CertaintyChainer" "offer" "[I" ∈ lw_g := List.mem_filter.mpr ⟨List.mem_of_getElem? (i := 37) (by decide +kernel), rfl⟩
theorem fl_X_41 : Cond.fieldLink R_X 41 "CertaintyChainer" "settled" "[Z" ∈ lw_g := List.mem_filter.mpr ⟨List.mem_of_getElem? (i := 38) (by decide +kernel), rfl⟩
theorem fl_X_44 : Cond.fieldLink R_X 44 "CertaintyChainer" "waiting" "[I" ∈ lw_g := List.mem_filter.mpr ⟨List.mem_of_getElem? (i := 39) (by decide +kernel), rfl⟩
theorem fl_X_47 : Cond.fieldLink R_X 47 "CertaintyChainer" "kept" "[I" ∈ lw_g := List.mem_filter.mpr ⟨List.mem_of_getElem? (i := 40) (by decide +kernel), rfl⟩
theorem fl_X_58 : Cond.fieldLink R_X 58 "CertaintyChainer" "draftSize" "I" ∈ lw_g := List.mem_filter.mpr ⟨List.mem_of_getElem? (i := 41) (by decide +kernel), rfl⟩
theorem fl_X_61 : Cond.fieldLink R_X 61 "CertaintyChainer" "count" "I" ∈ lw_g := List.mem_filter.mpr ⟨List.mem_of_getElem? (i := 42) (by decide +kernel), rfl⟩
theorem fl_X_50 : Cond.fieldLink R_X 50 "CertaintyChainer" "skipped" "I" ∈ lw_g := List.mem_filter.mpr ⟨List.mem_of_getElem? (i := 43) (by decide +kernel), rfl⟩
theorem fl_X_64 : Cond.fieldLink R_X 64 "CertaintyChainer" "current" "Z" ∈ lw_g := List.mem_filter.mpr ⟨List.mem_of_getElem? (i := 44) (by decide +kernel), rfl⟩
theorem ini_X : Cond.initialized R_X ∈ lw_g := List.mem_filter.mpr ⟨List.mem_of_getElem? (i := 18) (by decide +kernel), rfl⟩
theorem ins_X : Cond.instantiable R_X 17 ∈ lw_g := List.mem_filter.mpr ⟨List.mem_of_getElem? (i := 21) (by decide +kernel), rfl⟩
theorem fl_M_7 : Cond.fieldLink R_M 7 "CertaintyChainerModel" "observed" "[I" ∈ lw_g := List.mem_filter.mpr ⟨List.mem_of_getElem? (i := 203) (by decide +kernel), rfl⟩
theorem fl_M_49 : Cond.fieldLink R_M 49 "CertaintyChainerModel" "drafted" "I" ∈ lw_g := List.mem_filter.mpr ⟨List.mem_of_getElem? (i := 204) (by decide +kernel), rfl⟩
theorem fl_M_13 : Cond.fieldLink R_M 13 "CertaintyChainerModel" "draftClaim" "[I" ∈ lw_g := List.mem_filter.mpr ⟨List.mem_of_getElem? (i := 205) (by decide +kernel), rfl⟩
theorem fl_M_16 : Cond.fieldLink R_M 16 "CertaintyChainerModel" "draftNot" "[Z" ∈ lw_g := List.mem_filter.mpr ⟨List.mem_of_getElem? (i := 206) (by decide +kernel), rfl⟩
theorem fl_M_41 : Cond.fieldLink R_M 41 "CertaintyChainerModel" "count" "I" ∈ lw_g := List.mem_filter.mpr ⟨List.mem_of_getElem? (i := 207) (by decide +kernel), rfl⟩
theorem fl_M_20 : Cond.fieldLink R_M 20 "CertaintyChainerModel" "head" "[I" ∈ lw_g := List.mem_filter.mpr ⟨List.mem_of_getElem? (i := 208) (by decide +kernel), rfl⟩
theorem fl_M_23 : Cond.fieldLink R_M 23 "CertaintyChainerModel" "strength" "[I" ∈ lw_g := List.mem_filter.mpr ⟨List.mem_of_getElem? (i := 209) (by decide +kernel), rfl⟩
theorem fl_M_26 : Cond.fieldLink R_M 26 "CertaintyChainerModel" "size" "[I" ∈ lw_g := List.mem_filter.mpr ⟨List.mem_of_getElem? (i := 210) (by decide +kernel), rfl⟩
theorem fl_M_29 : Cond.fieldLink R_M 29 "CertaintyChainerModel" "claims" "[I" ∈ lw_g := List.mem_filter.mpr ⟨List.mem_of_getElem? (i := 211) (by decide +kernel), rfl⟩
theorem fl_M_32 : Cond.fieldLink R_M 32 "CertaintyChainerModel" "negated" "[Z" ∈ lw_g := List.mem_filter.mpr ⟨List.mem_of_getElem? (i := 212) (by decide +kernel), rfl⟩
theorem fl_M_35 : Cond.fieldLink R_M 35 "CertaintyChainerModel" "value" "[I" ∈ lw_g := List.mem_filter.mpr ⟨List.mem_of_getElem? (i := 213) (by decide +kernel), rfl⟩
theorem fl_M_38 : Cond.fieldLink R_M 38 "CertaintyChainerModel" "kept" "[I" ∈ lw_g := List.mem_filter.mpr ⟨List.mem_of_getElem? (i := 214) (by decide +kernel), rfl⟩
theorem ini_M : Cond.initialized R_M ∈ lw_g := List.mem_filter.mpr ⟨List.mem_of_getElem? (i := 19) (by decide +kernel), rfl⟩
theorem ins_M : Cond.instantiable R_M 12 ∈ lw_g := List.mem_filter.mpr ⟨List.mem_of_getElem? (i := 198) (by decide +kernel), rfl⟩
theorem ini_law : Cond.initialized "CertaintyChainerLaw" ∈ lw_g := List.mem_filter.mpr ⟨List.mem_of_getElem? (i := 17) (by decide +kernel), rfl⟩
theorem arr_I : Cond.arrayClass .int ∈ lw_g := List.mem_filter.mpr ⟨List.mem_of_getElem? (i := 80) (by decide +kernel), rfl⟩
theorem arr_Z : Cond.arrayClass .boolean ∈ lw_g := List.mem_filter.mpr ⟨List.mem_of_getElem? (i := 81) (by decide +kernel), rfl⟩
theorem oi_c : Cond.code objectInit ⟨#[0xb1]⟩ 1 none ∈ lw_g := List.mem_filter.mpr ⟨List.mem_of_getElem? (i := 27) (by decide +kernel), rfl⟩
theorem oi_i : Cond.instanceMethod objectInit ∈ lw_g := List.mem_filter.mpr ⟨List.mem_of_getElem? (i := 26) (by decide +kernel), rfl⟩
theorem oi_X : Cond.methodLink R_X 1 objectInit ∈ lw_g := List.mem_filter.mpr ⟨List.mem_of_getElem? (i := 25) (by decide +kernel), rfl⟩
theorem oi_M : Cond.methodLink R_M 1 objectInit ∈ lw_g := List.mem_filter.mpr ⟨List.mem_of_getElem? (i := 202) (by decide +kernel), rfl⟩
theorem cl_law_7 : Cond.classLink "CertaintyChainerLaw" 7 R_X ∈ lw_g := List.mem_filter.mpr ⟨List.mem_of_getElem? (i := 20) (by decide +kernel), rfl⟩
theorem cl_law_10 : Cond.classLink "CertaintyChainerLaw" 10 R_M ∈ lw_g := List.mem_filter.mpr ⟨List.mem_of_getElem? (i := 197) (by decide +kernel), rfl⟩
/-! ===== methods ===== -/
abbrev b_X_init : ByteArray := prog_1_method_1_code
def y_X_init : MethodName := ⟨R_X, "<init>", "()V"⟩
def w_X_init : List Cond := Cond.code y_X_init b_X_init 1 none :: lw_g
set_option maxRecDepth 20000 in
theorem cd_X_init : Cond.code y_X_init b_X_init 1 none ∈ lw_g := List.mem_filter.mpr ⟨List.mem_of_getElem? (i := 24) rfl, rfl⟩
theorem im_X_init : Cond.instanceMethod y_X_init ∈ lw_g := List.mem_filter.mpr ⟨List.mem_of_getElem? (i := 23) (by decide +kernel), rfl⟩
abbrev b_X_premise : ByteArray := prog_1_method_2_code
def y_X_premise : MethodName := ⟨R_X, "premise", "(II)I"⟩
def w_X_premise : List Cond := Cond.code y_X_premise b_X_premise 3 (some .int) :: lw_g
set_option maxRecDepth 20000 in
theorem cd_X_premise : Cond.code y_X_premise b_X_premise 3 (some .int) ∈ lw_g := List.mem_filter.mpr ⟨List.mem_of_getElem? (i := 85) rfl, rfl⟩
theorem im_X_premise : Cond.instanceMethod y_X_premise ∈ lw_g := List.mem_filter.mpr ⟨List.mem_of_getElem? (i := 83) (by decide +kernel), rfl⟩
theorem se_X_premise : Cond.selects R_X y_X_premise y_X_premise ∈ lw_g := List.mem_filter.mpr ⟨List.mem_of_getElem? (i := 84) (by decide +kernel), rfl⟩
abbrev b_X_clear : ByteArray := prog_1_method_3_code
def y_X_clear : MethodName := ⟨R_X, "clear", "()I"⟩
def w_X_clear : List Cond := Cond.code y_X_clear b_X_clear 2 (some .int) :: lw_g
set_option maxRecDepth 20000 in
theorem cd_X_clear : Cond.code y_X_clear b_X_clear 2 (some .int) ∈ lw_g := List.mem_filter.mpr ⟨List.mem_of_getElem? (i := 92) rfl, rfl⟩
theorem im_X_clear : Cond.instanceMethod y_X_clear ∈ lw_g := List.mem_filter.mpr ⟨List.mem_of_getElem? (i := 90) (by decide +kernel), rfl⟩
theorem se_X_clear : Cond.selects R_X y_X_clear y_X_clear ∈ lw_g := List.mem_filter.mpr ⟨List.mem_of_getElem? (i := 91) (by decide +kernel), rfl⟩
abbrev b_X_rule : ByteArray := prog_1_method_4_code
def y_X_rule : MethodName := ⟨R_X, "rule", "(II)I"⟩
def w_X_rule : List Cond := Cond.code y_X_rule b_X_rule 5 (some .int) :: lw_g
set_option maxRecDepth 20000 in
theorem cd_X_rule : Cond.code y_X_rule b_X_rule 5 (some .int) ∈ lw_g := List.mem_filter.mpr ⟨List.mem_of_getElem? (i := 96) rfl, rfl⟩
theorem im_X_rule : Cond.instanceMethod y_X_rule ∈ lw_g := List.mem_filter.mpr ⟨List.mem_of_getElem? (i := 94) (by decide +kernel), rfl⟩
theorem se_X_rule : Cond.selects R_X y_X_rule y_X_rule ∈ lw_g := List.mem_filter.mpr ⟨List.mem_of_getElem? (i := 95) (by decide +kernel), rfl⟩
abbrev b_X_remove : ByteArray := prog_1_method_5_code
def y_X_remove : MethodName := ⟨R_X, "remove", "(I)I"⟩
def w_X_remove : List Cond := Cond.code y_X_remove b_X_remove 4 (some .int) :: lw_g
set_option maxRecDepth 20000 in
theorem cd_X_remove : Cond.code y_X_remove b_X_remove 4 (some .int) ∈ lw_g := List.mem_filter.mpr ⟨List.mem_of_getElem? (i := 100) rfl, rfl⟩
theorem im_X_remove : Cond.instanceMethod y_X_remove ∈ lw_g := List.mem_filter.mpr ⟨List.mem_of_getElem? (i := 98) (by decide +kernel), rfl⟩
theorem se_X_remove : Cond.selects R_X y_X_remove y_X_remove ∈ lw_g := List.mem_filter.mpr ⟨List.mem_of_getElem? (i := 99) (by decide +kernel), rfl⟩
abbrev b_X_strengthen : ByteArray := prog_1_method_6_code
def y_X_strengthen : MethodName := ⟨R_X, "strengthen", "(II)I"⟩
def w_X_strengthen : List Cond := Cond.code y_X_strengthen b_X_strengthen 4 (some .int) :: lw_g
set_option maxRecDepth 20000 in
theorem cd_X_strengthen : Cond.code y_X_strengthen b_X_strengthen 4 (some .int) ∈ lw_g := List.mem_filter.mpr ⟨List.mem_of_getElem? (i := 108) rfl, rfl⟩
theorem im_X_strengthen : Cond.instanceMethod y_X_strengthen ∈ lw_g := List.mem_filter.mpr ⟨List.mem_of_getElem? (i := 106) (by decide +kernel), rfl⟩
theorem se_X_strengthen : Cond.selects R_X y_X_strengthen y_X_strengthen ∈ lw_g := List.mem_filter.mpr ⟨List.mem_of_getElem? (i := 107) (by decide +kernel), rfl⟩
abbrev b_X_observe : ByteArray := prog_1_method_7_code
def y_X_observe : MethodName := ⟨R_X, "observe", "(II)I"⟩
def w_X_observe : List Cond := Cond.code y_X_observe b_X_observe 4 (some .int) :: lw_g
set_option maxRecDepth 20000 in
theorem cd_X_observe : Cond.code y_X_observe b_X_observe 4 (some .int) ∈ lw_g := List.mem_filter.mpr ⟨List.mem_of_getElem? (i := 112) rfl, rfl⟩
theorem im_X_observe : Cond.instanceMethod y_X_observe ∈ lw_g := List.mem_filter.mpr ⟨List.mem_of_getElem? (i := 110) (by decide +kernel), rfl⟩
theorem se_X_observe : Cond.selects R_X y_X_observe y_X_observe ∈ lw_g := List.mem_filter.mpr ⟨List.mem_of_getElem? (i := 111) (by decide +kernel), rfl⟩
abbrev b_X_rules : ByteArray := prog_1_method_8_code
def y_X_rules : MethodName := ⟨R_X, "rules", "()I"⟩
def w_X_rules : List Cond := Cond.code y_X_rules b_X_rules 1 (some .int) :: lw_g
set_option maxRecDepth 20000 in
theorem cd_X_rules : Cond.code y_X_rules b_X_rules 1 (some .int) ∈ lw_g := List.mem_filter.mpr ⟨List.mem_of_getElem? (i := 116) rfl, rfl⟩
theorem im_X_rules : Cond.instanceMethod y_X_rules ∈ lw_g := List.mem_filter.mpr ⟨List.mem_of_getElem? (i := 114) (by decide +kernel), rfl⟩
theorem se_X_rules : Cond.selects R_X y_X_rules y_X_rules ∈ lw_g := List.mem_filter.mpr ⟨List.mem_of_getElem? (i := 115) (by decide +kernel), rfl⟩
abbrev b_X_headOf : ByteArray := prog_1_method_9_code
def y_X_headOf : MethodName := ⟨R_X, "headOf", "(I)I"⟩
def w_X_headOf : List Cond := Cond.code y_X_headOf b_X_headOf 2 (some .int) :: lw_g
set_option maxRecDepth 20000 in
theorem cd_X_headOf : Cond.code y_X_headOf b_X_headOf 2 (some .int) ∈ lw_g := List.mem_filter.mpr ⟨List.mem_of_getElem? (i := 120) rfl, rfl⟩
theorem im_X_headOf : Cond.instanceMethod y_X_headOf ∈ lw_g := List.mem_filter.mpr ⟨List.mem_of_getElem? (i := 118) (by decide +kernel), rfl⟩
theorem se_X_headOf : Cond.selects R_X y_X_headOf y_X_headOf ∈ lw_g := List.mem_filter.mpr ⟨List.mem_of_getElem? (i := 119) (by decide +kernel), rfl⟩
abbrev b_X_observed : ByteArray := prog_1_method_10_code
def y_X_observed : MethodName := ⟨R_X, "observed", "(I)I"⟩
def w_X_observed : List Cond := Cond.code y_X_observed b_X_observed 2 (some .int) :: lw_g
set_option maxRecDepth 20000 in
theorem cd_X_observed : Cond.code y_X_observed b_X_observed 2 (some .int) ∈ lw_g := List.mem_filter.mpr ⟨List.mem_of_getElem? (i := 124) rfl, rfl⟩
theorem im_X_observed : Cond.instanceMethod y_X_observed ∈ lw_g := List.mem_filter.mpr ⟨List.mem_of_getElem? (i := 122) (by decide +kernel), rfl⟩
theorem se_X_observed : Cond.selects R_X y_X_observed y_X_observed ∈ lw_g := List.mem_filter.mpr ⟨List.mem_of_getElem? (i := 123) (by decide +kernel), rfl⟩
abbrev b_X_certainty : ByteArray := prog_1_method_11_code
def y_X_certainty : MethodName := ⟨R_X, "certainty", "(I)I"⟩
def w_X_certainty : List Cond := Cond.code y_X_certainty b_X_certainty 2 (some .int) :: lw_g
set_option maxRecDepth 20000 in
theorem cd_X_certainty : Cond.code y_X_certainty b_X_certainty 2 (some .int) ∈ lw_g := List.mem_filter.mpr ⟨List.mem_of_getElem? (i := 128) rfl, rfl⟩
theorem im_X_certainty : Cond.instanceMethod y_X_certainty ∈ lw_g := List.mem_filter.mpr ⟨List.mem_of_getElem? (i := 126) (by decide +kernel), rfl⟩
theorem se_X_certainty : Cond.selects R_X y_X_certainty y_X_certainty ∈ lw_g := List.mem_filter.mpr ⟨List.mem_of_getElem? (i := 127) (by decide +kernel), rfl⟩
abbrev b_X_whatIf : ByteArray := prog_1_method_12_code
def y_X_whatIf : MethodName := ⟨R_X, "whatIf", "(III)I"⟩
def w_X_whatIf : List Cond := Cond.code y_X_whatIf b_X_whatIf 5 (some .int) :: lw_g
set_option maxRecDepth 20000 in
theorem cd_X_whatIf : Cond.code y_X_whatIf b_X_whatIf 5 (some .int) ∈ lw_g := List.mem_filter.mpr ⟨List.mem_of_getElem? (i := 156) rfl, rfl⟩
theorem im_X_whatIf : Cond.instanceMethod y_X_whatIf ∈ lw_g := List.mem_filter.mpr ⟨List.mem_of_getElem? (i := 154) (by decide +kernel), rfl⟩
theorem se_X_whatIf : Cond.selects R_X y_X_whatIf y_X_whatIf ∈ lw_g := List.mem_filter.mpr ⟨List.mem_of_getElem? (i := 155) (by decide +kernel), rfl⟩
abbrev b_X_without : ByteArray := prog_1_method_13_code
def y_X_without : MethodName := ⟨R_X, "without", "(II)I"⟩
def w_X_without : List Cond := Cond.code y_X_without b_X_without 3 (some .int) :: lw_g
set_option maxRecDepth 20000 in
theorem cd_X_without : Cond.code y_X_without b_X_without 3 (some .int) ∈ lw_g := List.mem_filter.mpr ⟨List.mem_of_getElem? (i := 160) rfl, rfl⟩
theorem im_X_without : Cond.instanceMethod y_X_without ∈ lw_g := List.mem_filter.mpr ⟨List.mem_of_getElem? (i := 158) (by decide +kernel), rfl⟩
theorem se_X_without : Cond.selects R_X y_X_without y_X_without ∈ lw_g := List.mem_filter.mpr ⟨List.mem_of_getElem? (i := 159) (by decide +kernel), rfl⟩
abbrev b_X_supporter : ByteArray := prog_1_method_14_code
def y_X_supporter : MethodName := ⟨R_X, "supporter", "(I)I"⟩
def w_X_supporter : List Cond := Cond.code y_X_supporter b_X_supporter 3 (some .int) :: lw_g
set_option maxRecDepth 20000 in
theorem cd_X_supporter : Cond.code y_X_supporter b_X_supporter 3 (some .int) ∈ lw_g := List.mem_filter.mpr ⟨List.mem_of_getElem? (i := 168) rfl, rfl⟩
theorem im_X_supporter : Cond.instanceMethod y_X_supporter ∈ lw_g := List.mem_filter.mpr ⟨List.mem_of_getElem? (i := 166) (by decide +kernel), rfl⟩
theorem se_X_supporter : Cond.selects R_X y_X_supporter y_X_supporter ∈ lw_g := List.mem_filter.mpr ⟨List.mem_of_getElem? (i := 167) (by decide +kernel), rfl⟩
abbrev b_X_yield : ByteArray := prog_1_method_15_code
def y_X_yield : MethodName := ⟨R_X, "yield", "(I)I"⟩
def w_X_yield : List Cond := Cond.code y_X_yield b_X_yield 2 (some .int) :: lw_g
set_option maxRecDepth 20000 in
theorem cd_X_yield : Cond.code y_X_yield b_X_yield 2 (some .int) ∈ lw_g := List.mem_filter.mpr ⟨List.mem_of_getElem? (i := 172) rfl, rfl⟩
theorem im_X_yield : Cond.instanceMethod y_X_yield ∈ lw_g := List.mem_filter.mpr ⟨List.mem_of_getElem? (i := 170) (by decide +kernel), rfl⟩
theorem se_X_yield : Cond.selects R_X y_X_yield y_X_yield ∈ lw_g := List.mem_filter.mpr ⟨List.mem_of_getElem? (i := 171) (by decide +kernel), rfl⟩
abbrev b_X_atLeast : ByteArray := prog_1_method_16_code
def y_X_atLeast : MethodName := ⟨R_X, "atLeast", "(I)I"⟩
def w_X_atLeast : List Cond := Cond.code y_X_atLeast b_X_atLeast 4 (some .int) :: lw_g
set_option maxRecDepth 20000 in
theorem cd_X_atLeast : Cond.code y_X_atLeast b_X_atLeast 4 (some .int) ∈ lw_g := List.mem_filter.mpr ⟨List.mem_of_getElem? (i := 176) rfl, rfl⟩
theorem im_X_atLeast : Cond.instanceMethod y_X_atLeast ∈ lw_g := List.mem_filter.mpr ⟨List.mem_of_getElem? (i := 174) (by decide +kernel), rfl⟩
theorem se_X_atLeast : Cond.selects R_X y_X_atLeast y_X_atLeast ∈ lw_g := List.mem_filter.mpr ⟨List.mem_of_getElem? (i := 175) (by decide +kernel), rfl⟩
abbrev b_X_strongest : ByteArray := prog_1_method_17_code
def y_X_strongest : MethodName := ⟨R_X, "strongest", "(II)I"⟩
def w_X_strongest : List Cond := Cond.code y_X_strongest b_X_strongest 5 (some .int) :: lw_g
set_option maxRecDepth 20000 in
theorem cd_X_strongest : Cond.code y_X_strongest b_X_strongest 5 (some .int) ∈ lw_g := List.mem_filter.mpr ⟨List.mem_of_getElem? (i := 180) rfl, rfl⟩
theorem im_X_strongest : Cond.instanceMethod y_X_strongest ∈ lw_g := List.mem_filter.mpr ⟨List.mem_of_getElem? (i := 178) (by decide +kernel), rfl⟩
theorem se_X_strongest : Cond.selects R_X y_X_strongest y_X_strongest ∈ lw_g := List.mem_filter.mpr ⟨List.mem_of_getElem? (i := 179) (by decide +kernel), rfl⟩
abbrev b_X_essential : ByteArray := prog_1_method_18_code
def y_X_essential : MethodName := ⟨R_X, "essential", "()I"⟩
def w_X_essential : List Cond := Cond.code y_X_essential b_X_essential 3 (some .int) :: lw_g
set_option maxRecDepth 20000 in
theorem cd_X_essential : Cond.code y_X_essential b_X_essential 3 (some .int) ∈ lw_g := List.mem_filter.mpr ⟨List.mem_of_getElem? (i := 184) rfl, rfl⟩
theorem im_X_essential : Cond.instanceMethod y_X_essential ∈ lw_g := List.mem_filter.mpr ⟨List.mem_of_getElem? (i := 182) (by decide +kernel), rfl⟩
theorem se_X_essential : Cond.selects R_X y_X_essential y_X_essential ∈ lw_g := List.mem_filter.mpr ⟨List.mem_of_getElem? (i := 183) (by decide +kernel), rfl⟩
abbrev b_X_influence : ByteArray := prog_1_method_19_code
def y_X_influence : MethodName := ⟨R_X, "influence", "(I)I"⟩
def w_X_influence : List Cond := Cond.code y_X_influence b_X_influence 3 (some .int) :: lw_g
set_option maxRecDepth 20000 in
theorem cd_X_influence : Cond.code y_X_influence b_X_influence 3 (some .int) ∈ lw_g := List.mem_filter.mpr ⟨List.mem_of_getElem? (i := 196) rfl, rfl⟩
theorem im_X_influence : Cond.instanceMethod y_X_influence ∈ lw_g := List.mem_filter.mpr ⟨List.mem_of_getElem? (i := 194) (by decide +kernel), rfl⟩
theorem se_X_influence : Cond.selects R_X y_X_influence y_X_influence ∈ lw_g := List.mem_filter.mpr ⟨List.mem_of_getElem? (i := 195) (by decide +kernel), rfl⟩
abbrev b_X_isClaim : ByteArray := prog_1_method_20_code
def y_X_isClaim : MethodName := ⟨R_X, "isClaim", "(I)Z"⟩
def w_X_isClaim : List Cond := Cond.code y_X_isClaim b_X_isClaim 1 (some .boolean) :: lw_g
set_option maxRecDepth 20000 in
theorem cd_X_isClaim : Cond.code y_X_isClaim b_X_isClaim 1 (some .boolean) ∈ lw_g := List.mem_filter.mpr ⟨List.mem_of_getElem? (i := 88) rfl, rfl⟩
theorem st_X_isClaim : Cond.static y_X_isClaim ∈ lw_g := List.mem_filter.mpr ⟨List.mem_of_getElem? (i := 87) (by decide +kernel), rfl⟩
abbrev b_X_isRule : ByteArray := prog_1_method_21_code
def y_X_isRule : MethodName := ⟨R_X, "isRule", "(I)Z"⟩
def w_X_isRule : List Cond := Cond.code y_X_isRule b_X_isRule 2 (some .boolean) :: lw_g
set_option maxRecDepth 20000 in
theorem cd_X_isRule : Cond.code y_X_isRule b_X_isRule 2 (some .boolean) ∈ lw_g := List.mem_filter.mpr ⟨List.mem_of_getElem? (i := 104) rfl, rfl⟩
theorem im_X_isRule : Cond.instanceMethod y_X_isRule ∈ lw_g := List.mem_filter.mpr ⟨List.mem_of_getElem? (i := 103) (by decide +kernel), rfl⟩
theorem se_X_isRule : Cond.selects R_X y_X_isRule y_X_isRule ∈ lw_g := List.mem_filter.mpr ⟨List.mem_of_getElem? (i := 0) (by decide +kernel), rfl⟩
abbrev b_X_keepValues : ByteArray := prog_1_method_22_code
def y_X_keepValues : MethodName := ⟨R_X, "keepValues", "()V"⟩
def w_X_keepValues : List Cond := Cond.code y_X_keepValues b_X_keepValues 2 none :: lw_g
set_option maxRecDepth 20000 in
theorem cd_X_keepValues : Cond.code y_X_keepValues b_X_keepValues 2 none ∈ lw_g := List.mem_filter.mpr ⟨List.mem_of_getElem? (i := 188) rfl, rfl⟩
theorem im_X_keepValues : Cond.instanceMethod y_X_keepValues ∈ lw_g := List.mem_filter.mpr ⟨List.mem_of_getElem? (i := 187) (by decide +kernel), rfl⟩
theorem se_X_keepValues : Cond.selects R_X y_X_keepValues y_X_keepValues ∈ lw_g := List.mem_filter.mpr ⟨List.mem_of_getElem? (i := 8) (by decide +kernel), rfl⟩
abbrev b_X_changes : ByteArray := prog_1_method_23_code
def y_X_changes : MethodName := ⟨R_X, "changes", "()I"⟩
def w_X_changes : List Cond := Cond.code y_X_changes b_X_changes 3 (some .int) :: lw_g
set_option maxRecDepth 20000 in
theorem cd_X_changes : Cond.code y_X_changes b_X_changes 3 (some .int) ∈ lw_g := List.mem_filter.mpr ⟨List.mem_of_getElem? (i := 192) rfl, rfl⟩
theorem im_X_changes : Cond.instanceMethod y_X_changes ∈ lw_g := List.mem_filter.mpr ⟨List.mem_of_getElem? (i := 191) (by decide +kernel), rfl⟩
theorem se_X_changes : Cond.selects R_X y_X_changes y_X_changes ∈ lw_g := List.mem_filter.mpr ⟨List.mem_of_getElem? (i := 9) (by decide +kernel), rfl⟩
abbrev b_X_settleWithout : ByteArray := prog_1_method_24_code
def y_X_settleWithout : MethodName := ⟨R_X, "settleWithout", "(I)V"⟩
def w_X_settleWithout : List Cond := Cond.code y_X_settleWithout b_X_settleWithout 2 none :: lw_g
set_option maxRecDepth 20000 in
theorem cd_X_settleWithout : Cond.code y_X_settleWithout b_X_settleWithout 2 none ∈ lw_g := List.mem_filter.mpr ⟨List.mem_of_getElem? (i := 164) rfl, rfl⟩
theorem im_X_settleWithout : Cond.instanceMethod y_X_settleWithout ∈ lw_g := List.mem_filter.mpr ⟨List.mem_of_getElem? (i := 163) (by decide +kernel), rfl⟩
theorem se_X_settleWithout : Cond.selects R_X y_X_settleWithout y_X_settleWithout ∈ lw_g := List.mem_filter.mpr ⟨List.mem_of_getElem? (i := 7) (by decide +kernel), rfl⟩
abbrev b_X_refresh : ByteArray := prog_1_method_25_code
def y_X_refresh : MethodName := ⟨R_X, "refresh", "()V"⟩
def w_X_refresh : List Cond := Cond.code y_X_refresh b_X_refresh 1 none :: lw_g
set_option maxRecDepth 20000 in
theorem cd_X_refresh : Cond.code y_X_refresh b_X_refresh 1 none ∈ lw_g := List.mem_filter.mpr ⟨List.mem_of_getElem? (i := 132) rfl, rfl⟩
theorem im_X_refresh : Cond.instanceMethod y_X_refresh ∈ lw_g := List.mem_filter.mpr ⟨List.mem_of_getElem? (i := 131) (by decide +kernel), rfl⟩
theorem se_X_refresh : Cond.selects R_X y_X_refresh y_X_refresh ∈ lw_g := List.mem_filter.mpr ⟨List.mem_of_getElem? (i := 1) (by decide +kernel), rfl⟩
abbrev b_X_settleAll : ByteArray := prog_1_method_26_code
def y_X_settleAll : MethodName := ⟨R_X, "settleAll", "()V"⟩
def w_X_settleAll : List Cond := Cond.code y_X_settleAll b_X_settleAll 4 none :: lw_g
set_option maxRecDepth 20000 in
theorem cd_X_settleAll : Cond.code y_X_settleAll b_X_settleAll 4 none ∈ lw_g := List.mem_filter.mpr ⟨List.mem_of_getElem? (i := 136) rfl, rfl⟩
theorem im_X_settleAll : Cond.instanceMethod y_X_settleAll ∈ lw_g := List.mem_filter.mpr ⟨List.mem_of_getElem? (i := 135) (by decide +kernel), rfl⟩
theorem se_X_settleAll : Cond.selects R_X y_X_settleAll y_X_settleAll ∈ lw_g := List.mem_filter.mpr ⟨List.mem_of_getElem? (i := 2) (by decide +kernel), rfl⟩
abbrev b_X_best : ByteArray := prog_1_method_27_code
def y_X_best : MethodName := ⟨R_X, "best", "(I)I"⟩
def w_X_best : List Cond := Cond.code y_X_best b_X_best 4 (some .int) :: lw_g
set_option maxRecDepth 20000 in
theorem cd_X_best : Cond.code y_X_best b_X_best 4 (some .int) ∈ lw_g := List.mem_filter.mpr ⟨List.mem_of_getElem? (i := 148) rfl, rfl⟩
theorem im_X_best : Cond.instanceMethod y_X_best ∈ lw_g := List.mem_filter.mpr ⟨List.mem_of_getElem? (i := 147) (by decide +kernel), rfl⟩
theorem se_X_best : Cond.selects R_X y_X_best y_X_best ∈ lw_g := List.mem_filter.mpr ⟨List.mem_of_getElem? (i := 5) (by decide +kernel), rfl⟩
abbrev b_X_count : ByteArray := prog_1_method_28_code
def y_X_count : MethodName := ⟨R_X, "count", "(II)V"⟩
def w_X_count : List Cond := Cond.code y_X_count b_X_count 5 none :: lw_g
set_option maxRecDepth 20000 in
theorem cd_X_count : Cond.code y_X_count b_X_count 5 none ∈ lw_g := List.mem_filter.mpr ⟨List.mem_of_getElem? (i := 152) rfl, rfl⟩
theorem im_X_count : Cond.instanceMethod y_X_count ∈ lw_g := List.mem_filter.mpr ⟨List.mem_of_getElem? (i := 151) (by decide +kernel), rfl⟩
theorem se_X_count : Cond.selects R_X y_X_count y_X_count ∈ lw_g := List.mem_filter.mpr ⟨List.mem_of_getElem? (i := 6) (by decide +kernel), rfl⟩
abbrev b_X_makeOffer : ByteArray := prog_1_method_29_code
def y_X_makeOffer : MethodName := ⟨R_X, "makeOffer", "(I)V"⟩
def w_X_makeOffer : List Cond := Cond.code y_X_makeOffer b_X_makeOffer 4 none :: lw_g
set_option maxRecDepth 20000 in
theorem cd_X_makeOffer : Cond.code y_X_makeOffer b_X_makeOffer 4 none ∈ lw_g := List.mem_filter.mpr ⟨List.mem_of_getElem? (i := 140) rfl, rfl⟩
theorem im_X_makeOffer : Cond.instanceMethod y_X_makeOffer ∈ lw_g := List.mem_filter.mpr ⟨List.mem_of_getElem? (i := 139) (by decide +kernel), rfl⟩
theorem se_X_makeOffer : Cond.selects R_X y_X_makeOffer y_X_makeOffer ∈ lw_g := List.mem_filter.mpr ⟨List.mem_of_getElem? (i := 3) (by decide +kernel), rfl⟩
abbrev b_X_worth : ByteArray := prog_1_method_30_code
def y_X_worth : MethodName := ⟨R_X, "worth", "(I)I"⟩
def w_X_worth : List Cond := Cond.code y_X_worth b_X_worth 5 (some .int) :: lw_g
set_option maxRecDepth 20000 in
theorem cd_X_worth : Cond.code y_X_worth b_X_worth 5 (some .int) ∈ lw_g := List.mem_filter.mpr ⟨List.mem_of_getElem? (i := 144) rfl, rfl⟩
theorem im_X_worth : Cond.instanceMethod y_X_worth ∈ lw_g := List.mem_filter.mpr ⟨List.mem_of_getElem? (i := 143) (by decide +kernel), rfl⟩
theorem se_X_worth : Cond.selects R_X y_X_worth y_X_worth ∈ lw_g := List.mem_filter.mpr ⟨List.mem_of_getElem? (i := 4) (by decide +kernel), rfl⟩
abbrev b_M_init : ByteArray := prog_3_method_1_code
def y_M_init : MethodName := ⟨R_M, "<init>", "()V"⟩
def w_M_init : List Cond := Cond.code y_M_init b_M_init 1 none :: lw_g
set_option maxRecDepth 20000 in
theorem cd_M_init : Cond.code y_M_init b_M_init 1 none ∈ lw_g := List.mem_filter.mpr ⟨List.mem_of_getElem? (i := 201) rfl, rfl⟩
theorem im_M_init : Cond.instanceMethod y_M_init ∈ lw_g := List.mem_filter.mpr ⟨List.mem_of_getElem? (i := 200) (by decide +kernel), rfl⟩
abbrev b_M_bad : ByteArray := prog_3_method_2_code
def y_M_bad : MethodName := ⟨R_M, "bad", "(I)Z"⟩
def w_M_bad : List Cond := Cond.code y_M_bad b_M_bad 2 (some .boolean) :: lw_g
set_option maxRecDepth 20000 in
theorem cd_M_bad : Cond.code y_M_bad b_M_bad 2 (some .boolean) ∈ lw_g := List.mem_filter.mpr ⟨List.mem_of_getElem? (i := 247) rfl, rfl⟩
theorem im_M_bad : Cond.instanceMethod y_M_bad ∈ lw_g := List.mem_filter.mpr ⟨List.mem_of_getElem? (i := 246) (by decide +kernel), rfl⟩
theorem se_M_bad : Cond.selects R_M y_M_bad y_M_bad ∈ lw_g := List.mem_filter.mpr ⟨List.mem_of_getElem? (i := 10) (by decide +kernel), rfl⟩
abbrev b_M_badRule : ByteArray := prog_3_method_3_code
def y_M_badRule : MethodName := ⟨R_M, "badRule", "(I)Z"⟩
def w_M_badRule : List Cond := Cond.code y_M_badRule b_M_badRule 2 (some .boolean) :: lw_g
set_option maxRecDepth 20000 in
theorem cd_M_badRule : Cond.code y_M_badRule b_M_badRule 2 (some .boolean) ∈ lw_g := List.mem_filter.mpr ⟨List.mem_of_getElem? (i := 263) rfl, rfl⟩
theorem im_M_badRule : Cond.instanceMethod y_M_badRule ∈ lw_g := List.mem_filter.mpr ⟨List.mem_of_getElem? (i := 262) (by decide +kernel), rfl⟩
theorem se_M_badRule : Cond.selects R_M y_M_badRule y_M_badRule ∈ lw_g := List.mem_filter.mpr ⟨List.mem_of_getElem? (i := 11) (by decide +kernel), rfl⟩
abbrev b_M_premise : ByteArray := prog_3_method_4_code
def y_M_premise : MethodName := ⟨R_M, "premise", "(II)I"⟩
def w_M_premise : List Cond := Cond.code y_M_premise b_M_premise 3 (some .int) :: lw_g
set_option maxRecDepth 20000 in
theorem cd_M_premise : Cond.code y_M_premise b_M_premise 3 (some .int) ∈ lw_g := List.mem_filter.mpr ⟨List.mem_of_getElem? (i := 243) rfl, rfl⟩
theorem im_M_premise : Cond.instanceMethod y_M_premise ∈ lw_g := List.mem_filter.mpr ⟨List.mem_of_getElem? (i := 241) (by decide +kernel), rfl⟩
theorem se_M_premise : Cond.selects R_M y_M_premise y_M_premise ∈ lw_g := List.mem_filter.mpr ⟨List.mem_of_getElem? (i := 242) (by decide +kernel), rfl⟩
abbrev b_M_clear : ByteArray := prog_3_method_5_code
def y_M_clear : MethodName := ⟨R_M, "clear", "()I"⟩
def w_M_clear : List Cond := Cond.code y_M_clear b_M_clear 2 (some .int) :: lw_g
set_option maxRecDepth 20000 in
theorem cd_M_clear : Cond.code y_M_clear b_M_clear 2 (some .int) ∈ lw_g := List.mem_filter.mpr ⟨List.mem_of_getElem? (i := 251) rfl, rfl⟩
theorem im_M_clear : Cond.instanceMethod y_M_clear ∈ lw_g := List.mem_filter.mpr ⟨List.mem_of_getElem? (i := 249) (by decide +kernel), rfl⟩
theorem se_M_clear : Cond.selects R_M y_M_clear y_M_clear ∈ lw_g := List.mem_filter.mpr ⟨List.mem_of_getElem? (i := 250) (by decide +kernel), rfl⟩
abbrev b_M_rule : ByteArray := prog_3_method_6_code
def y_M_rule : MethodName := ⟨R_M, "rule", "(II)I"⟩
def w_M_rule : List Cond := Cond.code y_M_rule b_M_rule 5 (some .int) :: lw_g
set_option maxRecDepth 20000 in
theorem cd_M_rule : Cond.code y_M_rule b_M_rule 5 (some .int) ∈ lw_g := List.mem_filter.mpr ⟨List.mem_of_getElem? (i := 255) rfl, rfl⟩
theorem im_M_rule : Cond.instanceMethod y_M_rule ∈ lw_g := List.mem_filter.mpr ⟨List.mem_of_getElem? (i := 253) (by decide +kernel), rfl⟩
theorem se_M_rule : Cond.selects R_M y_M_rule y_M_rule ∈ lw_g := List.mem_filter.mpr ⟨List.mem_of_getElem? (i := 254) (by decide +kernel), rfl⟩
abbrev b_M_remove : ByteArray := prog_3_method_7_code
def y_M_remove : MethodName := ⟨R_M, "remove", "(I)I"⟩
def w_M_remove : List Cond := Cond.code y_M_remove b_M_remove 4 (some .int) :: lw_g
set_option maxRecDepth 20000 in
theorem cd_M_remove : Cond.code y_M_remove b_M_remove 4 (some .int) ∈ lw_g := List.mem_filter.mpr ⟨List.mem_of_getElem? (i := 259) rfl, rfl⟩
theorem im_M_remove : Cond.instanceMethod y_M_remove ∈ lw_g := List.mem_filter.mpr ⟨List.mem_of_getElem? (i := 257) (by decide +kernel), rfl⟩
theorem se_M_remove : Cond.selects R_M y_M_remove y_M_remove ∈ lw_g := List.mem_filter.mpr ⟨List.mem_of_getElem? (i := 258) (by decide +kernel), rfl⟩
abbrev b_M_strengthen : ByteArray := prog_3_method_8_code
def y_M_strengthen : MethodName := ⟨R_M, "strengthen", "(II)I"⟩
def w_M_strengthen : List Cond := Cond.code y_M_strengthen b_M_strengthen 4 (some .int) :: lw_g
set_option maxRecDepth 20000 in
theorem cd_M_strengthen : Cond.code y_M_strengthen b_M_strengthen 4 (some .int) ∈ lw_g := List.mem_filter.mpr ⟨List.mem_of_getElem? (i := 267) rfl, rfl⟩
theorem im_M_strengthen : Cond.instanceMethod y_M_strengthen ∈ lw_g := List.mem_filter.mpr ⟨List.mem_of_getElem? (i := 265) (by decide +kernel), rfl⟩
theorem se_M_strengthen : Cond.selects R_M y_M_strengthen y_M_strengthen ∈ lw_g := List.mem_filter.mpr ⟨List.mem_of_getElem? (i := 266) (by decide +kernel), rfl⟩
abbrev b_M_observe : ByteArray := prog_3_method_9_code
def y_M_observe : MethodName := ⟨R_M, "observe", "(II)I"⟩
def w_M_observe : List Cond := Cond.code y_M_observe b_M_observe 4 (some .int) :: lw_g
set_option maxRecDepth 20000 in
theorem cd_M_observe : Cond.code y_M_observe b_M_observe 4 (some .int) ∈ lw_g := List.mem_filter.mpr ⟨List.mem_of_getElem? (i := 271) rfl, rfl⟩
theorem im_M_observe : Cond.instanceMethod y_M_observe ∈ lw_g := List.mem_filter.mpr ⟨List.mem_of_getElem? (i := 269) (by decide +kernel), rfl⟩
theorem se_M_observe : Cond.selects R_M y_M_observe y_M_observe ∈ lw_g := List.mem_filter.mpr ⟨List.mem_of_getElem? (i := 270) (by decide +kernel), rfl⟩
abbrev b_M_rules : ByteArray := prog_3_method_10_code
def y_M_rules : MethodName := ⟨R_M, "rules", "()I"⟩
def w_M_rules : List Cond := Cond.code y_M_rules b_M_rules 1 (some .int) :: lw_g
set_option maxRecDepth 20000 in
theorem cd_M_rules : Cond.code y_M_rules b_M_rules 1 (some .int) ∈ lw_g := List.mem_filter.mpr ⟨List.mem_of_getElem? (i := 275) rfl, rfl⟩
theorem im_M_rules : Cond.instanceMethod y_M_rules ∈ lw_g := List.mem_filter.mpr ⟨List.mem_of_getElem? (i := 273) (by decide +kernel), rfl⟩
theorem se_M_rules : Cond.selects R_M y_M_rules y_M_rules ∈ lw_g := List.mem_filter.mpr ⟨List.mem_of_getElem? (i := 274) (by decide +kernel), rfl⟩
abbrev b_M_headOf : ByteArray := prog_3_method_11_code
def y_M_headOf : MethodName := ⟨R_M, "headOf", "(I)I"⟩
def w_M_headOf : List Cond := Cond.code y_M_headOf b_M_headOf 2 (some .int) :: lw_g
set_option maxRecDepth 20000 in
theorem cd_M_headOf : Cond.code y_M_headOf b_M_headOf 2 (some .int) ∈ lw_g := List.mem_filter.mpr ⟨List.mem_of_getElem? (i := 279) rfl, rfl⟩
theorem im_M_headOf : Cond.instanceMethod y_M_headOf ∈ lw_g := List.mem_filter.mpr ⟨List.mem_of_getElem? (i := 277) (by decide +kernel), rfl⟩
theorem se_M_headOf : Cond.selects R_M y_M_headOf y_M_headOf ∈ lw_g := List.mem_filter.mpr ⟨List.mem_of_getElem? (i := 278) (by decide +kernel), rfl⟩
abbrev b_M_observed : ByteArray := prog_3_method_12_code
def y_M_observed : MethodName := ⟨R_M, "observed", "(I)I"⟩
def w_M_observed : List Cond := Cond.code y_M_observed b_M_observed 2 (some .int) :: lw_g
set_option maxRecDepth 20000 in
theorem cd_M_observed : Cond.code y_M_observed b_M_observed 2 (some .int) ∈ lw_g := List.mem_filter.mpr ⟨List.mem_of_getElem? (i := 283) rfl, rfl⟩
theorem im_M_observed : Cond.instanceMethod y_M_observed ∈ lw_g := List.mem_filter.mpr ⟨List.mem_of_getElem? (i := 281) (by decide +kernel), rfl⟩
theorem se_M_observed : Cond.selects R_M y_M_observed y_M_observed ∈ lw_g := List.mem_filter.mpr ⟨List.mem_of_getElem? (i := 282) (by decide +kernel), rfl⟩
abbrev b_M_asks : ByteArray := prog_3_method_13_code
def y_M_asks : MethodName := ⟨R_M, "asks", "(I)I"⟩
def w_M_asks : List Cond := Cond.code y_M_asks b_M_asks 5 (some .int) :: lw_g
set_option maxRecDepth 20000 in
theorem cd_M_asks : Cond.code y_M_asks b_M_asks 5 (some .int) ∈ lw_g := List.mem_filter.mpr ⟨List.mem_of_getElem? (i := 299) rfl, rfl⟩
theorem im_M_asks : Cond.instanceMethod y_M_asks ∈ lw_g := List.mem_filter.mpr ⟨List.mem_of_getElem? (i := 298) (by decide +kernel), rfl⟩
theorem se_M_asks : Cond.selects R_M y_M_asks y_M_asks ∈ lw_g := List.mem_filter.mpr ⟨List.mem_of_getElem? (i := 14) (by decide +kernel), rfl⟩
abbrev b_M_raise : ByteArray := prog_3_method_14_code
def y_M_raise : MethodName := ⟨R_M, "raise", "(II)Z"⟩
def w_M_raise : List Cond := Cond.code y_M_raise b_M_raise 7 (some .boolean) :: lw_g
set_option maxRecDepth 20000 in
theorem cd_M_raise : Cond.code y_M_raise b_M_raise 7 (some .boolean) ∈ lw_g := List.mem_filter.mpr ⟨List.mem_of_getElem? (i := 295) rfl, rfl⟩
theorem im_M_raise : Cond.instanceMethod y_M_raise ∈ lw_g := List.mem_filter.mpr ⟨List.mem_of_getElem? (i := 294) (by decide +kernel), rfl⟩
theorem se_M_raise : Cond.selects R_M y_M_raise y_M_raise ∈ lw_g := List.mem_filter.mpr ⟨List.mem_of_getElem? (i := 13) (by decide +kernel), rfl⟩
abbrev b_M_workOut : ByteArray := prog_3_method_15_code
def y_M_workOut : MethodName := ⟨R_M, "workOut", "(III)V"⟩
def w_M_workOut : List Cond := Cond.code y_M_workOut b_M_workOut 7 none :: lw_g
set_option maxRecDepth 20000 in
theorem cd_M_workOut : Cond.code y_M_workOut b_M_workOut 7 none ∈ lw_g := List.mem_filter.mpr ⟨List.mem_of_getElem? (i := 291) rfl, rfl⟩
theorem im_M_workOut : Cond.instanceMethod y_M_workOut ∈ lw_g := List.mem_filter.mpr ⟨List.mem_of_getElem? (i := 290) (by decide +kernel), rfl⟩
theorem se_M_workOut : Cond.selects R_M y_M_workOut y_M_workOut ∈ lw_g := List.mem_filter.mpr ⟨List.mem_of_getElem? (i := 12) (by decide +kernel), rfl⟩
abbrev b_M_certainty : ByteArray := prog_3_method_16_code
def y_M_certainty : MethodName := ⟨R_M, "certainty", "(I)I"⟩
def w_M_certainty : List Cond := Cond.code y_M_certainty b_M_certainty 2 (some .int) :: lw_g
set_option maxRecDepth 20000 in
theorem cd_M_certainty : Cond.code y_M_certainty b_M_certainty 2 (some .int) ∈ lw_g := List.mem_filter.mpr ⟨List.mem_of_getElem? (i := 287) rfl, rfl⟩
theorem im_M_certainty : Cond.instanceMethod y_M_certainty ∈ lw_g := List.mem_filter.mpr ⟨List.mem_of_getElem? (i := 285) (by decide +kernel), rfl⟩
theorem se_M_certainty : Cond.selects R_M y_M_certainty y_M_certainty ∈ lw_g := List.mem_filter.mpr ⟨List.mem_of_getElem? (i := 286) (by decide +kernel), rfl⟩
abbrev b_M_whatIf : ByteArray := prog_3_method_17_code
def y_M_whatIf : MethodName := ⟨R_M, "whatIf", "(III)I"⟩
def w_M_whatIf : List Cond := Cond.code y_M_whatIf b_M_whatIf 4 (some .int) :: lw_g
set_option maxRecDepth 20000 in
theorem cd_M_whatIf : Cond.code y_M_whatIf b_M_whatIf 4 (some .int) ∈ lw_g := List.mem_filter.mpr ⟨List.mem_of_getElem? (i := 303) rfl, rfl⟩
theorem im_M_whatIf : Cond.instanceMethod y_M_whatIf ∈ lw_g := List.mem_filter.mpr ⟨List.mem_of_getElem? (i := 301) (by decide +kernel), rfl⟩
theorem se_M_whatIf : Cond.selects R_M y_M_whatIf y_M_whatIf ∈ lw_g := List.mem_filter.mpr ⟨List.mem_of_getElem? (i := 302) (by decide +kernel), rfl⟩
abbrev b_M_without : ByteArray := prog_3_method_18_code
def y_M_without : MethodName := ⟨R_M, "without", "(II)I"⟩
def w_M_without : List Cond := Cond.code y_M_without b_M_without 3 (some .int) :: lw_g
set_option maxRecDepth 20000 in
theorem cd_M_without : Cond.code y_M_without b_M_without 3 (some .int) ∈ lw_g := List.mem_filter.mpr ⟨List.mem_of_getElem? (i := 307) rfl, rfl⟩
theorem im_M_without : Cond.instanceMethod y_M_without ∈ lw_g := List.mem_filter.mpr ⟨List.mem_of_getElem? (i := 305) (by decide +kernel), rfl⟩
theorem se_M_without : Cond.selects R_M y_M_without y_M_without ∈ lw_g := List.mem_filter.mpr ⟨List.mem_of_getElem? (i := 306) (by decide +kernel), rfl⟩
abbrev b_M_supporter : ByteArray := prog_3_method_19_code
def y_M_supporter : MethodName := ⟨R_M, "supporter", "(I)I"⟩
def w_M_supporter : List Cond := Cond.code y_M_supporter b_M_supporter 3 (some .int) :: lw_g
set_option maxRecDepth 20000 in
theorem cd_M_supporter : Cond.code y_M_supporter b_M_supporter 3 (some .int) ∈ lw_g := List.mem_filter.mpr ⟨List.mem_of_getElem? (i := 311) rfl, rfl⟩
theorem im_M_supporter : Cond.instanceMethod y_M_supporter ∈ lw_g := List.mem_filter.mpr ⟨List.mem_of_getElem? (i := 309) (by decide +kernel), rfl⟩
theorem se_M_supporter : Cond.selects R_M y_M_supporter y_M_supporter ∈ lw_g := List.mem_filter.mpr ⟨List.mem_of_getElem? (i := 310) (by decide +kernel), rfl⟩
abbrev b_M_yield : ByteArray := prog_3_method_20_code
def y_M_yield : MethodName := ⟨R_M, "yield", "(I)I"⟩
def w_M_yield : List Cond := Cond.code y_M_yield b_M_yield 2 (some .int) :: lw_g
set_option maxRecDepth 20000 in
theorem cd_M_yield : Cond.code y_M_yield b_M_yield 2 (some .int) ∈ lw_g := List.mem_filter.mpr ⟨List.mem_of_getElem? (i := 315) rfl, rfl⟩
theorem im_M_yield : Cond.instanceMethod y_M_yield ∈ lw_g := List.mem_filter.mpr ⟨List.mem_of_getElem? (i := 313) (by decide +kernel), rfl⟩
theorem se_M_yield : Cond.selects R_M y_M_yield y_M_yield ∈ lw_g := List.mem_filter.mpr ⟨List.mem_of_getElem? (i := 314) (by decide +kernel), rfl⟩
abbrev b_M_atLeast : ByteArray := prog_3_method_21_code
def y_M_atLeast : MethodName := ⟨R_M, "atLeast", "(I)I"⟩
def w_M_atLeast : List Cond := Cond.code y_M_atLeast b_M_atLeast 4 (some .int) :: lw_g
set_option maxRecDepth 20000 in
theorem cd_M_atLeast : Cond.code y_M_atLeast b_M_atLeast 4 (some .int) ∈ lw_g := List.mem_filter.mpr ⟨List.mem_of_getElem? (i := 319) rfl, rfl⟩
theorem im_M_atLeast : Cond.instanceMethod y_M_atLeast ∈ lw_g := List.mem_filter.mpr ⟨List.mem_of_getElem? (i := 317) (by decide +kernel), rfl⟩
theorem se_M_atLeast : Cond.selects R_M y_M_atLeast y_M_atLeast ∈ lw_g := List.mem_filter.mpr ⟨List.mem_of_getElem? (i := 318) (by decide +kernel), rfl⟩
abbrev b_M_strongest : ByteArray := prog_3_method_22_code
def y_M_strongest : MethodName := ⟨R_M, "strongest", "(II)I"⟩
def w_M_strongest : List Cond := Cond.code y_M_strongest b_M_strongest 5 (some .int) :: lw_g
set_option maxRecDepth 20000 in
theorem cd_M_strongest : Cond.code y_M_strongest b_M_strongest 5 (some .int) ∈ lw_g := List.mem_filter.mpr ⟨List.mem_of_getElem? (i := 323) rfl, rfl⟩
theorem im_M_strongest : Cond.instanceMethod y_M_strongest ∈ lw_g := List.mem_filter.mpr ⟨List.mem_of_getElem? (i := 321) (by decide +kernel), rfl⟩
theorem se_M_strongest : Cond.selects R_M y_M_strongest y_M_strongest ∈ lw_g := List.mem_filter.mpr ⟨List.mem_of_getElem? (i := 322) (by decide +kernel), rfl⟩
abbrev b_M_keep : ByteArray := prog_3_method_23_code
def y_M_keep : MethodName := ⟨R_M, "keep", "()V"⟩
def w_M_keep : List Cond := Cond.code y_M_keep b_M_keep 2 none :: lw_g
set_option maxRecDepth 20000 in
theorem cd_M_keep : Cond.code y_M_keep b_M_keep 2 none ∈ lw_g := List.mem_filter.mpr ⟨List.mem_of_getElem? (i := 331) rfl, rfl⟩
theorem im_M_keep : Cond.instanceMethod y_M_keep ∈ lw_g := List.mem_filter.mpr ⟨List.mem_of_getElem? (i := 330) (by decide +kernel), rfl⟩
theorem se_M_keep : Cond.selects R_M y_M_keep y_M_keep ∈ lw_g := List.mem_filter.mpr ⟨List.mem_of_getElem? (i := 15) (by decide +kernel), rfl⟩
abbrev b_M_others : ByteArray := prog_3_method_24_code
def y_M_others : MethodName := ⟨R_M, "others", "()I"⟩
def w_M_others : List Cond := Cond.code y_M_others b_M_others 3 (some .int) :: lw_g
set_option maxRecDepth 20000 in
theorem cd_M_others : Cond.code y_M_others b_M_others 3 (some .int) ∈ lw_g := List.mem_filter.mpr ⟨List.mem_of_getElem? (i := 335) rfl, rfl⟩
theorem im_M_others : Cond.instanceMethod y_M_others ∈ lw_g := List.mem_filter.mpr ⟨List.mem_of_getElem? (i := 334) (by decide +kernel), rfl⟩
theorem se_M_others : Cond.selects R_M y_M_others y_M_others ∈ lw_g := List.mem_filter.mpr ⟨List.mem_of_getElem? (i := 16) (by decide +kernel), rfl⟩
abbrev b_M_essential : ByteArray := prog_3_method_25_code
def y_M_essential : MethodName := ⟨R_M, "essential", "()I"⟩
def w_M_essential : List Cond := Cond.code y_M_essential b_M_essential 3 (some .int) :: lw_g
set_option maxRecDepth 20000 in
theorem cd_M_essential : Cond.code y_M_essential b_M_essential 3 (some .int) ∈ lw_g := List.mem_filter.mpr ⟨List.mem_of_getElem? (i := 327) rfl, rfl⟩
theorem im_M_essential : Cond.instanceMethod y_M_essential ∈ lw_g := List.mem_filter.mpr ⟨List.mem_of_getElem? (i := 325) (by decide +kernel), rfl⟩
theorem se_M_essential : Cond.selects R_M y_M_essential y_M_essential ∈ lw_g := List.mem_filter.mpr ⟨List.mem_of_getElem? (i := 326) (by decide +kernel), rfl⟩
abbrev b_M_influence : ByteArray := prog_3_method_26_code
def y_M_influence : MethodName := ⟨R_M, "influence", "(I)I"⟩
def w_M_influence : List Cond := Cond.code y_M_influence b_M_influence 2 (some .int) :: lw_g
set_option maxRecDepth 20000 in
theorem cd_M_influence : Cond.code y_M_influence b_M_influence 2 (some .int) ∈ lw_g := List.mem_filter.mpr ⟨List.mem_of_getElem? (i := 339) rfl, rfl⟩
theorem im_M_influence : Cond.instanceMethod y_M_influence ∈ lw_g := List.mem_filter.mpr ⟨List.mem_of_getElem? (i := 337) (by decide +kernel), rfl⟩
theorem se_M_influence : Cond.selects R_M y_M_influence y_M_influence ∈ lw_g := List.mem_filter.mpr ⟨List.mem_of_getElem? (i := 338) (by decide +kernel), rfl⟩
theorem ml_law_9 : Cond.methodLink "CertaintyChainerLaw" 9 y_X_init ∈ lw_g := List.mem_filter.mpr ⟨List.mem_of_getElem? (i := 22) (by decide +kernel), rfl⟩
theorem ml_law_13 : Cond.methodLink "CertaintyChainerLaw" 13 y_X_premise ∈ lw_g := List.mem_filter.mpr ⟨List.mem_of_getElem? (i := 82) (by decide +kernel), rfl⟩
theorem ml_X_54 : Cond.methodLink "CertaintyChainer" 54 y_X_isClaim ∈ lw_g := List.mem_filter.mpr ⟨List.mem_of_getElem? (i := 86) (by decide +kernel), rfl⟩
theorem ml_law_18 : Cond.methodLink "CertaintyChainerLaw" 18 y_X_clear ∈ lw_g := List.mem_filter.mpr ⟨List.mem_of_getElem? (i := 89) (by decide +kernel), rfl⟩
theorem ml_law_23 : Cond.methodLink "CertaintyChainerLaw" 23 y_X_rule ∈ lw_g := List.mem_filter.mpr ⟨List.mem_of_getElem? (i := 93) (by decide +kernel), rfl⟩
theorem ml_law_27 : Cond.methodLink "CertaintyChainerLaw" 27 y_X_remove ∈ lw_g := List.mem_filter.mpr ⟨List.mem_of_getElem? (i := 97) (by decide +kernel), rfl⟩
theorem ml_X_68 : Cond.methodLink "CertaintyChainer" 68 y_X_isRule ∈ lw_g := List.mem_filter.mpr ⟨List.mem_of_getElem? (i := 101) (by decide +kernel), rfl⟩
theorem ml_law_32 : Cond.methodLink "CertaintyChainerLaw" 32 y_X_strengthen ∈ lw_g := List.mem_filter.mpr ⟨List.mem_of_getElem? (i := 105) (by decide +kernel), rfl⟩
theorem ml_law_36 : Cond.methodLink "CertaintyChainerLaw" 36 y_X_observe ∈ lw_g := List.mem_filter.mpr ⟨List.mem_of_getElem? (i := 109) (by decide +kernel), rfl⟩
theorem ml_law_40 : Cond.methodLink "CertaintyChainerLaw" 40 y_X_rules ∈ lw_g := List.mem_filter.mpr ⟨List.mem_of_getElem? (i := 113) (by decide +kernel), rfl⟩
theorem ml_law_44 : Cond.methodLink "CertaintyChainerLaw" 44 y_X_headOf ∈ lw_g := List.mem_filter.mpr ⟨List.mem_of_getElem? (i := 117) (by decide +kernel), rfl⟩
theorem ml_law_48 : Cond.methodLink "CertaintyChainerLaw" 48 y_X_observed ∈ lw_g := List.mem_filter.mpr ⟨List.mem_of_getElem? (i := 121) (by decide +kernel), rfl⟩
theorem ml_law_52 : Cond.methodLink "CertaintyChainerLaw" 52 y_X_certainty ∈ lw_g := List.mem_filter.mpr ⟨List.mem_of_getElem? (i := 125) (by decide +kernel), rfl⟩
theorem ml_X_71 : Cond.methodLink "CertaintyChainer" 71 y_X_refresh ∈ lw_g := List.mem_filter.mpr ⟨List.mem_of_getElem? (i := 129) (by decide +kernel), rfl⟩
theorem ml_X_74 : Cond.methodLink "CertaintyChainer" 74 y_X_settleAll ∈ lw_g := List.mem_filter.mpr ⟨List.mem_of_getElem? (i := 133) (by decide +kernel), rfl⟩
theorem ml_X_92 : Cond.methodLink "CertaintyChainer" 92 y_X_makeOffer ∈ lw_g := List.mem_filter.mpr ⟨List.mem_of_getElem? (i := 137) (by decide +kernel), rfl⟩
theorem ml_X_81 : Cond.methodLink "CertaintyChainer" 81 y_X_worth ∈ lw_g := List.mem_filter.mpr ⟨List.mem_of_getElem? (i := 141) (by decide +kernel), rfl⟩
theorem ml_X_95 : Cond.methodLink "CertaintyChainer" 95 y_X_best ∈ lw_g := List.mem_filter.mpr ⟨List.mem_of_getElem? (i := 145) (by decide +kernel), rfl⟩
theorem ml_X_98 : Cond.methodLink "CertaintyChainer" 98 y_X_count ∈ lw_g := List.mem_filter.mpr ⟨List.mem_of_getElem? (i := 149) (by decide +kernel), rfl⟩
theorem ml_law_56 : Cond.methodLink "CertaintyChainerLaw" 56 y_X_whatIf ∈ lw_g := List.mem_filter.mpr ⟨List.mem_of_getElem? (i := 153) (by decide +kernel), rfl⟩
theorem ml_law_61 : Cond.methodLink "CertaintyChainerLaw" 61 y_X_without ∈ lw_g := List.mem_filter.mpr ⟨List.mem_of_getElem? (i := 157) (by decide +kernel), rfl⟩
theorem ml_X_77 : Cond.methodLink "CertaintyChainer" 77 y_X_settleWithout ∈ lw_g := List.mem_filter.mpr ⟨List.mem_of_getElem? (i := 161) (by decide +kernel), rfl⟩
theorem ml_law_65 : Cond.methodLink "CertaintyChainerLaw" 65 y_X_supporter ∈ lw_g := List.mem_filter.mpr ⟨List.mem_of_getElem? (i := 165) (by decide +kernel), rfl⟩
theorem ml_law_69 : Cond.methodLink "CertaintyChainerLaw" 69 y_X_yield ∈ lw_g := List.mem_filter.mpr ⟨List.mem_of_getElem? (i := 169) (by decide +kernel), rfl⟩
theorem ml_law_73 : Cond.methodLink "CertaintyChainerLaw" 73 y_X_atLeast ∈ lw_g := List.mem_filter.mpr ⟨List.mem_of_getElem? (i := 173) (by decide +kernel), rfl⟩
theorem ml_law_77 : Cond.methodLink "CertaintyChainerLaw" 77 y_X_strongest ∈ lw_g := List.mem_filter.mpr ⟨List.mem_of_getElem? (i := 177) (by decide +kernel), rfl⟩
theorem ml_law_81 : Cond.methodLink "CertaintyChainerLaw" 81 y_X_essential ∈ lw_g := List.mem_filter.mpr ⟨List.mem_of_getElem? (i := 181) (by decide +kernel), rfl⟩
theorem ml_X_85 : Cond.methodLink "CertaintyChainer" 85 y_X_keepValues ∈ lw_g := List.mem_filter.mpr ⟨List.mem_of_getElem? (i := 185) (by decide +kernel), rfl⟩
theorem ml_X_88 : Cond.methodLink "CertaintyChainer" 88 y_X_changes ∈ lw_g := List.mem_filter.mpr ⟨List.mem_of_getElem? (i := 189) (by decide +kernel), rfl⟩
theorem ml_law_85 : Cond.methodLink "CertaintyChainerLaw" 85 y_X_influence ∈ lw_g := List.mem_filter.mpr ⟨List.mem_of_getElem? (i := 193) (by decide +kernel), rfl⟩
theorem ml_law_12 : Cond.methodLink "CertaintyChainerLaw" 12 y_M_init ∈ lw_g := List.mem_filter.mpr ⟨List.mem_of_getElem? (i := 199) (by decide +kernel), rfl⟩
theorem ml_law_17 : Cond.methodLink "CertaintyChainerLaw" 17 y_M_premise ∈ lw_g := List.mem_filter.mpr ⟨List.mem_of_getElem? (i := 240) (by decide +kernel), rfl⟩
theorem ml_M_45 : Cond.methodLink "CertaintyChainerModel" 45 y_M_bad ∈ lw_g := List.mem_filter.mpr ⟨List.mem_of_getElem? (i := 244) (by decide +kernel), rfl⟩
theorem ml_law_22 : Cond.methodLink "CertaintyChainerLaw" 22 y_M_clear ∈ lw_g := List.mem_filter.mpr ⟨List.mem_of_getElem? (i := 248) (by decide +kernel), rfl⟩
theorem ml_law_26 : Cond.methodLink "CertaintyChainerLaw" 26 y_M_rule ∈ lw_g := List.mem_filter.mpr ⟨List.mem_of_getElem? (i := 252) (by decide +kernel), rfl⟩
theorem ml_law_31 : Cond.methodLink "CertaintyChainerLaw" 31 y_M_remove ∈ lw_g := List.mem_filter.mpr ⟨List.mem_of_getElem? (i := 256) (by decide +kernel), rfl⟩
theorem ml_M_52 : Cond.methodLink "CertaintyChainerModel" 52 y_M_badRule ∈ lw_g := List.mem_filter.mpr ⟨List.mem_of_getElem? (i := 260) (by decide +kernel), rfl⟩
theorem ml_law_35 : Cond.methodLink "CertaintyChainerLaw" 35 y_M_strengthen ∈ lw_g := List.mem_filter.mpr ⟨List.mem_of_getElem? (i := 264) (by decide +kernel), rfl⟩
theorem ml_law_39 : Cond.methodLink "CertaintyChainerLaw" 39 y_M_observe ∈ lw_g := List.mem_filter.mpr ⟨List.mem_of_getElem? (i := 268) (by decide +kernel), rfl⟩
theorem ml_law_43 : Cond.methodLink "CertaintyChainerLaw" 43 y_M_rules ∈ lw_g := List.mem_filter.mpr ⟨List.mem_of_getElem? (i := 272) (by decide +kernel), rfl⟩
theorem ml_law_47 : Cond.methodLink "CertaintyChainerLaw" 47 y_M_headOf ∈ lw_g := List.mem_filter.mpr ⟨List.mem_of_getElem? (i := 276) (by decide +kernel), rfl⟩
theorem ml_law_51 : Cond.methodLink "CertaintyChainerLaw" 51 y_M_observed ∈ lw_g := List.mem_filter.mpr ⟨List.mem_of_getElem? (i := 280) (by decide +kernel), rfl⟩
theorem ml_law_55 : Cond.methodLink "CertaintyChainerLaw" 55 y_M_certainty ∈ lw_g := List.mem_filter.mpr ⟨List.mem_of_getElem? (i := 284) (by decide +kernel), rfl⟩
theorem ml_M_63 : Cond.methodLink "CertaintyChainerModel" 63 y_M_workOut ∈ lw_g := List.mem_filter.mpr ⟨List.mem_of_getElem? (i := 288) (by decide +kernel), rfl⟩
theorem ml_M_59 : Cond.methodLink "CertaintyChainerModel" 59 y_M_raise ∈ lw_g := List.mem_filter.mpr ⟨List.mem_of_getElem? (i := 292) (by decide +kernel), rfl⟩
theorem ml_M_55 : Cond.methodLink "CertaintyChainerModel" 55 y_M_asks ∈ lw_g := List.mem_filter.mpr ⟨List.mem_of_getElem? (i := 296) (by decide +kernel), rfl⟩
theorem ml_law_60 : Cond.methodLink "CertaintyChainerLaw" 60 y_M_whatIf ∈ lw_g := List.mem_filter.mpr ⟨List.mem_of_getElem? (i := 300) (by decide +kernel), rfl⟩
theorem ml_law_64 : Cond.methodLink "CertaintyChainerLaw" 64 y_M_without ∈ lw_g := List.mem_filter.mpr ⟨List.mem_of_getElem? (i := 304) (by decide +kernel), rfl⟩
theorem ml_law_68 : Cond.methodLink "CertaintyChainerLaw" 68 y_M_supporter ∈ lw_g := List.mem_filter.mpr ⟨List.mem_of_getElem? (i := 308) (by decide +kernel), rfl⟩
theorem ml_law_72 : Cond.methodLink "CertaintyChainerLaw" 72 y_M_yield ∈ lw_g := List.mem_filter.mpr ⟨List.mem_of_getElem? (i := 312) (by decide +kernel), rfl⟩
theorem ml_law_76 : Cond.methodLink "CertaintyChainerLaw" 76 y_M_atLeast ∈ lw_g := List.mem_filter.mpr ⟨List.mem_of_getElem? (i := 316) (by decide +kernel), rfl⟩
theorem ml_law_80 : Cond.methodLink "CertaintyChainerLaw" 80 y_M_strongest ∈ lw_g := List.mem_filter.mpr ⟨List.mem_of_getElem? (i := 320) (by decide +kernel), rfl⟩
theorem ml_law_84 : Cond.methodLink "CertaintyChainerLaw" 84 y_M_essential ∈ lw_g := List.mem_filter.mpr ⟨List.mem_of_getElem? (i := 324) (by decide +kernel), rfl⟩
theorem ml_M_67 : Cond.methodLink "CertaintyChainerModel" 67 y_M_keep ∈ lw_g := List.mem_filter.mpr ⟨List.mem_of_getElem? (i := 328) (by decide +kernel), rfl⟩
theorem ml_M_70 : Cond.methodLink "CertaintyChainerModel" 70 y_M_others ∈ lw_g := List.mem_filter.mpr ⟨List.mem_of_getElem? (i := 332) (by decide +kernel), rfl⟩
theorem ml_law_88 : Cond.methodLink "CertaintyChainerLaw" 88 y_M_influence ∈ lw_g := List.mem_filter.mpr ⟨List.mem_of_getElem? (i := 336) (by decide +kernel), rfl⟩
end
section
theorem d_X_init_0 : decode b_X_init 0 = .ok (.aload_n 0, 1) := by decide +kernel
theorem d_X_init_1 : decode b_X_init 1 = .ok (.invokespecial 1, 3) := by decide +kernel
theorem d_X_init_4 : decode b_X_init 4 = .ok (.aload_n 0, 1) := by decide +kernel
theorem d_X_init_5 : decode b_X_init 5 = .ok (.bipush 20, 2) := by decide +kernel
theorem d_X_init_7 : decode b_X_init 7 = .ok (.newarray .int, 2) := by decide +kernel
theorem d_X_init_9 : decode b_X_init 9 = .ok (.putfield 7, 3) := by decide +kernel
theorem d_X_init_12 : decode b_X_init 12 = .ok (.aload_n 0, 1) := by decide +kernel
theorem d_X_init_13 : decode b_X_init 13 = .ok (.bipush 20, 2) := by decide +kernel
theorem d_X_init_15 : decode b_X_init 15 = .ok (.newarray .int, 2) := by decide +kernel
theorem d_X_init_17 : decode b_X_init 17 = .ok (.putfield 13, 3) := by decide +kernel
theorem d_X_init_20 : decode b_X_init 20 = .ok (.aload_n 0, 1) := by decide +kernel
theorem d_X_init_21 : decode b_X_init 21 = .ok (.bipush 20, 2) := by decide +kernel
theorem d_X_init_23 : decode b_X_init 23 = .ok (.newarray .int, 2) := by decide +kernel
theorem d_X_init_25 : decode b_X_init 25 = .ok (.putfield 16, 3) := by decide +kernel
theorem d_X_init_28 : decode b_X_init 28 = .ok (.aload_n 0, 1) := by decide +kernel
theorem d_X_init_29 : decode b_X_init 29 = .ok (.bipush 60, 2) := by decide +kernel
theorem d_X_init_31 : decode b_X_init 31 = .ok (.newarray .int, 2) := by decide +kernel
theorem d_X_init_33 : decode b_X_init 33 = .ok (.putfield 19, 3) := by decide +kernel
theorem d_X_init_36 : decode b_X_init 36 = .ok (.aload_n 0, 1) := by decide +kernel
theorem d_X_init_37 : decode b_X_init 37 = .ok (.bipush 60, 2) := by decide +kernel
theorem d_X_init_39 : decode b_X_init 39 = .ok (.newarray .boolean, 2) := by decide +kernel
theorem d_X_init_41 : decode b_X_init 41 = .ok (.putfield 22, 3) := by decide +kernel
theorem d_X_init_44 : decode b_X_init 44 = .ok (.aload_n 0, 1) := by decide +kernel
theorem d_X_init_45 : decode b_X_init 45 = .ok (.iconst 3, 1) := by decide +kernel
theorem d_X_init_46 : decode b_X_init 46 = .ok (.newarray .int, 2) := by decide +kernel
theorem d_X_init_48 : decode b_X_init 48 = .ok (.putfield 26, 3) := by decide +kernel
theorem d_X_init_51 : decode b_X_init 51 = .ok (.aload_n 0, 1) := by decide +kernel
theorem d_X_init_52 : decode b_X_init 52 = .ok (.iconst 3, 1) := by decide +kernel
theorem d_X_init_53 : decode b_X_init 53 = .ok (.newarray .boolean, 2) := by decide +kernel
theorem d_X_init_55 : decode b_X_init 55 = .ok (.putfield 29, 3) := by decide +kernel
theorem d_X_init_58 : decode b_X_init 58 = .ok (.aload_n 0, 1) := by decide +kernel
theorem d_X_init_59 : decode b_X_init 59 = .ok (.bipush 16, 2) := by decide +kernel
theorem d_X_init_61 : decode b_X_init 61 = .ok (.newarray .int, 2) := by decide +kernel
theorem d_X_init_63 : decode b_X_init 63 = .ok (.putfield 32, 3) := by decide +kernel
theorem d_X_init_66 : decode b_X_init 66 = .ok (.aload_n 0, 1) := by decide +kernel
theorem d_X_init_67 : decode b_X_init 67 = .ok (.bipush 16, 2) := by decide +kernel
theorem d_X_init_69 : decode b_X_init 69 = .ok (.newarray .int, 2) := by decide +kernel
theorem d_X_init_71 : decode b_X_init 71 = .ok (.putfield 35, 3) := by decide +kernel
theorem d_X_init_74 : decode b_X_init 74 = .ok (.aload_n 0, 1) := by decide +kernel
theorem d_X_init_75 : decode b_X_init 75 = .ok (.bipush 16, 2) := by decide +kernel
theorem d_X_init_77 : decode b_X_init 77 = .ok (.newarray .int, 2) := by decide +kernel
theorem d_X_init_79 : decode b_X_init 79 = .ok (.putfield 38, 3) := by decide +kernel
theorem d_X_init_82 : decode b_X_init 82 = .ok (.aload_n 0, 1) := by decide +kernel
theorem d_X_init_83 : decode b_X_init 83 = .ok (.bipush 16, 2) := by decide +kernel
theorem d_X_init_85 : decode b_X_init 85 = .ok (.newarray .boolean, 2) := by decide +kernel
theorem d_X_init_87 : decode b_X_init 87 = .ok (.putfield 41, 3) := by decide +kernel
theorem d_X_init_90 : decode b_X_init 90 = .ok (.aload_n 0, 1) := by decide +kernel
theorem d_X_init_91 : decode b_X_init 91 = .ok (.bipush 20, 2) := by decide +kernel
theorem d_X_init_93 : decode b_X_init 93 = .ok (.newarray .int, 2) := by decide +kernel
theorem d_X_init_95 : decode b_X_init 95 = .ok (.putfield 44, 3) := by decide +kernel
theorem d_X_init_98 : decode b_X_init 98 = .ok (.aload_n 0, 1) := by decide +kernel
theorem d_X_init_99 : decode b_X_init 99 = .ok (.bipush 16, 2) := by decide +kernel
theorem d_X_init_101 : decode b_X_init 101 = .ok (.newarray .int, 2) := by decide +kernel
theorem d_X_init_103 : decode b_X_init 103 = .ok (.putfield 47, 3) := by decide +kernel
theorem d_X_init_106 : decode b_X_init 106 = .ok (.aload_n 0, 1) := by decide +kernel
theorem d_X_init_107 : decode b_X_init 107 = .ok (.iconst (-1), 1) := by decide +kernel
theorem d_X_init_108 : decode b_X_init 108 = .ok (.putfield 50, 3) := by decide +kernel
theorem d_X_init_111 : decode b_X_init 111 = .ok (.return_, 1) := by decide +kernel
theorem d_X_premise_0 : decode b_X_premise 0 = .ok (.iload_n 1, 1) := by decide +kernel
theorem d_X_premise_1 : decode b_X_premise 1 = .ok (.invokestatic 54, 3) := by decide +kernel
theorem d_X_premise_4 : decode b_X_premise 4 = .ok (.ifCond .ne 5, 3) := by decide +kernel
theorem d_X_premise_7 : decode b_X_premise 7 = .ok (.iconst (-1), 1) := by decide +kernel
theorem d_X_premise_8 : decode b_X_premise 8 = .ok (.ireturn, 1) := by decide +kernel
theorem d_X_premise_9 : decode b_X_premise 9 = .ok (.aload_n 0, 1) := by decide +kernel
theorem d_X_premise_10 : decode b_X_premise 10 = .ok (.getfield 58, 3) := by decide +kernel
theorem d_X_premise_13 : decode b_X_premise 13 = .ok (.iconst 3, 1) := by decide +kernel
theorem d_X_premise_14 : decode b_X_premise 14 = .ok (.if_icmp .ne 6, 3) := by decide +kernel
theorem d_X_premise_17 : decode b_X_premise 17 = .ok (.bipush (-2), 2) := by decide +kernel
theorem d_X_premise_19 : decode b_X_premise 19 = .ok (.ireturn, 1) := by decide +kernel
theorem d_X_premise_20 : decode b_X_premise 20 = .ok (.aload_n 0, 1) := by decide +kernel
theorem d_X_premise_21 : decode b_X_premise 21 = .ok (.getfield 26, 3) := by decide +kernel
theorem d_X_premise_24 : decode b_X_premise 24 = .ok (.aload_n 0, 1) := by decide +kernel
theorem d_X_premise_25 : decode b_X_premise 25 = .ok (.getfield 58, 3) := by decide +kernel
theorem d_X_premise_28 : decode b_X_premise 28 = .ok (.iload_n 1, 1) := by decide +kernel
theorem d_X_premise_29 : decode b_X_premise 29 = .ok (.iastore, 1) := by decide +kernel
theorem d_X_premise_30 : decode b_X_premise 30 = .ok (.aload_n 0, 1) := by decide +kernel
theorem d_X_premise_31 : decode b_X_premise 31 = .ok (.getfield 29, 3) := by decide +kernel
theorem d_X_premise_34 : decode b_X_premise 34 = .ok (.aload_n 0, 1) := by decide +kernel
theorem d_X_premise_35 : decode b_X_premise 35 = .ok (.getfield 58, 3) := by decide +kernel
theorem d_X_premise_38 : decode b_X_premise 38 = .ok (.iload_n 2, 1) := by decide +kernel
theorem d_X_premise_39 : decode b_X_premise 39 = .ok (.ifCond .eq 7, 3) := by decide +kernel
theorem d_X_premise_42 : decode b_X_premise 42 = .ok (.iconst 1, 1) := by decide +kernel
theorem d_X_premise_43 : decode b_X_premise 43 = .ok (.goto 4, 3) := by decide +kernel
theorem d_X_premise_46 : decode b_X_premise 46 = .ok (.iconst 0, 1) := by decide +kernel
theorem d_X_premise_47 : decode b_X_premise 47 = .ok (.bastore, 1) := by decide +kernel
theorem d_X_premise_48 : decode b_X_premise 48 = .ok (.aload_n 0, 1) := by decide +kernel
theorem d_X_premise_49 : decode b_X_premise 49 = .ok (.dup, 1) := by decide +kernel
theorem d_X_premise_50 : decode b_X_premise 50 = .ok (.getfield 58, 3) := by decide +kernel
theorem d_X_premise_53 : decode b_X_premise 53 = .ok (.iconst 1, 1) := by decide +kernel
theorem d_X_premise_54 : decode b_X_premise 54 = .ok (.iadd, 1) := by decide +kernel
theorem d_X_premise_55 : decode b_X_premise 55 = .ok (.putfield 58, 3) := by decide +kernel
theorem d_X_premise_58 : decode b_X_premise 58 = .ok (.aload_n 0, 1) := by decide +kernel
theorem d_X_premise_59 : decode b_X_premise 59 = .ok (.getfield 58, 3) := by decide +kernel
theorem d_X_premise_62 : decode b_X_premise 62 = .ok (.ireturn, 1) := by decide +kernel
theorem d_X_clear_0 : decode b_X_clear 0 = .ok (.aload_n 0, 1) := by decide +kernel
theorem d_X_clear_1 : decode b_X_clear 1 = .ok (.getfield 58, 3) := by decide +kernel
theorem d_X_clear_4 : decode b_X_clear 4 = .ok (.istore_n 1, 1) := by decide +kernel
theorem d_X_clear_5 : decode b_X_clear 5 = .ok (.aload_n 0, 1) := by decide +kernel
theorem d_X_clear_6 : decode b_X_clear 6 = .ok (.iconst 0, 1) := by decide +kernel
theorem d_X_clear_7 : decode b_X_clear 7 = .ok (.putfield 58, 3) := by decide +kernel
theorem d_X_clear_10 : decode b_X_clear 10 = .ok (.iload_n 1, 1) := by decide +kernel
theorem d_X_clear_11 : decode b_X_clear 11 = .ok (.ireturn, 1) := by decide +kernel
theorem d_X_rule_0 : decode b_X_rule 0 = .ok (.iload_n 1, 1) := by decide +kernel
theorem d_X_rule_1 : decode b_X_rule 1 = .ok (.invokestatic 54, 3) := by decide +kernel
theorem d_X_rule_4 : decode b_X_rule 4 = .ok (.ifCond .ne 5, 3) := by decide +kernel
theorem d_X_rule_7 : decode b_X_rule 7 = .ok (.iconst (-1), 1) := by decide +kernel
theorem d_X_rule_8 : decode b_X_rule 8 = .ok (.ireturn, 1) := by decide +kernel
theorem d_X_rule_9 : decode b_X_rule 9 = .ok (.iload_n 2, 1) := by decide +kernel
theorem d_X_rule_10 : decode b_X_rule 10 = .ok (.iconst 1, 1) := by decide +kernel
theorem d_X_rule_11 : decode b_X_rule 11 = .ok (.if_icmp .lt 9, 3) := by decide +kernel
theorem d_X_rule_14 : decode b_X_rule 14 = .ok (.iload_n 2, 1) := by decide +kernel
theorem d_X_rule_15 : decode b_X_rule 15 = .ok (.bipush 100, 2) := by decide +kernel
theorem d_X_rule_17 : decode b_X_rule 17 = .ok (.if_icmp .le 6, 3) := by decide +kernel
theorem d_X_rule_20 : decode b_X_rule 20 = .ok (.bipush (-2), 2) := by decide +kernel
theorem d_X_rule_22 : decode b_X_rule 22 = .ok (.ireturn, 1) := by decide +kernel
theorem d_X_rule_23 : decode b_X_rule 23 = .ok (.iconst 0, 1) := by decide +kernel
theorem d_X_rule_24 : decode b_X_rule 24 = .ok (.istore_n 3, 1) := by decide +kernel
theorem d_X_rule_25 : decode b_X_rule 25 = .ok (.iload_n 3, 1) := by decide +kernel
theorem d_X_rule_26 : decode b_X_rule 26 = .ok (.aload_n 0, 1) := by decide +kernel
theorem d_X_rule_27 : decode b_X_rule 27 = .ok (.getfield 58, 3) := by decide +kernel
theorem d_X_rule_30 : decode b_X_rule 30 = .ok (.if_icmp .ge 47, 3) := by decide +kernel
theorem d_X_rule_33 : decode b_X_rule 33 = .ok (.aload_n 0, 1) := by decide +kernel
theorem d_X_rule_34 : decode b_X_rule 34 = .ok (.getfield 29, 3) := by decide +kernel
theorem d_X_rule_37 : decode b_X_rule 37 = .ok (.iload_n 3, 1) := by decide +kernel
theorem d_X_rule_38 : decode b_X_rule 38 = .ok (.baload, 1) := by decide +kernel
theorem d_X_rule_39 : decode b_X_rule 39 = .ok (.ifCond .eq 11, 3) := by decide +kernel
theorem d_X_rule_42 : decode b_X_rule 42 = .ok (.iload_n 1, 1) := by decide +kernel
theorem d_X_rule_43 : decode b_X_rule 43 = .ok (.iconst 2, 1) := by decide +kernel
theorem d_X_rule_44 : decode b_X_rule 44 = .ok (.ishr, 1) := by decide +kernel
theorem d_X_rule_45 : decode b_X_rule 45 = .ok (.iconst 1, 1) := by decide +kernel
theorem d_X_rule_46 : decode b_X_rule 46 = .ok (.isub, 1) := by decide +kernel
theorem d_X_rule_47 : decode b_X_rule 47 = .ok (.goto 6, 3) := by decide +kernel
theorem d_X_rule_50 : decode b_X_rule 50 = .ok (.iload_n 1, 1) := by decide +kernel
theorem d_X_rule_51 : decode b_X_rule 51 = .ok (.iconst 2, 1) := by decide +kernel
theorem d_X_rule_52 : decode b_X_rule 52 = .ok (.ishr, 1) := by decide +kernel
theorem d_X_rule_53 : decode b_X_rule 53 = .ok (.istore 4, 2) := by decide +kernel
theorem d_X_rule_55 : decode b_X_rule 55 = .ok (.aload_n 0, 1) := by decide +kernel
theorem d_X_rule_56 : decode b_X_rule 56 = .ok (.getfield 26, 3) := by decide +kernel
theorem d_X_rule_59 : decode b_X_rule 59 = .ok (.iload_n 3, 1) := by decide +kernel
theorem d_X_rule_60 : decode b_X_rule 60 = .ok (.iaload, 1) := by decide +kernel
theorem d_X_rule_61 : decode b_X_rule 61 = .ok (.iconst 2, 1) := by decide +kernel
theorem d_X_rule_62 : decode b_X_rule 62 = .ok (.ishr, 1) := by decide +kernel
theorem d_X_rule_63 : decode b_X_rule 63 = .ok (.iload 4, 2) := by decide +kernel
theorem d_X_rule_65 : decode b_X_rule 65 = .ok (.if_icmp .le 6, 3) := by decide +kernel
theorem d_X_rule_68 : decode b_X_rule 68 = .ok (.bipush (-3), 2) := by decide +kernel
theorem d_X_rule_70 : decode b_X_rule 70 = .ok (.ireturn, 1) := by decide +kernel
theorem d_X_rule_71 : decode b_X_rule 71 = .ok (.iinc 3 1, 3) := by decide +kernel
theorem d_X_rule_74 : decode b_X_rule 74 = .ok (.goto (-49), 3) := by decide +kernel
theorem d_X_rule_77 : decode b_X_rule 77 = .ok (.aload_n 0, 1) := by decide +kernel
theorem d_X_rule_78 : decode b_X_rule 78 = .ok (.getfield 61, 3) := by decide +kernel
theorem d_X_rule_81 : decode b_X_rule 81 = .ok (.bipush 20, 2) := by decide +kernel
theorem d_X_rule_83 : decode b_X_rule 83 = .ok (.if_icmp .ne 6, 3) := by decide +kernel
theorem d_X_rule_86 : decode b_X_rule 86 = .ok (.bipush (-4), 2) := by decide +kernel
theorem d_X_rule_88 : decode b_X_rule 88 = .ok (.ireturn, 1) := by decide +kernel
theorem d_X_rule_89 : decode b_X_rule 89 = .ok (.aload_n 0, 1) := by decide +kernel
theorem d_X_rule_90 : decode b_X_rule 90 = .ok (.getfield 7, 3) := by decide +kernel
theorem d_X_rule_93 : decode b_X_rule 93 = .ok (.aload_n 0, 1) := by decide +kernel
theorem d_X_rule_94 : decode b_X_rule 94 = .ok (.getfield 61, 3) := by decide +kernel
theorem d_X_rule_97 : decode b_X_rule 97 = .ok (.iload_n 1, 1) := by decide +kernel
theorem d_X_rule_98 : decode b_X_rule 98 = .ok (.iastore, 1) := by decide +kernel
theorem d_X_rule_99 : decode b_X_rule 99 = .ok (.aload_n 0, 1) := by decide +kernel
theorem d_X_rule_100 : decode b_X_rule 100 = .ok (.getfield 13, 3) := by decide +kernel
theorem d_X_rule_103 : decode b_X_rule 103 = .ok (.aload_n 0, 1) := by decide +kernel
theorem d_X_rule_104 : decode b_X_rule 104 = .ok (.getfield 61, 3) := by decide +kernel
theorem d_X_rule_107 : decode b_X_rule 107 = .ok (.iload_n 2, 1) := by decide +kernel
theorem d_X_rule_108 : decode b_X_rule 108 = .ok (.iastore, 1) := by decide +kernel
theorem d_X_rule_109 : decode b_X_rule 109 = .ok (.aload_n 0, 1) := by decide +kernel
theorem d_X_rule_110 : decode b_X_rule 110 = .ok (.getfield 16, 3) := by decide +kernel
theorem d_X_rule_113 : decode b_X_rule 113 = .ok (.aload_n 0, 1) := by decide +kernel
theorem d_X_rule_114 : decode b_X_rule 114 = .ok (.getfield 61, 3) := by decide +kernel
theorem d_X_rule_117 : decode b_X_rule 117 = .ok (.aload_n 0, 1) := by decide +kernel
theorem d_X_rule_118 : decode b_X_rule 118 = .ok (.getfield 58, 3) := by decide +kernel
theorem d_X_rule_121 : decode b_X_rule 121 = .ok (.iastore, 1) := by decide +kernel
theorem d_X_rule_122 : decode b_X_rule 122 = .ok (.iconst 0, 1) := by decide +kernel
theorem d_X_rule_123 : decode b_X_rule 123 = .ok (.istore_n 3, 1) := by decide +kernel
theorem d_X_rule_124 : decode b_X_rule 124 = .ok (.iload_n 3, 1) := by decide +kernel
theorem d_X_rule_125 : decode b_X_rule 125 = .ok (.aload_n 0, 1) := by decide +kernel
theorem d_X_rule_126 : decode b_X_rule 126 = .ok (.getfield 58, 3) := by decide +kernel
theorem d_X_rule_129 : decode b_X_rule 129 = .ok (.if_icmp .ge 47, 3) := by decide +kernel
theorem d_X_rule_132 : decode b_X_rule 132 = .ok (.aload_n 0, 1) := by decide +kernel
theorem d_X_rule_133 : decode b_X_rule 133 = .ok (.getfield 19, 3) := by decide +kernel
theorem d_X_rule_136 : decode b_X_rule 136 = .ok (.iconst 3, 1) := by decide +kernel
theorem d_X_rule_137 : decode b_X_rule 137 = .ok (.aload_n 0, 1) := by decide +kernel
theorem d_X_rule_138 : decode b_X_rule 138 = .ok (.getfield 61, 3) := by decide +kernel
theorem d_X_rule_141 : decode b_X_rule 141 = .ok (.imul, 1) := by decide +kernel
theorem d_X_rule_142 : decode b_X_rule 142 = .ok (.iload_n 3, 1) := by decide +kernel
theorem d_X_rule_143 : decode b_X_rule 143 = .ok (.iadd, 1) := by decide +kernel
theorem d_X_rule_144 : decode b_X_rule 144 = .ok (.aload_n 0, 1) := by decide +kernel
theorem d_X_rule_145 : decode b_X_rule 145 = .ok (.getfield 26, 3) := by decide +kernel
theorem d_X_rule_148 : decode b_X_rule 148 = .ok (.iload_n 3, 1) := by decide +kernel
theorem d_X_rule_149 : decode b_X_rule 149 = .ok (.iaload, 1) := by decide +kernel
theorem d_X_rule_150 : decode b_X_rule 150 = .ok (.iastore, 1) := by decide +kernel
theorem d_X_rule_151 : decode b_X_rule 151 = .ok (.aload_n 0, 1) := by decide +kernel
theorem d_X_rule_152 : decode b_X_rule 152 = .ok (.getfield 22, 3) := by decide +kernel
theorem d_X_rule_155 : decode b_X_rule 155 = .ok (.iconst 3, 1) := by decide +kernel
theorem d_X_rule_156 : decode b_X_rule 156 = .ok (.aload_n 0, 1) := by decide +kernel
theorem d_X_rule_157 : decode b_X_rule 157 = .ok (.getfield 61, 3) := by decide +kernel
theorem d_X_rule_160 : decode b_X_rule 160 = .ok (.imul, 1) := by decide +kernel
theorem d_X_rule_161 : decode b_X_rule 161 = .ok (.iload_n 3, 1) := by decide +kernel
theorem d_X_rule_162 : decode b_X_rule 162 = .ok (.iadd, 1) := by decide +kernel
theorem d_X_rule_163 : decode b_X_rule 163 = .ok (.aload_n 0, 1) := by decide +kernel
theorem d_X_rule_164 : decode b_X_rule 164 = .ok (.getfield 29, 3) := by decide +kernel
theorem d_X_rule_167 : decode b_X_rule 167 = .ok (.iload_n 3, 1) := by decide +kernel
theorem d_X_rule_168 : decode b_X_rule 168 = .ok (.baload, 1) := by decide +kernel
theorem d_X_rule_169 : decode b_X_rule 169 = .ok (.bastore, 1) := by decide +kernel
theorem d_X_rule_170 : decode b_X_rule 170 = .ok (.iinc 3 1, 3) := by decide +kernel
theorem d_X_rule_173 : decode b_X_rule 173 = .ok (.goto (-49), 3) := by decide +kernel
theorem d_X_rule_176 : decode b_X_rule 176 = .ok (.aload_n 0, 1) := by decide +kernel
theorem d_X_rule_177 : decode b_X_rule 177 = .ok (.iconst 0, 1) := by decide +kernel
theorem d_X_rule_178 : decode b_X_rule 178 = .ok (.putfield 58, 3) := by decide +kernel
theorem d_X_rule_181 : decode b_X_rule 181 = .ok (.aload_n 0, 1) := by decide +kernel
theorem d_X_rule_182 : decode b_X_rule 182 = .ok (.dup, 1) := by decide +kernel
theorem d_X_rule_183 : decode b_X_rule 183 = .ok (.getfield 61, 3) := by decide +kernel
theorem d_X_rule_186 : decode b_X_rule 186 = .ok (.iconst 1, 1) := by decide +kernel
theorem d_X_rule_187 : decode b_X_rule 187 = .ok (.iadd, 1) := by decide +kernel
theorem d_X_rule_188 : decode b_X_rule 188 = .ok (.putfield 61, 3) := by decide +kernel
theorem d_X_rule_191 : decode b_X_rule 191 = .ok (.aload_n 0, 1) := by decide +kernel
theorem d_X_rule_192 : decode b_X_rule 192 = .ok (.iconst 0, 1) := by decide +kernel
theorem d_X_rule_193 : decode b_X_rule 193 = .ok (.putfield 64, 3) := by decide +kernel
theorem d_X_rule_196 : decode b_X_rule 196 = .ok (.aload_n 0, 1) := by decide +kernel
theorem d_X_rule_197 : decode b_X_rule 197 = .ok (.getfield 61, 3) := by decide +kernel
theorem d_X_rule_200 : decode b_X_rule 200 = .ok (.iconst 1, 1) := by decide +kernel
theorem d_X_rule_201 : decode b_X_rule 201 = .ok (.isub, 1) := by decide +kernel
theorem d_X_rule_202 : decode b_X_rule 202 = .ok (.ireturn, 1) := by decide +kernel
theorem d_X_remove_0 : decode b_X_remove 0 = .ok (.aload_n 0, 1) := by decide +kernel
theorem d_X_remove_1 : decode b_X_remove 1 = .ok (.iload_n 1, 1) := by decide +kernel
theorem d_X_remove_2 : decode b_X_remove 2 = .ok (.invokevirtual 68, 3) := by decide +kernel
theorem d_X_remove_5 : decode b_X_remove 5 = .ok (.ifCond .ne 5, 3) := by decide +kernel
theorem d_X_remove_8 : decode b_X_remove 8 = .ok (.iconst (-1), 1) := by decide +kernel
theorem d_X_remove_9 : decode b_X_remove 9 = .ok (.ireturn, 1) := by decide +kernel
theorem d_X_remove_10 : decode b_X_remove 10 = .ok (.iload_n 1, 1) := by decide +kernel
theorem d_X_remove_11 : decode b_X_remove 11 = .ok (.iconst 1, 1) := by decide +kernel
theorem d_X_remove_12 : decode b_X_remove 12 = .ok (.iadd, 1) := by decide +kernel
theorem d_X_remove_13 : decode b_X_remove 13 = .ok (.istore_n 2, 1) := by decide +kernel
theorem d_X_remove_14 : decode b_X_remove 14 = .ok (.iload_n 2, 1) := by decide +kernel
theorem d_X_remove_15 : decode b_X_remove 15 = .ok (.aload_n 0, 1) := by decide +kernel
theorem d_X_remove_16 : decode b_X_remove 16 = .ok (.getfield 61, 3) := by decide +kernel
theorem d_X_remove_19 : decode b_X_remove 19 = .ok (.if_icmp .ge 108, 3) := by decide +kernel
theorem d_X_remove_22 : decode b_X_remove 22 = .ok (.aload_n 0, 1) := by decide +kernel
theorem d_X_remove_23 : decode b_X_remove 23 = .ok (.getfield 7, 3) := by decide +kernel
theorem d_X_remove_26 : decode b_X_remove 26 = .ok (.iload_n 2, 1) := by decide +kernel
theorem d_X_remove_27 : decode b_X_remove 27 = .ok (.iconst 1, 1) := by decide +kernel
theorem d_X_remove_28 : decode b_X_remove 28 = .ok (.isub, 1) := by decide +kernel
theorem d_X_remove_29 : decode b_X_remove 29 = .ok (.aload_n 0, 1) := by decide +kernel
theorem d_X_remove_30 : decode b_X_remove 30 = .ok (.getfield 7, 3) := by decide +kernel
theorem d_X_remove_33 : decode b_X_remove 33 = .ok (.iload_n 2, 1) := by decide +kernel
theorem d_X_remove_34 : decode b_X_remove 34 = .ok (.iaload, 1) := by decide +kernel
theorem d_X_remove_35 : decode b_X_remove 35 = .ok (.iastore, 1) := by decide +kernel
theorem d_X_remove_36 : decode b_X_remove 36 = .ok (.aload_n 0, 1) := by decide +kernel
theorem d_X_remove_37 : decode b_X_remove 37 = .ok (.getfield 13, 3) := by decide +kernel
theorem d_X_remove_40 : decode b_X_remove 40 = .ok (.iload_n 2, 1) := by decide +kernel
theorem d_X_remove_41 : decode b_X_remove 41 = .ok (.iconst 1, 1) := by decide +kernel
theorem d_X_remove_42 : decode b_X_remove 42 = .ok (.isub, 1) := by decide +kernel
theorem d_X_remove_43 : decode b_X_remove 43 = .ok (.aload_n 0, 1) := by decide +kernel
theorem d_X_remove_44 : decode b_X_remove 44 = .ok (.getfield 13, 3) := by decide +kernel
theorem d_X_remove_47 : decode b_X_remove 47 = .ok (.iload_n 2, 1) := by decide +kernel
theorem d_X_remove_48 : decode b_X_remove 48 = .ok (.iaload, 1) := by decide +kernel
theorem d_X_remove_49 : decode b_X_remove 49 = .ok (.iastore, 1) := by decide +kernel
theorem d_X_remove_50 : decode b_X_remove 50 = .ok (.aload_n 0, 1) := by decide +kernel
theorem d_X_remove_51 : decode b_X_remove 51 = .ok (.getfield 16, 3) := by decide +kernel
theorem d_X_remove_54 : decode b_X_remove 54 = .ok (.iload_n 2, 1) := by decide +kernel
theorem d_X_remove_55 : decode b_X_remove 55 = .ok (.iconst 1, 1) := by decide +kernel
theorem d_X_remove_56 : decode b_X_remove 56 = .ok (.isub, 1) := by decide +kernel
theorem d_X_remove_57 : decode b_X_remove 57 = .ok (.aload_n 0, 1) := by decide +kernel
theorem d_X_remove_58 : decode b_X_remove 58 = .ok (.getfield 16, 3) := by decide +kernel
theorem d_X_remove_61 : decode b_X_remove 61 = .ok (.iload_n 2, 1) := by decide +kernel
theorem d_X_remove_62 : decode b_X_remove 62 = .ok (.iaload, 1) := by decide +kernel
theorem d_X_remove_63 : decode b_X_remove 63 = .ok (.iastore, 1) := by decide +kernel
theorem d_X_remove_64 : decode b_X_remove 64 = .ok (.iconst 0, 1) := by decide +kernel
theorem d_X_remove_65 : decode b_X_remove 65 = .ok (.istore_n 3, 1) := by decide +kernel
theorem d_X_remove_66 : decode b_X_remove 66 = .ok (.iload_n 3, 1) := by decide +kernel
theorem d_X_remove_67 : decode b_X_remove 67 = .ok (.iconst 3, 1) := by decide +kernel
theorem d_X_remove_68 : decode b_X_remove 68 = .ok (.if_icmp .ge 53, 3) := by decide +kernel
theorem d_X_remove_71 : decode b_X_remove 71 = .ok (.aload_n 0, 1) := by decide +kernel
theorem d_X_remove_72 : decode b_X_remove 72 = .ok (.getfield 19, 3) := by decide +kernel
theorem d_X_remove_75 : decode b_X_remove 75 = .ok (.iconst 3, 1) := by decide +kernel
theorem d_X_remove_76 : decode b_X_remove 76 = .ok (.iload_n 2, 1) := by decide +kernel
theorem d_X_remove_77 : decode b_X_remove 77 = .ok (.iconst 1, 1) := by decide +kernel
theorem d_X_remove_78 : decode b_X_remove 78 = .ok (.isub, 1) := by decide +kernel
theorem d_X_remove_79 : decode b_X_remove 79 = .ok (.imul, 1) := by decide +kernel
theorem d_X_remove_80 : decode b_X_remove 80 = .ok (.iload_n 3, 1) := by decide +kernel
theorem d_X_remove_81 : decode b_X_remove 81 = .ok (.iadd, 1) := by decide +kernel
theorem d_X_remove_82 : decode b_X_remove 82 = .ok (.aload_n 0, 1) := by decide +kernel
theorem d_X_remove_83 : decode b_X_remove 83 = .ok (.getfield 19, 3) := by decide +kernel
theorem d_X_remove_86 : decode b_X_remove 86 = .ok (.iconst 3, 1) := by decide +kernel
theorem d_X_remove_87 : decode b_X_remove 87 = .ok (.iload_n 2, 1) := by decide +kernel
theorem d_X_remove_88 : decode b_X_remove 88 = .ok (.imul, 1) := by decide +kernel
theorem d_X_remove_89 : decode b_X_remove 89 = .ok (.iload_n 3, 1) := by decide +kernel
theorem d_X_remove_90 : decode b_X_remove 90 = .ok (.iadd, 1) := by decide +kernel
theorem d_X_remove_91 : decode b_X_remove 91 = .ok (.iaload, 1) := by decide +kernel
theorem d_X_remove_92 : decode b_X_remove 92 = .ok (.iastore, 1) := by decide +kernel
theorem d_X_remove_93 : decode b_X_remove 93 = .ok (.aload_n 0, 1) := by decide +kernel
theorem d_X_remove_94 : decode b_X_remove 94 = .ok (.getfield 22, 3) := by decide +kernel
theorem d_X_remove_97 : decode b_X_remove 97 = .ok (.iconst 3, 1) := by decide +kernel
theorem d_X_remove_98 : decode b_X_remove 98 = .ok (.iload_n 2, 1) := by decide +kernel
theorem d_X_remove_99 : decode b_X_remove 99 = .ok (.iconst 1, 1) := by decide +kernel
theorem d_X_remove_100 : decode b_X_remove 100 = .ok (.isub, 1) := by decide +kernel
theorem d_X_remove_101 : decode b_X_remove 101 = .ok (.imul, 1) := by decide +kernel
theorem d_X_remove_102 : decode b_X_remove 102 = .ok (.iload_n 3, 1) := by decide +kernel
theorem d_X_remove_103 : decode b_X_remove 103 = .ok (.iadd, 1) := by decide +kernel
theorem d_X_remove_104 : decode b_X_remove 104 = .ok (.aload_n 0, 1) := by decide +kernel
theorem d_X_remove_105 : decode b_X_remove 105 = .ok (.getfield 22, 3) := by decide +kernel
theorem d_X_remove_108 : decode b_X_remove 108 = .ok (.iconst 3, 1) := by decide +kernel
theorem d_X_remove_109 : decode b_X_remove 109 = .ok (.iload_n 2, 1) := by decide +kernel
theorem d_X_remove_110 : decode b_X_remove 110 = .ok (.imul, 1) := by decide +kernel
theorem d_X_remove_111 : decode b_X_remove 111 = .ok (.iload_n 3, 1) := by decide +kernel
theorem d_X_remove_112 : decode b_X_remove 112 = .ok (.iadd, 1) := by decide +kernel
theorem d_X_remove_113 : decode b_X_remove 113 = .ok (.baload, 1) := by decide +kernel
theorem d_X_remove_114 : decode b_X_remove 114 = .ok (.bastore, 1) := by decide +kernel
theorem d_X_remove_115 : decode b_X_remove 115 = .ok (.iinc 3 1, 3) := by decide +kernel
theorem d_X_remove_118 : decode b_X_remove 118 = .ok (.goto (-52), 3) := by decide +kernel
theorem d_X_remove_121 : decode b_X_remove 121 = .ok (.iinc 2 1, 3) := by decide +kernel
theorem d_X_remove_124 : decode b_X_remove 124 = .ok (.goto (-110), 3) := by decide +kernel
theorem d_X_remove_127 : decode b_X_remove 127 = .ok (.aload_n 0, 1) := by decide +kernel
theorem d_X_remove_128 : decode b_X_remove 128 = .ok (.dup, 1) := by decide +kernel
theorem d_X_remove_129 : decode b_X_remove 129 = .ok (.getfield 61, 3) := by decide +kernel
theorem d_X_remove_132 : decode b_X_remove 132 = .ok (.iconst 1, 1) := by decide +kernel
theorem d_X_remove_133 : decode b_X_remove 133 = .ok (.isub, 1) := by decide +kernel
theorem d_X_remove_134 : decode b_X_remove 134 = .ok (.putfield 61, 3) := by decide +kernel
theorem d_X_remove_137 : decode b_X_remove 137 = .ok (.aload_n 0, 1) := by decide +kernel
theorem d_X_remove_138 : decode b_X_remove 138 = .ok (.iconst 0, 1) := by decide +kernel
theorem d_X_remove_139 : decode b_X_remove 139 = .ok (.putfield 64, 3) := by decide +kernel
theorem d_X_remove_142 : decode b_X_remove 142 = .ok (.aload_n 0, 1) := by decide +kernel
theorem d_X_remove_143 : decode b_X_remove 143 = .ok (.getfield 61, 3) := by decide +kernel
theorem d_X_remove_146 : decode b_X_remove 146 = .ok (.ireturn, 1) := by decide +kernel
theorem d_X_strengthen_0 : decode b_X_strengthen 0 = .ok (.aload_n 0, 1) := by decide +kernel
theorem d_X_strengthen_1 : decode b_X_strengthen 1 = .ok (.iload_n 1, 1) := by decide +kernel
theorem d_X_strengthen_2 : decode b_X_strengthen 2 = .ok (.invokevirtual 68, 3) := by decide +kernel
theorem d_X_strengthen_5 : decode b_X_strengthen 5 = .ok (.ifCond .ne 5, 3) := by decide +kernel
theorem d_X_strengthen_8 : decode b_X_strengthen 8 = .ok (.iconst (-1), 1) := by decide +kernel
theorem d_X_strengthen_9 : decode b_X_strengthen 9 = .ok (.ireturn, 1) := by decide +kernel
theorem d_X_strengthen_10 : decode b_X_strengthen 10 = .ok (.iload_n 2, 1) := by decide +kernel
theorem d_X_strengthen_11 : decode b_X_strengthen 11 = .ok (.iconst 1, 1) := by decide +kernel
theorem d_X_strengthen_12 : decode b_X_strengthen 12 = .ok (.if_icmp .lt 9, 3) := by decide +kernel
theorem d_X_strengthen_15 : decode b_X_strengthen 15 = .ok (.iload_n 2, 1) := by decide +kernel
theorem d_X_strengthen_16 : decode b_X_strengthen 16 = .ok (.bipush 100, 2) := by decide +kernel
theorem d_X_strengthen_18 : decode b_X_strengthen 18 = .ok (.if_icmp .le 6, 3) := by decide +kernel
theorem d_X_strengthen_21 : decode b_X_strengthen 21 = .ok (.bipush (-2), 2) := by decide +kernel
theorem d_X_strengthen_23 : decode b_X_strengthen 23 = .ok (.ireturn, 1) := by decide +kernel
theorem d_X_strengthen_24 : decode b_X_strengthen 24 = .ok (.aload_n 0, 1) := by decide +kernel
theorem d_X_strengthen_25 : decode b_X_strengthen 25 = .ok (.getfield 13, 3) := by decide +kernel
theorem d_X_strengthen_28 : decode b_X_strengthen 28 = .ok (.iload_n 1, 1) := by decide +kernel
theorem d_X_strengthen_29 : decode b_X_strengthen 29 = .ok (.iaload, 1) := by decide +kernel
theorem d_X_strengthen_30 : decode b_X_strengthen 30 = .ok (.istore_n 3, 1) := by decide +kernel
theorem d_X_strengthen_31 : decode b_X_strengthen 31 = .ok (.aload_n 0, 1) := by decide +kernel
theorem d_X_strengthen_32 : decode b_X_strengthen 32 = .ok (.getfield 13, 3) := by decide +kernel
theorem d_X_strengthen_35 : decode b_X_strengthen 35 = .ok (.iload_n 1, 1) := by decide +kernel
theorem d_X_strengthen_36 : decode b_X_strengthen 36 = .ok (.iload_n 2, 1) := by decide +kernel
theorem d_X_strengthen_37 : decode b_X_strengthen 37 = .ok (.iastore, 1) := by decide +kernel
theorem d_X_strengthen_38 : decode b_X_strengthen 38 = .ok (.aload_n 0, 1) := by decide +kernel
theorem d_X_strengthen_39 : decode b_X_strengthen 39 = .ok (.iconst 0, 1) := by decide +kernel
theorem d_X_strengthen_40 : decode b_X_strengthen 40 = .ok (.putfield 64, 3) := by decide +kernel
theorem d_X_strengthen_43 : decode b_X_strengthen 43 = .ok (.iload_n 3, 1) := by decide +kernel
theorem d_X_strengthen_44 : decode b_X_strengthen 44 = .ok (.ireturn, 1) := by decide +kernel
theorem d_X_observe_0 : decode b_X_observe 0 = .ok (.iload_n 1, 1) := by decide +kernel
theorem d_X_observe_1 : decode b_X_observe 1 = .ok (.invokestatic 54, 3) := by decide +kernel
theorem d_X_observe_4 : decode b_X_observe 4 = .ok (.ifCond .ne 5, 3) := by decide +kernel
theorem d_X_observe_7 : decode b_X_observe 7 = .ok (.iconst (-1), 1) := by decide +kernel
theorem d_X_observe_8 : decode b_X_observe 8 = .ok (.ireturn, 1) := by decide +kernel
theorem d_X_observe_9 : decode b_X_observe 9 = .ok (.iload_n 2, 1) := by decide +kernel
theorem d_X_observe_10 : decode b_X_observe 10 = .ok (.ifCond .lt 9, 3) := by decide +kernel
theorem d_X_observe_13 : decode b_X_observe 13 = .ok (.iload_n 2, 1) := by decide +kernel
theorem d_X_observe_14 : decode b_X_observe 14 = .ok (.bipush 100, 2) := by decide +kernel
theorem d_X_observe_16 : decode b_X_observe 16 = .ok (.if_icmp .le 6, 3) := by decide +kernel
theorem d_X_observe_19 : decode b_X_observe 19 = .ok (.bipush (-2), 2) := by decide +kernel
theorem d_X_observe_21 : decode b_X_observe 21 = .ok (.ireturn, 1) := by decide +kernel
theorem d_X_observe_22 : decode b_X_observe 22 = .ok (.aload_n 0, 1) := by decide +kernel
theorem d_X_observe_23 : decode b_X_observe 23 = .ok (.getfield 32, 3) := by decide +kernel
theorem d_X_observe_26 : decode b_X_observe 26 = .ok (.iload_n 1, 1) := by decide +kernel
theorem d_X_observe_27 : decode b_X_observe 27 = .ok (.iaload, 1) := by decide +kernel
theorem d_X_observe_28 : decode b_X_observe 28 = .ok (.istore_n 3, 1) := by decide +kernel
theorem d_X_observe_29 : decode b_X_observe 29 = .ok (.aload_n 0, 1) := by decide +kernel
theorem d_X_observe_30 : decode b_X_observe 30 = .ok (.getfield 32, 3) := by decide +kernel
theorem d_X_observe_33 : decode b_X_observe 33 = .ok (.iload_n 1, 1) := by decide +kernel
theorem d_X_observe_34 : decode b_X_observe 34 = .ok (.iload_n 2, 1) := by decide +kernel
theorem d_X_observe_35 : decode b_X_observe 35 = .ok (.iastore, 1) := by decide +kernel
theorem d_X_observe_36 : decode b_X_observe 36 = .ok (.aload_n 0, 1) := by decide +kernel
theorem d_X_observe_37 : decode b_X_observe 37 = .ok (.iconst 0, 1) := by decide +kernel
theorem d_X_observe_38 : decode b_X_observe 38 = .ok (.putfield 64, 3) := by decide +kernel
theorem d_X_observe_41 : decode b_X_observe 41 = .ok (.iload_n 3, 1) := by decide +kernel
theorem d_X_observe_42 : decode b_X_observe 42 = .ok (.ireturn, 1) := by decide +kernel
theorem d_X_rules_0 : decode b_X_rules 0 = .ok (.aload_n 0, 1) := by decide +kernel
theorem d_X_rules_1 : decode b_X_rules 1 = .ok (.getfield 61, 3) := by decide +kernel
theorem d_X_rules_4 : decode b_X_rules 4 = .ok (.ireturn, 1) := by decide +kernel
theorem d_X_headOf_0 : decode b_X_headOf 0 = .ok (.aload_n 0, 1) := by decide +kernel
theorem d_X_headOf_1 : decode b_X_headOf 1 = .ok (.iload_n 1, 1) := by decide +kernel
theorem d_X_headOf_2 : decode b_X_headOf 2 = .ok (.invokevirtual 68, 3) := by decide +kernel
theorem d_X_headOf_5 : decode b_X_headOf 5 = .ok (.ifCond .eq 12, 3) := by decide +kernel
theorem d_X_headOf_8 : decode b_X_headOf 8 = .ok (.aload_n 0, 1) := by decide +kernel
theorem d_X_headOf_9 : decode b_X_headOf 9 = .ok (.getfield 7, 3) := by decide +kernel
theorem d_X_headOf_12 : decode b_X_headOf 12 = .ok (.iload_n 1, 1) := by decide +kernel
theorem d_X_headOf_13 : decode b_X_headOf 13 = .ok (.iaload, 1) := by decide +kernel
theorem d_X_headOf_14 : decode b_X_headOf 14 = .ok (.goto 4, 3) := by decide +kernel
theorem d_X_headOf_17 : decode b_X_headOf 17 = .ok (.iconst (-1), 1) := by decide +kernel
theorem d_X_headOf_18 : decode b_X_headOf 18 = .ok (.ireturn, 1) := by decide +kernel
theorem d_X_observed_0 : decode b_X_observed 0 = .ok (.iload_n 1, 1) := by decide +kernel
theorem d_X_observed_1 : decode b_X_observed 1 = .ok (.invokestatic 54, 3) := by decide +kernel
theorem d_X_observed_4 : decode b_X_observed 4 = .ok (.ifCond .eq 12, 3) := by decide +kernel
theorem d_X_observed_7 : decode b_X_observed 7 = .ok (.aload_n 0, 1) := by decide +kernel
theorem d_X_observed_8 : decode b_X_observed 8 = .ok (.getfield 32, 3) := by decide +kernel
theorem d_X_observed_11 : decode b_X_observed 11 = .ok (.iload_n 1, 1) := by decide +kernel
theorem d_X_observed_12 : decode b_X_observed 12 = .ok (.iaload, 1) := by decide +kernel
theorem d_X_observed_13 : decode b_X_observed 13 = .ok (.goto 4, 3) := by decide +kernel
theorem d_X_observed_16 : decode b_X_observed 16 = .ok (.iconst (-1), 1) := by decide +kernel
theorem d_X_observed_17 : decode b_X_observed 17 = .ok (.ireturn, 1) := by decide +kernel
theorem d_X_certainty_0 : decode b_X_certainty 0 = .ok (.iload_n 1, 1) := by decide +kernel
theorem d_X_certainty_1 : decode b_X_certainty 1 = .ok (.invokestatic 54, 3) := by decide +kernel
theorem d_X_certainty_4 : decode b_X_certainty 4 = .ok (.ifCond .ne 5, 3) := by decide +kernel
theorem d_X_certainty_7 : decode b_X_certainty 7 = .ok (.iconst (-1), 1) := by decide +kernel
theorem d_X_certainty_8 : decode b_X_certainty 8 = .ok (.ireturn, 1) := by decide +kernel
theorem d_X_certainty_9 : decode b_X_certainty 9 = .ok (.aload_n 0, 1) := by decide +kernel
theorem d_X_certainty_10 : decode b_X_certainty 10 = .ok (.invokevirtual 71, 3) := by decide +kernel
theorem d_X_certainty_13 : decode b_X_certainty 13 = .ok (.aload_n 0, 1) := by decide +kernel
theorem d_X_certainty_14 : decode b_X_certainty 14 = .ok (.getfield 35, 3) := by decide +kernel
theorem d_X_certainty_17 : decode b_X_certainty 17 = .ok (.iload_n 1, 1) := by decide +kernel
theorem d_X_certainty_18 : decode b_X_certainty 18 = .ok (.iaload, 1) := by decide +kernel
theorem d_X_certainty_19 : decode b_X_certainty 19 = .ok (.ireturn, 1) := by decide +kernel
theorem d_X_whatIf_0 : decode b_X_whatIf 0 = .ok (.iload_n 1, 1) := by decide +kernel
theorem d_X_whatIf_1 : decode b_X_whatIf 1 = .ok (.invokestatic 54, 3) := by decide +kernel
theorem d_X_whatIf_4 : decode b_X_whatIf 4 = .ok (.ifCond .eq 10, 3) := by decide +kernel
theorem d_X_whatIf_7 : decode b_X_whatIf 7 = .ok (.iload_n 2, 1) := by decide +kernel
theorem d_X_whatIf_8 : decode b_X_whatIf 8 = .ok (.invokestatic 54, 3) := by decide +kernel
theorem d_X_whatIf_11 : decode b_X_whatIf 11 = .ok (.ifCond .ne 5, 3) := by decide +kernel
theorem d_X_whatIf_14 : decode b_X_whatIf 14 = .ok (.iconst (-1), 1) := by decide +kernel
theorem d_X_whatIf_15 : decode b_X_whatIf 15 = .ok (.ireturn, 1) := by decide +kernel
theorem d_X_whatIf_16 : decode b_X_whatIf 16 = .ok (.iload_n 3, 1) := by decide +kernel
theorem d_X_whatIf_17 : decode b_X_whatIf 17 = .ok (.ifCond .lt 9, 3) := by decide +kernel
theorem d_X_whatIf_20 : decode b_X_whatIf 20 = .ok (.iload_n 3, 1) := by decide +kernel
theorem d_X_whatIf_21 : decode b_X_whatIf 21 = .ok (.bipush 100, 2) := by decide +kernel
theorem d_X_whatIf_23 : decode b_X_whatIf 23 = .ok (.if_icmp .le 6, 3) := by decide +kernel
theorem d_X_whatIf_26 : decode b_X_whatIf 26 = .ok (.bipush (-2), 2) := by decide +kernel
theorem d_X_whatIf_28 : decode b_X_whatIf 28 = .ok (.ireturn, 1) := by decide +kernel
theorem d_X_whatIf_29 : decode b_X_whatIf 29 = .ok (.aload_n 0, 1) := by decide +kernel
theorem d_X_whatIf_30 : decode b_X_whatIf 30 = .ok (.getfield 32, 3) := by decide +kernel
theorem d_X_whatIf_33 : decode b_X_whatIf 33 = .ok (.iload_n 2, 1) := by decide +kernel
theorem d_X_whatIf_34 : decode b_X_whatIf 34 = .ok (.iaload, 1) := by decide +kernel
theorem d_X_whatIf_35 : decode b_X_whatIf 35 = .ok (.istore 4, 2) := by decide +kernel
theorem d_X_whatIf_37 : decode b_X_whatIf 37 = .ok (.aload_n 0, 1) := by decide +kernel
theorem d_X_whatIf_38 : decode b_X_whatIf 38 = .ok (.getfield 32, 3) := by decide +kernel
theorem d_X_whatIf_41 : decode b_X_whatIf 41 = .ok (.iload_n 2, 1) := by decide +kernel
theorem d_X_whatIf_42 : decode b_X_whatIf 42 = .ok (.iload_n 3, 1) := by decide +kernel
theorem d_X_whatIf_43 : decode b_X_whatIf 43 = .ok (.iastore, 1) := by decide +kernel
theorem d_X_whatIf_44 : decode b_X_whatIf 44 = .ok (.aload_n 0, 1) := by decide +kernel
theorem d_X_whatIf_45 : decode b_X_whatIf 45 = .ok (.invokevirtual 74, 3) := by decide +kernel
theorem d_X_whatIf_48 : decode b_X_whatIf 48 = .ok (.aload_n 0, 1) := by decide +kernel
theorem d_X_whatIf_49 : decode b_X_whatIf 49 = .ok (.getfield 32, 3) := by decide +kernel
theorem d_X_whatIf_52 : decode b_X_whatIf 52 = .ok (.iload_n 2, 1) := by decide +kernel
theorem d_X_whatIf_53 : decode b_X_whatIf 53 = .ok (.iload 4, 2) := by decide +kernel
theorem d_X_whatIf_55 : decode b_X_whatIf 55 = .ok (.iastore, 1) := by decide +kernel
theorem d_X_whatIf_56 : decode b_X_whatIf 56 = .ok (.aload_n 0, 1) := by decide +kernel
theorem d_X_whatIf_57 : decode b_X_whatIf 57 = .ok (.iconst 0, 1) := by decide +kernel
theorem d_X_whatIf_58 : decode b_X_whatIf 58 = .ok (.putfield 64, 3) := by decide +kernel
theorem d_X_whatIf_61 : decode b_X_whatIf 61 = .ok (.aload_n 0, 1) := by decide +kernel
theorem d_X_whatIf_62 : decode b_X_whatIf 62 = .ok (.getfield 35, 3) := by decide +kernel
theorem d_X_whatIf_65 : decode b_X_whatIf 65 = .ok (.iload_n 1, 1) := by decide +kernel
theorem d_X_whatIf_66 : decode b_X_whatIf 66 = .ok (.iaload, 1) := by decide +kernel
theorem d_X_whatIf_67 : decode b_X_whatIf 67 = .ok (.ireturn, 1) := by decide +kernel
theorem d_X_without_0 : decode b_X_without 0 = .ok (.iload_n 1, 1) := by decide +kernel
theorem d_X_without_1 : decode b_X_without 1 = .ok (.invokestatic 54, 3) := by decide +kernel
theorem d_X_without_4 : decode b_X_without 4 = .ok (.ifCond .ne 5, 3) := by decide +kernel
theorem d_X_without_7 : decode b_X_without 7 = .ok (.iconst (-1), 1) := by decide +kernel
theorem d_X_without_8 : decode b_X_without 8 = .ok (.ireturn, 1) := by decide +kernel
theorem d_X_without_9 : decode b_X_without 9 = .ok (.aload_n 0, 1) := by decide +kernel
theorem d_X_without_10 : decode b_X_without 10 = .ok (.iload_n 2, 1) := by decide +kernel
theorem d_X_without_11 : decode b_X_without 11 = .ok (.invokevirtual 68, 3) := by decide +kernel
theorem d_X_without_14 : decode b_X_without 14 = .ok (.ifCond .ne 6, 3) := by decide +kernel
theorem d_X_without_17 : decode b_X_without 17 = .ok (.bipush (-2), 2) := by decide +kernel
theorem d_X_without_19 : decode b_X_without 19 = .ok (.ireturn, 1) := by decide +kernel
theorem d_X_without_20 : decode b_X_without 20 = .ok (.aload_n 0, 1) := by decide +kernel
theorem d_X_without_21 : decode b_X_without 21 = .ok (.iload_n 2, 1) := by decide +kernel
theorem d_X_without_22 : decode b_X_without 22 = .ok (.invokevirtual 77, 3) := by decide +kernel
theorem d_X_without_25 : decode b_X_without 25 = .ok (.aload_n 0, 1) := by decide +kernel
theorem d_X_without_26 : decode b_X_without 26 = .ok (.getfield 35, 3) := by decide +kernel
theorem d_X_without_29 : decode b_X_without 29 = .ok (.iload_n 1, 1) := by decide +kernel
theorem d_X_without_30 : decode b_X_without 30 = .ok (.iaload, 1) := by decide +kernel
theorem d_X_without_31 : decode b_X_without 31 = .ok (.ireturn, 1) := by decide +kernel
theorem d_X_supporter_0 : decode b_X_supporter 0 = .ok (.iload_n 1, 1) := by decide +kernel
theorem d_X_supporter_1 : decode b_X_supporter 1 = .ok (.invokestatic 54, 3) := by decide +kernel
theorem d_X_supporter_4 : decode b_X_supporter 4 = .ok (.ifCond .ne 5, 3) := by decide +kernel
theorem d_X_supporter_7 : decode b_X_supporter 7 = .ok (.iconst (-1), 1) := by decide +kernel
theorem d_X_supporter_8 : decode b_X_supporter 8 = .ok (.ireturn, 1) := by decide +kernel
theorem d_X_supporter_9 : decode b_X_supporter 9 = .ok (.aload_n 0, 1) := by decide +kernel
theorem d_X_supporter_10 : decode b_X_supporter 10 = .ok (.invokevirtual 71, 3) := by decide +kernel
theorem d_X_supporter_13 : decode b_X_supporter 13 = .ok (.iconst 0, 1) := by decide +kernel
theorem d_X_supporter_14 : decode b_X_supporter 14 = .ok (.istore_n 2, 1) := by decide +kernel
theorem d_X_supporter_15 : decode b_X_supporter 15 = .ok (.iload_n 2, 1) := by decide +kernel
theorem d_X_supporter_16 : decode b_X_supporter 16 = .ok (.aload_n 0, 1) := by decide +kernel
theorem d_X_supporter_17 : decode b_X_supporter 17 = .ok (.getfield 61, 3) := by decide +kernel
theorem d_X_supporter_20 : decode b_X_supporter 20 = .ok (.if_icmp .ge 44, 3) := by decide +kernel
theorem d_X_supporter_23 : decode b_X_supporter 23 = .ok (.aload_n 0, 1) := by decide +kernel
theorem d_X_supporter_24 : decode b_X_supporter 24 = .ok (.getfield 7, 3) := by decide +kernel
theorem d_X_supporter_27 : decode b_X_supporter 27 = .ok (.iload_n 2, 1) := by decide +kernel
theorem d_X_supporter_28 : decode b_X_supporter 28 = .ok (.iaload, 1) := by decide +kernel
theorem d_X_supporter_29 : decode b_X_supporter 29 = .ok (.iload_n 1, 1) := by decide +kernel
theorem d_X_supporter_30 : decode b_X_supporter 30 = .ok (.if_icmp .ne 28, 3) := by decide +kernel
theorem d_X_supporter_33 : decode b_X_supporter 33 = .ok (.aload_n 0, 1) := by decide +kernel
theorem d_X_supporter_34 : decode b_X_supporter 34 = .ok (.getfield 35, 3) := by decide +kernel
theorem d_X_supporter_37 : decode b_X_supporter 37 = .ok (.iload_n 1, 1) := by decide +kernel
theorem d_X_supporter_38 : decode b_X_supporter 38 = .ok (.iaload, 1) := by decide +kernel
theorem d_X_supporter_39 : decode b_X_supporter 39 = .ok (.ifCond .le 19, 3) := by decide +kernel
theorem d_X_supporter_42 : decode b_X_supporter 42 = .ok (.aload_n 0, 1) := by decide +kernel
theorem d_X_supporter_43 : decode b_X_supporter 43 = .ok (.iload_n 2, 1) := by decide +kernel
theorem d_X_supporter_44 : decode b_X_supporter 44 = .ok (.invokevirtual 81, 3) := by decide +kernel
theorem d_X_supporter_47 : decode b_X_supporter 47 = .ok (.aload_n 0, 1) := by decide +kernel
theorem d_X_supporter_48 : decode b_X_supporter 48 = .ok (.getfield 35, 3) := by decide +kernel
theorem d_X_supporter_51 : decode b_X_supporter 51 = .ok (.iload_n 1, 1) := by decide +kernel
theorem d_X_supporter_52 : decode b_X_supporter 52 = .ok (.iaload, 1) := by decide +kernel
theorem d_X_supporter_53 : decode b_X_supporter 53 = .ok (.if_icmp .ne 5, 3) := by decide +kernel
theorem d_X_supporter_56 : decode b_X_supporter 56 = .ok (.iload_n 2, 1) := by decide +kernel
theorem d_X_supporter_57 : decode b_X_supporter 57 = .ok (.ireturn, 1) := by decide +kernel
theorem d_X_supporter_58 : decode b_X_supporter 58 = .ok (.iinc 2 1, 3) := by decide +kernel
theorem d_X_supporter_61 : decode b_X_supporter 61 = .ok (.goto (-46), 3) := by decide +kernel
theorem d_X_supporter_64 : decode b_X_supporter 64 = .ok (.bipush (-2), 2) := by decide +kernel
theorem d_X_supporter_66 : decode b_X_supporter 66 = .ok (.ireturn, 1) := by decide +kernel
theorem d_X_yield_0 : decode b_X_yield 0 = .ok (.aload_n 0, 1) := by decide +kernel
theorem d_X_yield_1 : decode b_X_yield 1 = .ok (.iload_n 1, 1) := by decide +kernel
theorem d_X_yield_2 : decode b_X_yield 2 = .ok (.invokevirtual 68, 3) := by decide +kernel
theorem d_X_yield_5 : decode b_X_yield 5 = .ok (.ifCond .ne 5, 3) := by decide +kernel
theorem d_X_yield_8 : decode b_X_yield 8 = .ok (.iconst (-1), 1) := by decide +kernel
theorem d_X_yield_9 : decode b_X_yield 9 = .ok (.ireturn, 1) := by decide +kernel
theorem d_X_yield_10 : decode b_X_yield 10 = .ok (.aload_n 0, 1) := by decide +kernel
theorem d_X_yield_11 : decode b_X_yield 11 = .ok (.invokevirtual 71, 3) := by decide +kernel
theorem d_X_yield_14 : decode b_X_yield 14 = .ok (.aload_n 0, 1) := by decide +kernel
theorem d_X_yield_15 : decode b_X_yield 15 = .ok (.iload_n 1, 1) := by decide +kernel
theorem d_X_yield_16 : decode b_X_yield 16 = .ok (.invokevirtual 81, 3) := by decide +kernel
theorem d_X_yield_19 : decode b_X_yield 19 = .ok (.ireturn, 1) := by decide +kernel
theorem d_X_atLeast_0 : decode b_X_atLeast 0 = .ok (.aload_n 0, 1) := by decide +kernel
theorem d_X_atLeast_1 : decode b_X_atLeast 1 = .ok (.invokevirtual 71, 3) := by decide +kernel
theorem d_X_atLeast_4 : decode b_X_atLeast 4 = .ok (.iconst 0, 1) := by decide +kernel
theorem d_X_atLeast_5 : decode b_X_atLeast 5 = .ok (.istore_n 2, 1) := by decide +kernel
theorem d_X_atLeast_6 : decode b_X_atLeast 6 = .ok (.iconst 0, 1) := by decide +kernel
theorem d_X_atLeast_7 : decode b_X_atLeast 7 = .ok (.istore_n 3, 1) := by decide +kernel
theorem d_X_atLeast_8 : decode b_X_atLeast 8 = .ok (.iload_n 3, 1) := by decide +kernel
theorem d_X_atLeast_9 : decode b_X_atLeast 9 = .ok (.bipush 16, 2) := by decide +kernel
theorem d_X_atLeast_11 : decode b_X_atLeast 11 = .ok (.if_icmp .ge 22, 3) := by decide +kernel
theorem d_X_atLeast_14 : decode b_X_atLeast 14 = .ok (.aload_n 0, 1) := by decide +kernel
theorem d_X_atLeast_15 : decode b_X_atLeast 15 = .ok (.getfield 35, 3) := by decide +kernel
theorem d_X_atLeast_18 : decode b_X_atLeast 18 = .ok (.iload_n 3, 1) := by decide +kernel
theorem d_X_atLeast_19 : decode b_X_atLeast 19 = .ok (.iaload, 1) := by decide +kernel
theorem d_X_atLeast_20 : decode b_X_atLeast 20 = .ok (.iload_n 1, 1) := by decide +kernel
theorem d_X_atLeast_21 : decode b_X_atLeast 21 = .ok (.if_icmp .lt 6, 3) := by decide +kernel
theorem d_X_atLeast_24 : decode b_X_atLeast 24 = .ok (.iinc 2 1, 3) := by decide +kernel
theorem d_X_atLeast_27 : decode b_X_atLeast 27 = .ok (.iinc 3 1, 3) := by decide +kernel
theorem d_X_atLeast_30 : decode b_X_atLeast 30 = .ok (.goto (-22), 3) := by decide +kernel
theorem d_X_atLeast_33 : decode b_X_atLeast 33 = .ok (.iload_n 2, 1) := by decide +kernel
theorem d_X_atLeast_34 : decode b_X_atLeast 34 = .ok (.ireturn, 1) := by decide +kernel
theorem d_X_strongest_0 : decode b_X_strongest 0 = .ok (.iload_n 1, 1) := by decide +kernel
theorem d_X_strongest_1 : decode b_X_strongest 1 = .ok (.invokestatic 54, 3) := by decide +kernel
theorem d_X_strongest_4 : decode b_X_strongest 4 = .ok (.ifCond .eq 10, 3) := by decide +kernel
theorem d_X_strongest_7 : decode b_X_strongest 7 = .ok (.iload_n 2, 1) := by decide +kernel
theorem d_X_strongest_8 : decode b_X_strongest 8 = .ok (.invokestatic 54, 3) := by decide +kernel
theorem d_X_strongest_11 : decode b_X_strongest 11 = .ok (.ifCond .ne 5, 3) := by decide +kernel
theorem d_X_strongest_14 : decode b_X_strongest 14 = .ok (.iconst (-1), 1) := by decide +kernel
theorem d_X_strongest_15 : decode b_X_strongest 15 = .ok (.ireturn, 1) := by decide +kernel
theorem d_X_strongest_16 : decode b_X_strongest 16 = .ok (.iload_n 1, 1) := by decide +kernel
theorem d_X_strongest_17 : decode b_X_strongest 17 = .ok (.iload_n 2, 1) := by decide +kernel
theorem d_X_strongest_18 : decode b_X_strongest 18 = .ok (.if_icmp .le 6, 3) := by decide +kernel
theorem d_X_strongest_21 : decode b_X_strongest 21 = .ok (.bipush (-2), 2) := by decide +kernel
theorem d_X_strongest_23 : decode b_X_strongest 23 = .ok (.ireturn, 1) := by decide +kernel
theorem d_X_strongest_24 : decode b_X_strongest 24 = .ok (.aload_n 0, 1) := by decide +kernel
theorem d_X_strongest_25 : decode b_X_strongest 25 = .ok (.invokevirtual 71, 3) := by decide +kernel
theorem d_X_strongest_28 : decode b_X_strongest 28 = .ok (.iload_n 1, 1) := by decide +kernel
theorem d_X_strongest_29 : decode b_X_strongest 29 = .ok (.istore_n 3, 1) := by decide +kernel
theorem d_X_strongest_30 : decode b_X_strongest 30 = .ok (.iload_n 1, 1) := by decide +kernel
theorem d_X_strongest_31 : decode b_X_strongest 31 = .ok (.iconst 1, 1) := by decide +kernel
theorem d_X_strongest_32 : decode b_X_strongest 32 = .ok (.iadd, 1) := by decide +kernel
theorem d_X_strongest_33 : decode b_X_strongest 33 = .ok (.istore 4, 2) := by decide +kernel
theorem d_X_strongest_35 : decode b_X_strongest 35 = .ok (.iload 4, 2) := by decide +kernel
theorem d_X_strongest_37 : decode b_X_strongest 37 = .ok (.iload_n 2, 1) := by decide +kernel
theorem d_X_strongest_38 : decode b_X_strongest 38 = .ok (.if_icmp .gt 32, 3) := by decide +kernel
theorem d_X_strongest_41 : decode b_X_strongest 41 = .ok (.aload_n 0, 1) := by decide +kernel
theorem d_X_strongest_42 : decode b_X_strongest 42 = .ok (.getfield 35, 3) := by decide +kernel
theorem d_X_strongest_45 : decode b_X_strongest 45 = .ok (.iload 4, 2) := by decide +kernel
theorem d_X_strongest_47 : decode b_X_strongest 47 = .ok (.iaload, 1) := by decide +kernel
theorem d_X_strongest_48 : decode b_X_strongest 48 = .ok (.aload_n 0, 1) := by decide +kernel
theorem d_X_strongest_49 : decode b_X_strongest 49 = .ok (.getfield 35, 3) := by decide +kernel
theorem d_X_strongest_52 : decode b_X_strongest 52 = .ok (.iload_n 3, 1) := by decide +kernel
theorem d_X_strongest_53 : decode b_X_strongest 53 = .ok (.iaload, 1) := by decide +kernel
theorem d_X_strongest_54 : decode b_X_strongest 54 = .ok (.if_icmp .le 8, 3) := by decide +kernel
theorem d_X_strongest_57 : decode b_X_strongest 57 = .ok (.iload 4, 2) := by decide +kernel
theorem d_X_strongest_59 : decode b_X_strongest 59 = .ok (.goto 4, 3) := by decide +kernel
theorem d_X_strongest_62 : decode b_X_strongest 62 = .ok (.iload_n 3, 1) := by decide +kernel
theorem d_X_strongest_63 : decode b_X_strongest 63 = .ok (.istore_n 3, 1) := by decide +kernel
theorem d_X_strongest_64 : decode b_X_strongest 64 = .ok (.iinc 4 1, 3) := by decide +kernel
theorem d_X_strongest_67 : decode b_X_strongest 67 = .ok (.goto (-32), 3) := by decide +kernel
theorem d_X_strongest_70 : decode b_X_strongest 70 = .ok (.iload_n 3, 1) := by decide +kernel
theorem d_X_strongest_71 : decode b_X_strongest 71 = .ok (.ireturn, 1) := by decide +kernel
theorem d_X_essential_0 : decode b_X_essential 0 = .ok (.aload_n 0, 1) := by decide +kernel
theorem d_X_essential_1 : decode b_X_essential 1 = .ok (.invokevirtual 85, 3) := by decide +kernel
theorem d_X_essential_4 : decode b_X_essential 4 = .ok (.iconst 0, 1) := by decide +kernel
theorem d_X_essential_5 : decode b_X_essential 5 = .ok (.istore_n 1, 1) := by decide +kernel
theorem d_X_essential_6 : decode b_X_essential 6 = .ok (.iconst 0, 1) := by decide +kernel
theorem d_X_essential_7 : decode b_X_essential 7 = .ok (.istore_n 2, 1) := by decide +kernel
theorem d_X_essential_8 : decode b_X_essential 8 = .ok (.iload_n 2, 1) := by decide +kernel
theorem d_X_essential_9 : decode b_X_essential 9 = .ok (.aload_n 0, 1) := by decide +kernel
theorem d_X_essential_10 : decode b_X_essential 10 = .ok (.getfield 61, 3) := by decide +kernel
theorem d_X_essential_13 : decode b_X_essential 13 = .ok (.if_icmp .ge 24, 3) := by decide +kernel
theorem d_X_essential_16 : decode b_X_essential 16 = .ok (.aload_n 0, 1) := by decide +kernel
theorem d_X_essential_17 : decode b_X_essential 17 = .ok (.iload_n 2, 1) := by decide +kernel
theorem d_X_essential_18 : decode b_X_essential 18 = .ok (.invokevirtual 77, 3) := by decide +kernel
theorem d_X_essential_21 : decode b_X_essential 21 = .ok (.aload_n 0, 1) := by decide +kernel
theorem d_X_essential_22 : decode b_X_essential 22 = .ok (.invokevirtual 88, 3) := by decide +kernel
theorem d_X_essential_25 : decode b_X_essential 25 = .ok (.ifCond .le 6, 3) := by decide +kernel
theorem d_X_essential_28 : decode b_X_essential 28 = .ok (.iinc 1 1, 3) := by decide +kernel
theorem d_X_essential_31 : decode b_X_essential 31 = .ok (.iinc 2 1, 3) := by decide +kernel
theorem d_X_essential_34 : decode b_X_essential 34 = .ok (.goto (-26), 3) := by decide +kernel
theorem d_X_essential_37 : decode b_X_essential 37 = .ok (.iload_n 1, 1) := by decide +kernel
theorem d_X_essential_38 : decode b_X_essential 38 = .ok (.ireturn, 1) := by decide +kernel
theorem d_X_influence_0 : decode b_X_influence 0 = .ok (.iload_n 1, 1) := by decide +kernel
theorem d_X_influence_1 : decode b_X_influence 1 = .ok (.invokestatic 54, 3) := by decide +kernel
theorem d_X_influence_4 : decode b_X_influence 4 = .ok (.ifCond .ne 5, 3) := by decide +kernel
theorem d_X_influence_7 : decode b_X_influence 7 = .ok (.iconst (-1), 1) := by decide +kernel
theorem d_X_influence_8 : decode b_X_influence 8 = .ok (.ireturn, 1) := by decide +kernel
theorem d_X_influence_9 : decode b_X_influence 9 = .ok (.aload_n 0, 1) := by decide +kernel
theorem d_X_influence_10 : decode b_X_influence 10 = .ok (.invokevirtual 85, 3) := by decide +kernel
theorem d_X_influence_13 : decode b_X_influence 13 = .ok (.aload_n 0, 1) := by decide +kernel
theorem d_X_influence_14 : decode b_X_influence 14 = .ok (.getfield 32, 3) := by decide +kernel
theorem d_X_influence_17 : decode b_X_influence 17 = .ok (.iload_n 1, 1) := by decide +kernel
theorem d_X_influence_18 : decode b_X_influence 18 = .ok (.iaload, 1) := by decide +kernel
theorem d_X_influence_19 : decode b_X_influence 19 = .ok (.istore_n 2, 1) := by decide +kernel
theorem d_X_influence_20 : decode b_X_influence 20 = .ok (.aload_n 0, 1) := by decide +kernel
theorem d_X_influence_21 : decode b_X_influence 21 = .ok (.getfield 32, 3) := by decide +kernel
theorem d_X_influence_24 : decode b_X_influence 24 = .ok (.iload_n 1, 1) := by decide +kernel
theorem d_X_influence_25 : decode b_X_influence 25 = .ok (.iconst 0, 1) := by decide +kernel
theorem d_X_influence_26 : decode b_X_influence 26 = .ok (.iastore, 1) := by decide +kernel
theorem d_X_influence_27 : decode b_X_influence 27 = .ok (.aload_n 0, 1) := by decide +kernel
theorem d_X_influence_28 : decode b_X_influence 28 = .ok (.invokevirtual 74, 3) := by decide +kernel
theorem d_X_influence_31 : decode b_X_influence 31 = .ok (.aload_n 0, 1) := by decide +kernel
theorem d_X_influence_32 : decode b_X_influence 32 = .ok (.getfield 32, 3) := by decide +kernel
theorem d_X_influence_35 : decode b_X_influence 35 = .ok (.iload_n 1, 1) := by decide +kernel
theorem d_X_influence_36 : decode b_X_influence 36 = .ok (.iload_n 2, 1) := by decide +kernel
theorem d_X_influence_37 : decode b_X_influence 37 = .ok (.iastore, 1) := by decide +kernel
theorem d_X_influence_38 : decode b_X_influence 38 = .ok (.aload_n 0, 1) := by decide +kernel
theorem d_X_influence_39 : decode b_X_influence 39 = .ok (.iconst 0, 1) := by decide +kernel
theorem d_X_influence_40 : decode b_X_influence 40 = .ok (.putfield 64, 3) := by decide +kernel
theorem d_X_influence_43 : decode b_X_influence 43 = .ok (.aload_n 0, 1) := by decide +kernel
theorem d_X_influence_44 : decode b_X_influence 44 = .ok (.invokevirtual 88, 3) := by decide +kernel
theorem d_X_influence_47 : decode b_X_influence 47 = .ok (.ireturn, 1) := by decide +kernel
theorem d_X_isClaim_0 : decode b_X_isClaim 0 = .ok (.iload_n 0, 1) := by decide +kernel
theorem d_X_isClaim_1 : decode b_X_isClaim 1 = .ok (.ifCond .lt 13, 3) := by decide +kernel
theorem d_X_isClaim_4 : decode b_X_isClaim 4 = .ok (.iload_n 0, 1) := by decide +kernel
theorem d_X_isClaim_5 : decode b_X_isClaim 5 = .ok (.bipush 16, 2) := by decide +kernel
theorem d_X_isClaim_7 : decode b_X_isClaim 7 = .ok (.if_icmp .ge 7, 3) := by decide +kernel
theorem d_X_isClaim_10 : decode b_X_isClaim 10 = .ok (.iconst 1, 1) := by decide +kernel
theorem d_X_isClaim_11 : decode b_X_isClaim 11 = .ok (.goto 4, 3) := by decide +kernel
theorem d_X_isClaim_14 : decode b_X_isClaim 14 = .ok (.iconst 0, 1) := by decide +kernel
theorem d_X_isClaim_15 : decode b_X_isClaim 15 = .ok (.ireturn, 1) := by decide +kernel
theorem d_X_isRule_0 : decode b_X_isRule 0 = .ok (.iload_n 1, 1) := by decide +kernel
theorem d_X_isRule_1 : decode b_X_isRule 1 = .ok (.ifCond .lt 15, 3) := by decide +kernel
theorem d_X_isRule_4 : decode b_X_isRule 4 = .ok (.iload_n 1, 1) := by decide +kernel
theorem d_X_isRule_5 : decode b_X_isRule 5 = .ok (.aload_n 0, 1) := by decide +kernel
theorem d_X_isRule_6 : decode b_X_isRule 6 = .ok (.getfield 61, 3) := by decide +kernel
theorem d_X_isRule_9 : decode b_X_isRule 9 = .ok (.if_icmp .ge 7, 3) := by decide +kernel
theorem d_X_isRule_12 : decode b_X_isRule 12 = .ok (.iconst 1, 1) := by decide +kernel
theorem d_X_isRule_13 : decode b_X_isRule 13 = .ok (.goto 4, 3) := by decide +kernel
theorem d_X_isRule_16 : decode b_X_isRule 16 = .ok (.iconst 0, 1) := by decide +kernel
theorem d_X_isRule_17 : decode b_X_isRule 17 = .ok (.ireturn, 1) := by decide +kernel
theorem d_X_keepValues_0 : decode b_X_keepValues 0 = .ok (.aload_n 0, 1) := by decide +kernel
theorem d_X_keepValues_1 : decode b_X_keepValues 1 = .ok (.invokevirtual 71, 3) := by decide +kernel
theorem d_X_keepValues_4 : decode b_X_keepValues 4 = .ok (.iconst 0, 1) := by decide +kernel
theorem d_X_keepValues_5 : decode b_X_keepValues 5 = .ok (.istore_n 1, 1) := by decide +kernel
theorem d_X_keepValues_6 : decode b_X_keepValues 6 = .ok (.iload_n 1, 1) := by decide +kernel
theorem d_X_keepValues_7 : decode b_X_keepValues 7 = .ok (.bipush 16, 2) := by decide +kernel
theorem d_X_keepValues_9 : decode b_X_keepValues 9 = .ok (.if_icmp .ge 21, 3) := by decide +kernel
theorem d_X_keepValues_12 : decode b_X_keepValues 12 = .ok (.aload_n 0, 1) := by decide +kernel
theorem d_X_keepValues_13 : decode b_X_keepValues 13 = .ok (.getfield 47, 3) := by decide +kernel
theorem d_X_keepValues_16 : decode b_X_keepValues 16 = .ok (.iload_n 1, 1) := by decide +kernel
theorem d_X_keepValues_17 : decode b_X_keepValues 17 = .ok (.aload_n 0, 1) := by decide +kernel
theorem d_X_keepValues_18 : decode b_X_keepValues 18 = .ok (.getfield 35, 3) := by decide +kernel
theorem d_X_keepValues_21 : decode b_X_keepValues 21 = .ok (.iload_n 1, 1) := by decide +kernel
theorem d_X_keepValues_22 : decode b_X_keepValues 22 = .ok (.iaload, 1) := by decide +kernel
theorem d_X_keepValues_23 : decode b_X_keepValues 23 = .ok (.iastore, 1) := by decide +kernel
theorem d_X_keepValues_24 : decode b_X_keepValues 24 = .ok (.iinc 1 1, 3) := by decide +kernel
theorem d_X_keepValues_27 : decode b_X_keepValues 27 = .ok (.goto (-21), 3) := by decide +kernel
theorem d_X_keepValues_30 : decode b_X_keepValues 30 = .ok (.return_, 1) := by decide +kernel
theorem d_X_changes_0 : decode b_X_changes 0 = .ok (.iconst 0, 1) := by decide +kernel
theorem d_X_changes_1 : decode b_X_changes 1 = .ok (.istore_n 1, 1) := by decide +kernel
theorem d_X_changes_2 : decode b_X_changes 2 = .ok (.iconst 0, 1) := by decide +kernel
theorem d_X_changes_3 : decode b_X_changes 3 = .ok (.istore_n 2, 1) := by decide +kernel
theorem d_X_changes_4 : decode b_X_changes 4 = .ok (.iload_n 2, 1) := by decide +kernel
theorem d_X_changes_5 : decode b_X_changes 5 = .ok (.bipush 16, 2) := by decide +kernel
theorem d_X_changes_7 : decode b_X_changes 7 = .ok (.if_icmp .ge 27, 3) := by decide +kernel
theorem d_X_changes_10 : decode b_X_changes 10 = .ok (.aload_n 0, 1) := by decide +kernel
theorem d_X_changes_11 : decode b_X_changes 11 = .ok (.getfield 47, 3) := by decide +kernel
theorem d_X_changes_14 : decode b_X_changes 14 = .ok (.iload_n 2, 1) := by decide +kernel
theorem d_X_changes_15 : decode b_X_changes 15 = .ok (.iaload, 1) := by decide +kernel
theorem d_X_changes_16 : decode b_X_changes 16 = .ok (.aload_n 0, 1) := by decide +kernel
theorem d_X_changes_17 : decode b_X_changes 17 = .ok (.getfield 35, 3) := by decide +kernel
theorem d_X_changes_20 : decode b_X_changes 20 = .ok (.iload_n 2, 1) := by decide +kernel
theorem d_X_changes_21 : decode b_X_changes 21 = .ok (.iaload, 1) := by decide +kernel
theorem d_X_changes_22 : decode b_X_changes 22 = .ok (.if_icmp .eq 6, 3) := by decide +kernel
theorem d_X_changes_25 : decode b_X_changes 25 = .ok (.iinc 1 1, 3) := by decide +kernel
theorem d_X_changes_28 : decode b_X_changes 28 = .ok (.iinc 2 1, 3) := by decide +kernel
theorem d_X_changes_31 : decode b_X_changes 31 = .ok (.goto (-27), 3) := by decide +kernel
theorem d_X_changes_34 : decode b_X_changes 34 = .ok (.iload_n 1, 1) := by decide +kernel
theorem d_X_changes_35 : decode b_X_changes 35 = .ok (.ireturn, 1) := by decide +kernel
theorem d_X_settleWithout_0 : decode b_X_settleWithout 0 = .ok (.aload_n 0, 1) := by decide +kernel
theorem d_X_settleWithout_1 : decode b_X_settleWithout 1 = .ok (.iload_n 1, 1) := by decide +kernel
theorem d_X_settleWithout_2 : decode b_X_settleWithout 2 = .ok (.putfield 50, 3) := by decide +kernel
theorem d_X_settleWithout_5 : decode b_X_settleWithout 5 = .ok (.aload_n 0, 1) := by decide +kernel
theorem d_X_settleWithout_6 : decode b_X_settleWithout 6 = .ok (.invokevirtual 74, 3) := by decide +kernel
theorem d_X_settleWithout_9 : decode b_X_settleWithout 9 = .ok (.aload_n 0, 1) := by decide +kernel
theorem d_X_settleWithout_10 : decode b_X_settleWithout 10 = .ok (.iconst (-1), 1) := by decide +kernel
theorem d_X_settleWithout_11 : decode b_X_settleWithout 11 = .ok (.putfield 50, 3) := by decide +kernel
theorem d_X_settleWithout_14 : decode b_X_settleWithout 14 = .ok (.aload_n 0, 1) := by decide +kernel
theorem d_X_settleWithout_15 : decode b_X_settleWithout 15 = .ok (.iconst 0, 1) := by decide +kernel
theorem d_X_settleWithout_16 : decode b_X_settleWithout 16 = .ok (.putfield 64, 3) := by decide +kernel
theorem d_X_settleWithout_19 : decode b_X_settleWithout 19 = .ok (.return_, 1) := by decide +kernel
theorem d_X_refresh_0 : decode b_X_refresh 0 = .ok (.aload_n 0, 1) := by decide +kernel
theorem d_X_refresh_1 : decode b_X_refresh 1 = .ok (.getfield 64, 3) := by decide +kernel
theorem d_X_refresh_4 : decode b_X_refresh 4 = .ok (.ifCond .ne 12, 3) := by decide +kernel
theorem d_X_refresh_7 : decode b_X_refresh 7 = .ok (.aload_n 0, 1) := by decide +kernel
theorem d_X_refresh_8 : decode b_X_refresh 8 = .ok (.invokevirtual 74, 3) := by decide +kernel
theorem d_X_refresh_11 : decode b_X_refresh 11 = .ok (.aload_n 0, 1) := by decide +kernel
theorem d_X_refresh_12 : decode b_X_refresh 12 = .ok (.iconst 1, 1) := by decide +kernel
theorem d_X_refresh_13 : decode b_X_refresh 13 = .ok (.putfield 64, 3) := by decide +kernel
theorem d_X_refresh_16 : decode b_X_refresh 16 = .ok (.return_, 1) := by decide +kernel
theorem d_X_settleAll_0 : decode b_X_settleAll 0 = .ok (.iconst 0, 1) := by decide +kernel
theorem d_X_settleAll_1 : decode b_X_settleAll 1 = .ok (.istore_n 1, 1) := by decide +kernel
theorem d_X_settleAll_2 : decode b_X_settleAll 2 = .ok (.iload_n 1, 1) := by decide +kernel
theorem d_X_settleAll_3 : decode b_X_settleAll 3 = .ok (.bipush 16, 2) := by decide +kernel
theorem d_X_settleAll_5 : decode b_X_settleAll 5 = .ok (.if_icmp .ge 35, 3) := by decide +kernel
theorem d_X_settleAll_8 : decode b_X_settleAll 8 = .ok (.aload_n 0, 1) := by decide +kernel
theorem d_X_settleAll_9 : decode b_X_settleAll 9 = .ok (.getfield 41, 3) := by decide +kernel
theorem d_X_settleAll_12 : decode b_X_settleAll 12 = .ok (.iload_n 1, 1) := by decide +kernel
theorem d_X_settleAll_13 : decode b_X_settleAll 13 = .ok (.iconst 0, 1) := by decide +kernel
theorem d_X_settleAll_14 : decode b_X_settleAll 14 = .ok (.bastore, 1) := by decide +kernel
theorem d_X_settleAll_15 : decode b_X_settleAll 15 = .ok (.aload_n 0, 1) := by decide +kernel
theorem d_X_settleAll_16 : decode b_X_settleAll 16 = .ok (.getfield 35, 3) := by decide +kernel
theorem d_X_settleAll_19 : decode b_X_settleAll 19 = .ok (.iload_n 1, 1) := by decide +kernel
theorem d_X_settleAll_20 : decode b_X_settleAll 20 = .ok (.iconst 0, 1) := by decide +kernel
theorem d_X_settleAll_21 : decode b_X_settleAll 21 = .ok (.iastore, 1) := by decide +kernel
theorem d_X_settleAll_22 : decode b_X_settleAll 22 = .ok (.aload_n 0, 1) := by decide +kernel
theorem d_X_settleAll_23 : decode b_X_settleAll 23 = .ok (.getfield 38, 3) := by decide +kernel
theorem d_X_settleAll_26 : decode b_X_settleAll 26 = .ok (.iload_n 1, 1) := by decide +kernel
theorem d_X_settleAll_27 : decode b_X_settleAll 27 = .ok (.aload_n 0, 1) := by decide +kernel
theorem d_X_settleAll_28 : decode b_X_settleAll 28 = .ok (.getfield 32, 3) := by decide +kernel
theorem d_X_settleAll_31 : decode b_X_settleAll 31 = .ok (.iload_n 1, 1) := by decide +kernel
theorem d_X_settleAll_32 : decode b_X_settleAll 32 = .ok (.iaload, 1) := by decide +kernel
theorem d_X_settleAll_33 : decode b_X_settleAll 33 = .ok (.iastore, 1) := by decide +kernel
theorem d_X_settleAll_34 : decode b_X_settleAll 34 = .ok (.iinc 1 1, 3) := by decide +kernel
theorem d_X_settleAll_37 : decode b_X_settleAll 37 = .ok (.goto (-35), 3) := by decide +kernel
theorem d_X_settleAll_40 : decode b_X_settleAll 40 = .ok (.iconst 0, 1) := by decide +kernel
theorem d_X_settleAll_41 : decode b_X_settleAll 41 = .ok (.istore_n 1, 1) := by decide +kernel
theorem d_X_settleAll_42 : decode b_X_settleAll 42 = .ok (.iload_n 1, 1) := by decide +kernel
theorem d_X_settleAll_43 : decode b_X_settleAll 43 = .ok (.aload_n 0, 1) := by decide +kernel
theorem d_X_settleAll_44 : decode b_X_settleAll 44 = .ok (.getfield 61, 3) := by decide +kernel
theorem d_X_settleAll_47 : decode b_X_settleAll 47 = .ok (.if_icmp .ge 35, 3) := by decide +kernel
theorem d_X_settleAll_50 : decode b_X_settleAll 50 = .ok (.aload_n 0, 1) := by decide +kernel
theorem d_X_settleAll_51 : decode b_X_settleAll 51 = .ok (.getfield 44, 3) := by decide +kernel
theorem d_X_settleAll_54 : decode b_X_settleAll 54 = .ok (.iload_n 1, 1) := by decide +kernel
theorem d_X_settleAll_55 : decode b_X_settleAll 55 = .ok (.aload_n 0, 1) := by decide +kernel
theorem d_X_settleAll_56 : decode b_X_settleAll 56 = .ok (.getfield 16, 3) := by decide +kernel
theorem d_X_settleAll_59 : decode b_X_settleAll 59 = .ok (.iload_n 1, 1) := by decide +kernel
theorem d_X_settleAll_60 : decode b_X_settleAll 60 = .ok (.iaload, 1) := by decide +kernel
theorem d_X_settleAll_61 : decode b_X_settleAll 61 = .ok (.iastore, 1) := by decide +kernel
theorem d_X_settleAll_62 : decode b_X_settleAll 62 = .ok (.aload_n 0, 1) := by decide +kernel
theorem d_X_settleAll_63 : decode b_X_settleAll 63 = .ok (.getfield 16, 3) := by decide +kernel
theorem d_X_settleAll_66 : decode b_X_settleAll 66 = .ok (.iload_n 1, 1) := by decide +kernel
theorem d_X_settleAll_67 : decode b_X_settleAll 67 = .ok (.iaload, 1) := by decide +kernel
theorem d_X_settleAll_68 : decode b_X_settleAll 68 = .ok (.ifCond .ne 8, 3) := by decide +kernel
theorem d_X_settleAll_71 : decode b_X_settleAll 71 = .ok (.aload_n 0, 1) := by decide +kernel
theorem d_X_settleAll_72 : decode b_X_settleAll 72 = .ok (.iload_n 1, 1) := by decide +kernel
theorem d_X_settleAll_73 : decode b_X_settleAll 73 = .ok (.invokevirtual 92, 3) := by decide +kernel
theorem d_X_settleAll_76 : decode b_X_settleAll 76 = .ok (.iinc 1 1, 3) := by decide +kernel
theorem d_X_settleAll_79 : decode b_X_settleAll 79 = .ok (.goto (-37), 3) := by decide +kernel
theorem d_X_settleAll_82 : decode b_X_settleAll 82 = .ok (.iconst 0, 1) := by decide +kernel
theorem d_X_settleAll_83 : decode b_X_settleAll 83 = .ok (.istore_n 1, 1) := by decide +kernel
theorem d_X_settleAll_84 : decode b_X_settleAll 84 = .ok (.iload_n 1, 1) := by decide +kernel
theorem d_X_settleAll_85 : decode b_X_settleAll 85 = .ok (.bipush 16, 2) := by decide +kernel
theorem d_X_settleAll_87 : decode b_X_settleAll 87 = .ok (.if_icmp .ge 60, 3) := by decide +kernel
theorem d_X_settleAll_90 : decode b_X_settleAll 90 = .ok (.aload_n 0, 1) := by decide +kernel
theorem d_X_settleAll_91 : decode b_X_settleAll 91 = .ok (.iconst 4, 1) := by decide +kernel
theorem d_X_settleAll_92 : decode b_X_settleAll 92 = .ok (.iload_n 1, 1) := by decide +kernel
theorem d_X_settleAll_93 : decode b_X_settleAll 93 = .ok (.iconst 2, 1) := by decide +kernel
theorem d_X_settleAll_94 : decode b_X_settleAll 94 = .ok (.ishr, 1) := by decide +kernel
theorem d_X_settleAll_95 : decode b_X_settleAll 95 = .ok (.imul, 1) := by decide +kernel
theorem d_X_settleAll_96 : decode b_X_settleAll 96 = .ok (.invokevirtual 95, 3) := by decide +kernel
theorem d_X_settleAll_99 : decode b_X_settleAll 99 = .ok (.istore_n 2, 1) := by decide +kernel
theorem d_X_settleAll_100 : decode b_X_settleAll 100 = .ok (.aload_n 0, 1) := by decide +kernel
theorem d_X_settleAll_101 : decode b_X_settleAll 101 = .ok (.getfield 41, 3) := by decide +kernel
theorem d_X_settleAll_104 : decode b_X_settleAll 104 = .ok (.iload_n 2, 1) := by decide +kernel
theorem d_X_settleAll_105 : decode b_X_settleAll 105 = .ok (.iconst 1, 1) := by decide +kernel
theorem d_X_settleAll_106 : decode b_X_settleAll 106 = .ok (.bastore, 1) := by decide +kernel
theorem d_X_settleAll_107 : decode b_X_settleAll 107 = .ok (.aload_n 0, 1) := by decide +kernel
theorem d_X_settleAll_108 : decode b_X_settleAll 108 = .ok (.getfield 35, 3) := by decide +kernel
theorem d_X_settleAll_111 : decode b_X_settleAll 111 = .ok (.iload_n 2, 1) := by decide +kernel
theorem d_X_settleAll_112 : decode b_X_settleAll 112 = .ok (.aload_n 0, 1) := by decide +kernel
theorem d_X_settleAll_113 : decode b_X_settleAll 113 = .ok (.getfield 38, 3) := by decide +kernel
theorem d_X_settleAll_116 : decode b_X_settleAll 116 = .ok (.iload_n 2, 1) := by decide +kernel
theorem d_X_settleAll_117 : decode b_X_settleAll 117 = .ok (.iaload, 1) := by decide +kernel
theorem d_X_settleAll_118 : decode b_X_settleAll 118 = .ok (.iastore, 1) := by decide +kernel
theorem d_X_settleAll_119 : decode b_X_settleAll 119 = .ok (.iconst 0, 1) := by decide +kernel
theorem d_X_settleAll_120 : decode b_X_settleAll 120 = .ok (.istore_n 3, 1) := by decide +kernel
theorem d_X_settleAll_121 : decode b_X_settleAll 121 = .ok (.iload_n 3, 1) := by decide +kernel
theorem d_X_settleAll_122 : decode b_X_settleAll 122 = .ok (.aload_n 0, 1) := by decide +kernel
theorem d_X_settleAll_123 : decode b_X_settleAll 123 = .ok (.getfield 61, 3) := by decide +kernel
theorem d_X_settleAll_126 : decode b_X_settleAll 126 = .ok (.if_icmp .ge 15, 3) := by decide +kernel
theorem d_X_settleAll_129 : decode b_X_settleAll 129 = .ok (.aload_n 0, 1) := by decide +kernel
theorem d_X_settleAll_130 : decode b_X_settleAll 130 = .ok (.iload_n 3, 1) := by decide +kernel
theorem d_X_settleAll_131 : decode b_X_settleAll 131 = .ok (.iload_n 2, 1) := by decide +kernel
theorem d_X_settleAll_132 : decode b_X_settleAll 132 = .ok (.invokevirtual 98, 3) := by decide +kernel
theorem d_X_settleAll_135 : decode b_X_settleAll 135 = .ok (.iinc 3 1, 3) := by decide +kernel
theorem d_X_settleAll_138 : decode b_X_settleAll 138 = .ok (.goto (-17), 3) := by decide +kernel
theorem d_X_settleAll_141 : decode b_X_settleAll 141 = .ok (.iinc 1 1, 3) := by decide +kernel
theorem d_X_settleAll_144 : decode b_X_settleAll 144 = .ok (.goto (-60), 3) := by decide +kernel
theorem d_X_settleAll_147 : decode b_X_settleAll 147 = .ok (.return_, 1) := by decide +kernel
theorem d_X_best_0 : decode b_X_best 0 = .ok (.iconst (-1), 1) := by decide +kernel
theorem d_X_best_1 : decode b_X_best 1 = .ok (.istore_n 2, 1) := by decide +kernel
theorem d_X_best_2 : decode b_X_best 2 = .ok (.iload_n 1, 1) := by decide +kernel
theorem d_X_best_3 : decode b_X_best 3 = .ok (.istore_n 3, 1) := by decide +kernel
theorem d_X_best_4 : decode b_X_best 4 = .ok (.iload_n 3, 1) := by decide +kernel
theorem d_X_best_5 : decode b_X_best 5 = .ok (.iload_n 1, 1) := by decide +kernel
theorem d_X_best_6 : decode b_X_best 6 = .ok (.iconst 4, 1) := by decide +kernel
theorem d_X_best_7 : decode b_X_best 7 = .ok (.iadd, 1) := by decide +kernel
theorem d_X_best_8 : decode b_X_best 8 = .ok (.if_icmp .ge 40, 3) := by decide +kernel
theorem d_X_best_11 : decode b_X_best 11 = .ok (.aload_n 0, 1) := by decide +kernel
theorem d_X_best_12 : decode b_X_best 12 = .ok (.getfield 41, 3) := by decide +kernel
theorem d_X_best_15 : decode b_X_best 15 = .ok (.iload_n 3, 1) := by decide +kernel
theorem d_X_best_16 : decode b_X_best 16 = .ok (.baload, 1) := by decide +kernel
theorem d_X_best_17 : decode b_X_best 17 = .ok (.ifCond .ne 25, 3) := by decide +kernel
theorem d_X_best_20 : decode b_X_best 20 = .ok (.iload_n 2, 1) := by decide +kernel
theorem d_X_best_21 : decode b_X_best 21 = .ok (.iconst (-1), 1) := by decide +kernel
theorem d_X_best_22 : decode b_X_best 22 = .ok (.if_icmp .eq 18, 3) := by decide +kernel
theorem d_X_best_25 : decode b_X_best 25 = .ok (.aload_n 0, 1) := by decide +kernel
theorem d_X_best_26 : decode b_X_best 26 = .ok (.getfield 38, 3) := by decide +kernel
theorem d_X_best_29 : decode b_X_best 29 = .ok (.iload_n 3, 1) := by decide +kernel
theorem d_X_best_30 : decode b_X_best 30 = .ok (.iaload, 1) := by decide +kernel
theorem d_X_best_31 : decode b_X_best 31 = .ok (.aload_n 0, 1) := by decide +kernel
theorem d_X_best_32 : decode b_X_best 32 = .ok (.getfield 38, 3) := by decide +kernel
theorem d_X_best_35 : decode b_X_best 35 = .ok (.iload_n 2, 1) := by decide +kernel
theorem d_X_best_36 : decode b_X_best 36 = .ok (.iaload, 1) := by decide +kernel
theorem d_X_best_37 : decode b_X_best 37 = .ok (.if_icmp .le 5, 3) := by decide +kernel
theorem d_X_best_40 : decode b_X_best 40 = .ok (.iload_n 3, 1) := by decide +kernel
theorem d_X_best_41 : decode b_X_best 41 = .ok (.istore_n 2, 1) := by decide +kernel
theorem d_X_best_42 : decode b_X_best 42 = .ok (.iinc 3 1, 3) := by decide +kernel
theorem d_X_best_45 : decode b_X_best 45 = .ok (.goto (-41), 3) := by decide +kernel
theorem d_X_best_48 : decode b_X_best 48 = .ok (.iload_n 2, 1) := by decide +kernel
theorem d_X_best_49 : decode b_X_best 49 = .ok (.iconst (-1), 1) := by decide +kernel
theorem d_X_best_50 : decode b_X_best 50 = .ok (.if_icmp .ne 7, 3) := by decide +kernel
theorem d_X_best_53 : decode b_X_best 53 = .ok (.iload_n 1, 1) := by decide +kernel
theorem d_X_best_54 : decode b_X_best 54 = .ok (.goto 4, 3) := by decide +kernel
theorem d_X_best_57 : decode b_X_best 57 = .ok (.iload_n 2, 1) := by decide +kernel
theorem d_X_best_58 : decode b_X_best 58 = .ok (.ireturn, 1) := by decide +kernel
theorem d_X_count_0 : decode b_X_count 0 = .ok (.aload_n 0, 1) := by decide +kernel
theorem d_X_count_1 : decode b_X_count 1 = .ok (.getfield 44, 3) := by decide +kernel
theorem d_X_count_4 : decode b_X_count 4 = .ok (.iload_n 1, 1) := by decide +kernel
theorem d_X_count_5 : decode b_X_count 5 = .ok (.iaload, 1) := by decide +kernel
theorem d_X_count_6 : decode b_X_count 6 = .ok (.istore_n 3, 1) := by decide +kernel
theorem d_X_count_7 : decode b_X_count 7 = .ok (.iconst 0, 1) := by decide +kernel
theorem d_X_count_8 : decode b_X_count 8 = .ok (.istore 4, 2) := by decide +kernel
theorem d_X_count_10 : decode b_X_count 10 = .ok (.iload 4, 2) := by decide +kernel
theorem d_X_count_12 : decode b_X_count 12 = .ok (.aload_n 0, 1) := by decide +kernel
theorem d_X_count_13 : decode b_X_count 13 = .ok (.getfield 16, 3) := by decide +kernel
theorem d_X_count_16 : decode b_X_count 16 = .ok (.iload_n 1, 1) := by decide +kernel
theorem d_X_count_17 : decode b_X_count 17 = .ok (.iaload, 1) := by decide +kernel
theorem d_X_count_18 : decode b_X_count 18 = .ok (.if_icmp .ge 34, 3) := by decide +kernel
theorem d_X_count_21 : decode b_X_count 21 = .ok (.aload_n 0, 1) := by decide +kernel
theorem d_X_count_22 : decode b_X_count 22 = .ok (.getfield 19, 3) := by decide +kernel
theorem d_X_count_25 : decode b_X_count 25 = .ok (.iconst 3, 1) := by decide +kernel
theorem d_X_count_26 : decode b_X_count 26 = .ok (.iload_n 1, 1) := by decide +kernel
theorem d_X_count_27 : decode b_X_count 27 = .ok (.imul, 1) := by decide +kernel
theorem d_X_count_28 : decode b_X_count 28 = .ok (.iload 4, 2) := by decide +kernel
theorem d_X_count_30 : decode b_X_count 30 = .ok (.iadd, 1) := by decide +kernel
theorem d_X_count_31 : decode b_X_count 31 = .ok (.iaload, 1) := by decide +kernel
theorem d_X_count_32 : decode b_X_count 32 = .ok (.iload_n 2, 1) := by decide +kernel
theorem d_X_count_33 : decode b_X_count 33 = .ok (.if_icmp .ne 13, 3) := by decide +kernel
theorem d_X_count_36 : decode b_X_count 36 = .ok (.aload_n 0, 1) := by decide +kernel
theorem d_X_count_37 : decode b_X_count 37 = .ok (.getfield 44, 3) := by decide +kernel
theorem d_X_count_40 : decode b_X_count 40 = .ok (.iload_n 1, 1) := by decide +kernel
theorem d_X_count_41 : decode b_X_count 41 = .ok (.dup2, 1) := by decide +kernel
theorem d_X_count_42 : decode b_X_count 42 = .ok (.iaload, 1) := by decide +kernel
theorem d_X_count_43 : decode b_X_count 43 = .ok (.iconst 1, 1) := by decide +kernel
theorem d_X_count_44 : decode b_X_count 44 = .ok (.isub, 1) := by decide +kernel
theorem d_X_count_45 : decode b_X_count 45 = .ok (.iastore, 1) := by decide +kernel
theorem d_X_count_46 : decode b_X_count 46 = .ok (.iinc 4 1, 3) := by decide +kernel
theorem d_X_count_49 : decode b_X_count 49 = .ok (.goto (-39), 3) := by decide +kernel
theorem d_X_count_52 : decode b_X_count 52 = .ok (.iload_n 3, 1) := by decide +kernel
theorem d_X_count_53 : decode b_X_count 53 = .ok (.ifCond .le 17, 3) := by decide +kernel
theorem d_X_count_56 : decode b_X_count 56 = .ok (.aload_n 0, 1) := by decide +kernel
theorem d_X_count_57 : decode b_X_count 57 = .ok (.getfield 44, 3) := by decide +kernel
theorem d_X_count_60 : decode b_X_count 60 = .ok (.iload_n 1, 1) := by decide +kernel
theorem d_X_count_61 : decode b_X_count 61 = .ok (.iaload, 1) := by decide +kernel
theorem d_X_count_62 : decode b_X_count 62 = .ok (.ifCond .ne 8, 3) := by decide +kernel
theorem d_X_count_65 : decode b_X_count 65 = .ok (.aload_n 0, 1) := by decide +kernel
theorem d_X_count_66 : decode b_X_count 66 = .ok (.iload_n 1, 1) := by decide +kernel
theorem d_X_count_67 : decode b_X_count 67 = .ok (.invokevirtual 92, 3) := by decide +kernel
theorem d_X_count_70 : decode b_X_count 70 = .ok (.return_, 1) := by decide +kernel
theorem d_X_makeOffer_0 : decode b_X_makeOffer 0 = .ok (.aload_n 0, 1) := by decide +kernel
theorem d_X_makeOffer_1 : decode b_X_makeOffer 1 = .ok (.getfield 7, 3) := by decide +kernel
theorem d_X_makeOffer_4 : decode b_X_makeOffer 4 = .ok (.iload_n 1, 1) := by decide +kernel
theorem d_X_makeOffer_5 : decode b_X_makeOffer 5 = .ok (.iaload, 1) := by decide +kernel
theorem d_X_makeOffer_6 : decode b_X_makeOffer 6 = .ok (.istore_n 2, 1) := by decide +kernel
theorem d_X_makeOffer_7 : decode b_X_makeOffer 7 = .ok (.iload_n 1, 1) := by decide +kernel
theorem d_X_makeOffer_8 : decode b_X_makeOffer 8 = .ok (.aload_n 0, 1) := by decide +kernel
theorem d_X_makeOffer_9 : decode b_X_makeOffer 9 = .ok (.getfield 50, 3) := by decide +kernel
theorem d_X_makeOffer_12 : decode b_X_makeOffer 12 = .ok (.if_icmp .eq 12, 3) := by decide +kernel
theorem d_X_makeOffer_15 : decode b_X_makeOffer 15 = .ok (.aload_n 0, 1) := by decide +kernel
theorem d_X_makeOffer_16 : decode b_X_makeOffer 16 = .ok (.getfield 41, 3) := by decide +kernel
theorem d_X_makeOffer_19 : decode b_X_makeOffer 19 = .ok (.iload_n 2, 1) := by decide +kernel
theorem d_X_makeOffer_20 : decode b_X_makeOffer 20 = .ok (.baload, 1) := by decide +kernel
theorem d_X_makeOffer_21 : decode b_X_makeOffer 21 = .ok (.ifCond .eq 4, 3) := by decide +kernel
theorem d_X_makeOffer_24 : decode b_X_makeOffer 24 = .ok (.return_, 1) := by decide +kernel
theorem d_X_makeOffer_25 : decode b_X_makeOffer 25 = .ok (.aload_n 0, 1) := by decide +kernel
theorem d_X_makeOffer_26 : decode b_X_makeOffer 26 = .ok (.iload_n 1, 1) := by decide +kernel
theorem d_X_makeOffer_27 : decode b_X_makeOffer 27 = .ok (.invokevirtual 81, 3) := by decide +kernel
theorem d_X_makeOffer_30 : decode b_X_makeOffer 30 = .ok (.istore_n 3, 1) := by decide +kernel
theorem d_X_makeOffer_31 : decode b_X_makeOffer 31 = .ok (.iload_n 3, 1) := by decide +kernel
theorem d_X_makeOffer_32 : decode b_X_makeOffer 32 = .ok (.aload_n 0, 1) := by decide +kernel
theorem d_X_makeOffer_33 : decode b_X_makeOffer 33 = .ok (.getfield 38, 3) := by decide +kernel
theorem d_X_makeOffer_36 : decode b_X_makeOffer 36 = .ok (.iload_n 2, 1) := by decide +kernel
theorem d_X_makeOffer_37 : decode b_X_makeOffer 37 = .ok (.iaload, 1) := by decide +kernel
theorem d_X_makeOffer_38 : decode b_X_makeOffer 38 = .ok (.if_icmp .le 10, 3) := by decide +kernel
theorem d_X_makeOffer_41 : decode b_X_makeOffer 41 = .ok (.aload_n 0, 1) := by decide +kernel
theorem d_X_makeOffer_42 : decode b_X_makeOffer 42 = .ok (.getfield 38, 3) := by decide +kernel
theorem d_X_makeOffer_45 : decode b_X_makeOffer 45 = .ok (.iload_n 2, 1) := by decide +kernel
theorem d_X_makeOffer_46 : decode b_X_makeOffer 46 = .ok (.iload_n 3, 1) := by decide +kernel
theorem d_X_makeOffer_47 : decode b_X_makeOffer 47 = .ok (.iastore, 1) := by decide +kernel
theorem d_X_makeOffer_48 : decode b_X_makeOffer 48 = .ok (.return_, 1) := by decide +kernel
theorem d_X_worth_0 : decode b_X_worth 0 = .ok (.bipush 100, 2) := by decide +kernel
theorem d_X_worth_2 : decode b_X_worth 2 = .ok (.istore_n 2, 1) := by decide +kernel
theorem d_X_worth_3 : decode b_X_worth 3 = .ok (.iconst 0, 1) := by decide +kernel
theorem d_X_worth_4 : decode b_X_worth 4 = .ok (.istore_n 3, 1) := by decide +kernel
theorem d_X_worth_5 : decode b_X_worth 5 = .ok (.iload_n 3, 1) := by decide +kernel
theorem d_X_worth_6 : decode b_X_worth 6 = .ok (.aload_n 0, 1) := by decide +kernel
theorem d_X_worth_7 : decode b_X_worth 7 = .ok (.getfield 16, 3) := by decide +kernel
theorem d_X_worth_10 : decode b_X_worth 10 = .ok (.iload_n 1, 1) := by decide +kernel
theorem d_X_worth_11 : decode b_X_worth 11 = .ok (.iaload, 1) := by decide +kernel
theorem d_X_worth_12 : decode b_X_worth 12 = .ok (.if_icmp .ge 64, 3) := by decide +kernel
theorem d_X_worth_15 : decode b_X_worth 15 = .ok (.aload_n 0, 1) := by decide +kernel
theorem d_X_worth_16 : decode b_X_worth 16 = .ok (.getfield 35, 3) := by decide +kernel
theorem d_X_worth_19 : decode b_X_worth 19 = .ok (.aload_n 0, 1) := by decide +kernel
theorem d_X_worth_20 : decode b_X_worth 20 = .ok (.getfield 19, 3) := by decide +kernel
theorem d_X_worth_23 : decode b_X_worth 23 = .ok (.iconst 3, 1) := by decide +kernel
theorem d_X_worth_24 : decode b_X_worth 24 = .ok (.iload_n 1, 1) := by decide +kernel
theorem d_X_worth_25 : decode b_X_worth 25 = .ok (.imul, 1) := by decide +kernel
theorem d_X_worth_26 : decode b_X_worth 26 = .ok (.iload_n 3, 1) := by decide +kernel
theorem d_X_worth_27 : decode b_X_worth 27 = .ok (.iadd, 1) := by decide +kernel
theorem d_X_worth_28 : decode b_X_worth 28 = .ok (.iaload, 1) := by decide +kernel
theorem d_X_worth_29 : decode b_X_worth 29 = .ok (.iaload, 1) := by decide +kernel
theorem d_X_worth_30 : decode b_X_worth 30 = .ok (.istore 4, 2) := by decide +kernel
theorem d_X_worth_32 : decode b_X_worth 32 = .ok (.aload_n 0, 1) := by decide +kernel
theorem d_X_worth_33 : decode b_X_worth 33 = .ok (.getfield 22, 3) := by decide +kernel
theorem d_X_worth_36 : decode b_X_worth 36 = .ok (.iconst 3, 1) := by decide +kernel
theorem d_X_worth_37 : decode b_X_worth 37 = .ok (.iload_n 1, 1) := by decide +kernel
theorem d_X_worth_38 : decode b_X_worth 38 = .ok (.imul, 1) := by decide +kernel
theorem d_X_worth_39 : decode b_X_worth 39 = .ok (.iload_n 3, 1) := by decide +kernel
theorem d_X_worth_40 : decode b_X_worth 40 = .ok (.iadd, 1) := by decide +kernel
theorem d_X_worth_41 : decode b_X_worth 41 = .ok (.baload, 1) := by decide +kernel
theorem d_X_worth_42 : decode b_X_worth 42 = .ok (.ifCond .eq 11, 3) := by decide +kernel
theorem d_X_worth_45 : decode b_X_worth 45 = .ok (.bipush 100, 2) := by decide +kernel
theorem d_X_worth_47 : decode b_X_worth 47 = .ok (.iload 4, 2) := by decide +kernel
theorem d_X_worth_49 : decode b_X_worth 49 = .ok (.isub, 1) := by decide +kernel
theorem d_X_worth_50 : decode b_X_worth 50 = .ok (.goto 5, 3) := by decide +kernel
theorem d_X_worth_53 : decode b_X_worth 53 = .ok (.iload 4, 2) := by decide +kernel
theorem d_X_worth_55 : decode b_X_worth 55 = .ok (.istore 4, 2) := by decide +kernel
theorem d_X_worth_57 : decode b_X_worth 57 = .ok (.iload 4, 2) := by decide +kernel
theorem d_X_worth_59 : decode b_X_worth 59 = .ok (.iload_n 2, 1) := by decide +kernel
theorem d_X_worth_60 : decode b_X_worth 60 = .ok (.if_icmp .ge 8, 3) := by decide +kernel
theorem d_X_worth_63 : decode b_X_worth 63 = .ok (.iload 4, 2) := by decide +kernel
theorem d_X_worth_65 : decode b_X_worth 65 = .ok (.goto 4, 3) := by decide +kernel
theorem d_X_worth_68 : decode b_X_worth 68 = .ok (.iload_n 2, 1) := by decide +kernel
theorem d_X_worth_69 : decode b_X_worth 69 = .ok (.istore_n 2, 1) := by decide +kernel
theorem d_X_worth_70 : decode b_X_worth 70 = .ok (.iinc 3 1, 3) := by decide +kernel
theorem d_X_worth_73 : decode b_X_worth 73 = .ok (.goto (-68), 3) := by decide +kernel
theorem d_X_worth_76 : decode b_X_worth 76 = .ok (.iload_n 2, 1) := by decide +kernel
theorem d_X_worth_77 : decode b_X_worth 77 = .ok (.aload_n 0, 1) := by decide +kernel
theorem d_X_worth_78 : decode b_X_worth 78 = .ok (.getfield 13, 3) := by decide +kernel
theorem d_X_worth_81 : decode b_X_worth 81 = .ok (.iload_n 1, 1) := by decide +kernel
theorem d_X_worth_82 : decode b_X_worth 82 = .ok (.iaload, 1) := by decide +kernel
theorem d_X_worth_83 : decode b_X_worth 83 = .ok (.imul, 1) := by decide +kernel
theorem d_X_worth_84 : decode b_X_worth 84 = .ok (.bipush 100, 2) := by decide +kernel
theorem d_X_worth_86 : decode b_X_worth 86 = .ok (.idiv, 1) := by decide +kernel
theorem d_X_worth_87 : decode b_X_worth 87 = .ok (.ireturn, 1) := by decide +kernel
end
section
theorem d_M_init_0 : decode b_M_init 0 = .ok (.aload_n 0, 1) := by decide +kernel
theorem d_M_init_1 : decode b_M_init 1 = .ok (.invokespecial 1, 3) := by decide +kernel
theorem d_M_init_4 : decode b_M_init 4 = .ok (.aload_n 0, 1) := by decide +kernel
theorem d_M_init_5 : decode b_M_init 5 = .ok (.bipush 16, 2) := by decide +kernel
theorem d_M_init_7 : decode b_M_init 7 = .ok (.newarray .int, 2) := by decide +kernel
theorem d_M_init_9 : decode b_M_init 9 = .ok (.putfield 7, 3) := by decide +kernel
theorem d_M_init_12 : decode b_M_init 12 = .ok (.aload_n 0, 1) := by decide +kernel
theorem d_M_init_13 : decode b_M_init 13 = .ok (.iconst 3, 1) := by decide +kernel
theorem d_M_init_14 : decode b_M_init 14 = .ok (.newarray .int, 2) := by decide +kernel
theorem d_M_init_16 : decode b_M_init 16 = .ok (.putfield 13, 3) := by decide +kernel
theorem d_M_init_19 : decode b_M_init 19 = .ok (.aload_n 0, 1) := by decide +kernel
theorem d_M_init_20 : decode b_M_init 20 = .ok (.iconst 3, 1) := by decide +kernel
theorem d_M_init_21 : decode b_M_init 21 = .ok (.newarray .boolean, 2) := by decide +kernel
theorem d_M_init_23 : decode b_M_init 23 = .ok (.putfield 16, 3) := by decide +kernel
theorem d_M_init_26 : decode b_M_init 26 = .ok (.aload_n 0, 1) := by decide +kernel
theorem d_M_init_27 : decode b_M_init 27 = .ok (.bipush 20, 2) := by decide +kernel
theorem d_M_init_29 : decode b_M_init 29 = .ok (.newarray .int, 2) := by decide +kernel
theorem d_M_init_31 : decode b_M_init 31 = .ok (.putfield 20, 3) := by decide +kernel
theorem d_M_init_34 : decode b_M_init 34 = .ok (.aload_n 0, 1) := by decide +kernel
theorem d_M_init_35 : decode b_M_init 35 = .ok (.bipush 20, 2) := by decide +kernel
theorem d_M_init_37 : decode b_M_init 37 = .ok (.newarray .int, 2) := by decide +kernel
theorem d_M_init_39 : decode b_M_init 39 = .ok (.putfield 23, 3) := by decide +kernel
theorem d_M_init_42 : decode b_M_init 42 = .ok (.aload_n 0, 1) := by decide +kernel
theorem d_M_init_43 : decode b_M_init 43 = .ok (.bipush 20, 2) := by decide +kernel
theorem d_M_init_45 : decode b_M_init 45 = .ok (.newarray .int, 2) := by decide +kernel
theorem d_M_init_47 : decode b_M_init 47 = .ok (.putfield 26, 3) := by decide +kernel
theorem d_M_init_50 : decode b_M_init 50 = .ok (.aload_n 0, 1) := by decide +kernel
theorem d_M_init_51 : decode b_M_init 51 = .ok (.bipush 60, 2) := by decide +kernel
theorem d_M_init_53 : decode b_M_init 53 = .ok (.newarray .int, 2) := by decide +kernel
theorem d_M_init_55 : decode b_M_init 55 = .ok (.putfield 29, 3) := by decide +kernel
theorem d_M_init_58 : decode b_M_init 58 = .ok (.aload_n 0, 1) := by decide +kernel
theorem d_M_init_59 : decode b_M_init 59 = .ok (.bipush 60, 2) := by decide +kernel
theorem d_M_init_61 : decode b_M_init 61 = .ok (.newarray .boolean, 2) := by decide +kernel
theorem d_M_init_63 : decode b_M_init 63 = .ok (.putfield 32, 3) := by decide +kernel
theorem d_M_init_66 : decode b_M_init 66 = .ok (.aload_n 0, 1) := by decide +kernel
theorem d_M_init_67 : decode b_M_init 67 = .ok (.bipush 16, 2) := by decide +kernel
theorem d_M_init_69 : decode b_M_init 69 = .ok (.newarray .int, 2) := by decide +kernel
theorem d_M_init_71 : decode b_M_init 71 = .ok (.putfield 35, 3) := by decide +kernel
theorem d_M_init_74 : decode b_M_init 74 = .ok (.aload_n 0, 1) := by decide +kernel
theorem d_M_init_75 : decode b_M_init 75 = .ok (.bipush 16, 2) := by decide +kernel
theorem d_M_init_77 : decode b_M_init 77 = .ok (.newarray .int, 2) := by decide +kernel
theorem d_M_init_79 : decode b_M_init 79 = .ok (.putfield 38, 3) := by decide +kernel
theorem d_M_init_82 : decode b_M_init 82 = .ok (.return_, 1) := by decide +kernel
theorem d_M_bad_0 : decode b_M_bad 0 = .ok (.iload_n 1, 1) := by decide +kernel
theorem d_M_bad_1 : decode b_M_bad 1 = .ok (.ifCond .lt 9, 3) := by decide +kernel
theorem d_M_bad_4 : decode b_M_bad 4 = .ok (.iload_n 1, 1) := by decide +kernel
theorem d_M_bad_5 : decode b_M_bad 5 = .ok (.bipush 15, 2) := by decide +kernel
theorem d_M_bad_7 : decode b_M_bad 7 = .ok (.if_icmp .le 7, 3) := by decide +kernel
theorem d_M_bad_10 : decode b_M_bad 10 = .ok (.iconst 1, 1) := by decide +kernel
theorem d_M_bad_11 : decode b_M_bad 11 = .ok (.goto 4, 3) := by decide +kernel
theorem d_M_bad_14 : decode b_M_bad 14 = .ok (.iconst 0, 1) := by decide +kernel
theorem d_M_bad_15 : decode b_M_bad 15 = .ok (.ireturn, 1) := by decide +kernel
theorem d_M_badRule_0 : decode b_M_badRule 0 = .ok (.iload_n 1, 1) := by decide +kernel
theorem d_M_badRule_1 : decode b_M_badRule 1 = .ok (.ifCond .lt 17, 3) := by decide +kernel
theorem d_M_badRule_4 : decode b_M_badRule 4 = .ok (.iload_n 1, 1) := by decide +kernel
theorem d_M_badRule_5 : decode b_M_badRule 5 = .ok (.aload_n 0, 1) := by decide +kernel
theorem d_M_badRule_6 : decode b_M_badRule 6 = .ok (.getfield 41, 3) := by decide +kernel
theorem d_M_badRule_9 : decode b_M_badRule 9 = .ok (.if_icmp .ge 9, 3) := by decide +kernel
theorem d_M_badRule_12 : decode b_M_badRule 12 = .ok (.iload_n 1, 1) := by decide +kernel
theorem d_M_badRule_13 : decode b_M_badRule 13 = .ok (.bipush 20, 2) := by decide +kernel
theorem d_M_badRule_15 : decode b_M_badRule 15 = .ok (.if_icmp .lt 7, 3) := by decide +kernel
theorem d_M_badRule_18 : decode b_M_badRule 18 = .ok (.iconst 1, 1) := by decide +kernel
theorem d_M_badRule_19 : decode b_M_badRule 19 = .ok (.goto 4, 3) := by decide +kernel
theorem d_M_badRule_22 : decode b_M_badRule 22 = .ok (.iconst 0, 1) := by decide +kernel
theorem d_M_badRule_23 : decode b_M_badRule 23 = .ok (.ireturn, 1) := by decide +kernel
theorem d_M_premise_0 : decode b_M_premise 0 = .ok (.aload_n 0, 1) := by decide +kernel
theorem d_M_premise_1 : decode b_M_premise 1 = .ok (.iload_n 1, 1) := by decide +kernel
theorem d_M_premise_2 : decode b_M_premise 2 = .ok (.invokevirtual 45, 3) := by decide +kernel
theorem d_M_premise_5 : decode b_M_premise 5 = .ok (.ifCond .eq 5, 3) := by decide +kernel
theorem d_M_premise_8 : decode b_M_premise 8 = .ok (.iconst (-1), 1) := by decide +kernel
theorem d_M_premise_9 : decode b_M_premise 9 = .ok (.ireturn, 1) := by decide +kernel
theorem d_M_premise_10 : decode b_M_premise 10 = .ok (.aload_n 0, 1) := by decide +kernel
theorem d_M_premise_11 : decode b_M_premise 11 = .ok (.getfield 49, 3) := by decide +kernel
theorem d_M_premise_14 : decode b_M_premise 14 = .ok (.iconst 3, 1) := by decide +kernel
theorem d_M_premise_15 : decode b_M_premise 15 = .ok (.if_icmp .lt 6, 3) := by decide +kernel
theorem d_M_premise_18 : decode b_M_premise 18 = .ok (.bipush (-2), 2) := by decide +kernel
theorem d_M_premise_20 : decode b_M_premise 20 = .ok (.ireturn, 1) := by decide +kernel
theorem d_M_premise_21 : decode b_M_premise 21 = .ok (.aload_n 0, 1) := by decide +kernel
theorem d_M_premise_22 : decode b_M_premise 22 = .ok (.getfield 13, 3) := by decide +kernel
theorem d_M_premise_25 : decode b_M_premise 25 = .ok (.aload_n 0, 1) := by decide +kernel
theorem d_M_premise_26 : decode b_M_premise 26 = .ok (.getfield 49, 3) := by decide +kernel
theorem d_M_premise_29 : decode b_M_premise 29 = .ok (.iload_n 1, 1) := by decide +kernel
theorem d_M_premise_30 : decode b_M_premise 30 = .ok (.iastore, 1) := by decide +kernel
theorem d_M_premise_31 : decode b_M_premise 31 = .ok (.aload_n 0, 1) := by decide +kernel
theorem d_M_premise_32 : decode b_M_premise 32 = .ok (.getfield 16, 3) := by decide +kernel
theorem d_M_premise_35 : decode b_M_premise 35 = .ok (.aload_n 0, 1) := by decide +kernel
theorem d_M_premise_36 : decode b_M_premise 36 = .ok (.getfield 49, 3) := by decide +kernel
theorem d_M_premise_39 : decode b_M_premise 39 = .ok (.iload_n 2, 1) := by decide +kernel
theorem d_M_premise_40 : decode b_M_premise 40 = .ok (.ifCond .eq 7, 3) := by decide +kernel
theorem d_M_premise_43 : decode b_M_premise 43 = .ok (.iconst 1, 1) := by decide +kernel
theorem d_M_premise_44 : decode b_M_premise 44 = .ok (.goto 4, 3) := by decide +kernel
theorem d_M_premise_47 : decode b_M_premise 47 = .ok (.iconst 0, 1) := by decide +kernel
theorem d_M_premise_48 : decode b_M_premise 48 = .ok (.bastore, 1) := by decide +kernel
theorem d_M_premise_49 : decode b_M_premise 49 = .ok (.aload_n 0, 1) := by decide +kernel
theorem d_M_premise_50 : decode b_M_premise 50 = .ok (.dup, 1) := by decide +kernel
theorem d_M_premise_51 : decode b_M_premise 51 = .ok (.getfield 49, 3) := by decide +kernel
theorem d_M_premise_54 : decode b_M_premise 54 = .ok (.iconst 1, 1) := by decide +kernel
theorem d_M_premise_55 : decode b_M_premise 55 = .ok (.iadd, 1) := by decide +kernel
theorem d_M_premise_56 : decode b_M_premise 56 = .ok (.putfield 49, 3) := by decide +kernel
theorem d_M_premise_59 : decode b_M_premise 59 = .ok (.aload_n 0, 1) := by decide +kernel
theorem d_M_premise_60 : decode b_M_premise 60 = .ok (.getfield 49, 3) := by decide +kernel
theorem d_M_premise_63 : decode b_M_premise 63 = .ok (.ireturn, 1) := by decide +kernel
theorem d_M_clear_0 : decode b_M_clear 0 = .ok (.aload_n 0, 1) := by decide +kernel
theorem d_M_clear_1 : decode b_M_clear 1 = .ok (.getfield 49, 3) := by decide +kernel
theorem d_M_clear_4 : decode b_M_clear 4 = .ok (.istore_n 1, 1) := by decide +kernel
theorem d_M_clear_5 : decode b_M_clear 5 = .ok (.aload_n 0, 1) := by decide +kernel
theorem d_M_clear_6 : decode b_M_clear 6 = .ok (.iconst 0, 1) := by decide +kernel
theorem d_M_clear_7 : decode b_M_clear 7 = .ok (.putfield 49, 3) := by decide +kernel
theorem d_M_clear_10 : decode b_M_clear 10 = .ok (.iload_n 1, 1) := by decide +kernel
theorem d_M_clear_11 : decode b_M_clear 11 = .ok (.ireturn, 1) := by decide +kernel
theorem d_M_rule_0 : decode b_M_rule 0 = .ok (.aload_n 0, 1) := by decide +kernel
theorem d_M_rule_1 : decode b_M_rule 1 = .ok (.iload_n 1, 1) := by decide +kernel
theorem d_M_rule_2 : decode b_M_rule 2 = .ok (.invokevirtual 45, 3) := by decide +kernel
theorem d_M_rule_5 : decode b_M_rule 5 = .ok (.ifCond .eq 5, 3) := by decide +kernel
theorem d_M_rule_8 : decode b_M_rule 8 = .ok (.iconst (-1), 1) := by decide +kernel
theorem d_M_rule_9 : decode b_M_rule 9 = .ok (.ireturn, 1) := by decide +kernel
theorem d_M_rule_10 : decode b_M_rule 10 = .ok (.iload_n 2, 1) := by decide +kernel
theorem d_M_rule_11 : decode b_M_rule 11 = .ok (.iconst 1, 1) := by decide +kernel
theorem d_M_rule_12 : decode b_M_rule 12 = .ok (.if_icmp .lt 9, 3) := by decide +kernel
theorem d_M_rule_15 : decode b_M_rule 15 = .ok (.iload_n 2, 1) := by decide +kernel
theorem d_M_rule_16 : decode b_M_rule 16 = .ok (.bipush 100, 2) := by decide +kernel
theorem d_M_rule_18 : decode b_M_rule 18 = .ok (.if_icmp .le 6, 3) := by decide +kernel
theorem d_M_rule_21 : decode b_M_rule 21 = .ok (.bipush (-2), 2) := by decide +kernel
theorem d_M_rule_23 : decode b_M_rule 23 = .ok (.ireturn, 1) := by decide +kernel
theorem d_M_rule_24 : decode b_M_rule 24 = .ok (.iconst 0, 1) := by decide +kernel
theorem d_M_rule_25 : decode b_M_rule 25 = .ok (.istore_n 3, 1) := by decide +kernel
theorem d_M_rule_26 : decode b_M_rule 26 = .ok (.iload_n 3, 1) := by decide +kernel
theorem d_M_rule_27 : decode b_M_rule 27 = .ok (.aload_n 0, 1) := by decide +kernel
theorem d_M_rule_28 : decode b_M_rule 28 = .ok (.getfield 49, 3) := by decide +kernel
theorem d_M_rule_31 : decode b_M_rule 31 = .ok (.if_icmp .ge 52, 3) := by decide +kernel
theorem d_M_rule_34 : decode b_M_rule 34 = .ok (.iload_n 3, 1) := by decide +kernel
theorem d_M_rule_35 : decode b_M_rule 35 = .ok (.iconst 3, 1) := by decide +kernel
theorem d_M_rule_36 : decode b_M_rule 36 = .ok (.if_icmp .ge 47, 3) := by decide +kernel
theorem d_M_rule_39 : decode b_M_rule 39 = .ok (.aload_n 0, 1) := by decide +kernel
theorem d_M_rule_40 : decode b_M_rule 40 = .ok (.getfield 13, 3) := by decide +kernel
theorem d_M_rule_43 : decode b_M_rule 43 = .ok (.iload_n 3, 1) := by decide +kernel
theorem d_M_rule_44 : decode b_M_rule 44 = .ok (.iaload, 1) := by decide +kernel
theorem d_M_rule_45 : decode b_M_rule 45 = .ok (.iconst 4, 1) := by decide +kernel
theorem d_M_rule_46 : decode b_M_rule 46 = .ok (.idiv, 1) := by decide +kernel
theorem d_M_rule_47 : decode b_M_rule 47 = .ok (.istore 4, 2) := by decide +kernel
theorem d_M_rule_49 : decode b_M_rule 49 = .ok (.iload 4, 2) := by decide +kernel
theorem d_M_rule_51 : decode b_M_rule 51 = .ok (.iload_n 1, 1) := by decide +kernel
theorem d_M_rule_52 : decode b_M_rule 52 = .ok (.iconst 4, 1) := by decide +kernel
theorem d_M_rule_53 : decode b_M_rule 53 = .ok (.idiv, 1) := by decide +kernel
theorem d_M_rule_54 : decode b_M_rule 54 = .ok (.if_icmp .gt 20, 3) := by decide +kernel
theorem d_M_rule_57 : decode b_M_rule 57 = .ok (.aload_n 0, 1) := by decide +kernel
theorem d_M_rule_58 : decode b_M_rule 58 = .ok (.getfield 16, 3) := by decide +kernel
theorem d_M_rule_61 : decode b_M_rule 61 = .ok (.iload_n 3, 1) := by decide +kernel
theorem d_M_rule_62 : decode b_M_rule 62 = .ok (.baload, 1) := by decide +kernel
theorem d_M_rule_63 : decode b_M_rule 63 = .ok (.ifCond .eq 14, 3) := by decide +kernel
theorem d_M_rule_66 : decode b_M_rule 66 = .ok (.iload 4, 2) := by decide +kernel
theorem d_M_rule_68 : decode b_M_rule 68 = .ok (.iload_n 1, 1) := by decide +kernel
theorem d_M_rule_69 : decode b_M_rule 69 = .ok (.iconst 4, 1) := by decide +kernel
theorem d_M_rule_70 : decode b_M_rule 70 = .ok (.idiv, 1) := by decide +kernel
theorem d_M_rule_71 : decode b_M_rule 71 = .ok (.if_icmp .ne 6, 3) := by decide +kernel
theorem d_M_rule_74 : decode b_M_rule 74 = .ok (.bipush (-3), 2) := by decide +kernel
theorem d_M_rule_76 : decode b_M_rule 76 = .ok (.ireturn, 1) := by decide +kernel
theorem d_M_rule_77 : decode b_M_rule 77 = .ok (.iinc 3 1, 3) := by decide +kernel
theorem d_M_rule_80 : decode b_M_rule 80 = .ok (.goto (-54), 3) := by decide +kernel
theorem d_M_rule_83 : decode b_M_rule 83 = .ok (.aload_n 0, 1) := by decide +kernel
theorem d_M_rule_84 : decode b_M_rule 84 = .ok (.getfield 41, 3) := by decide +kernel
theorem d_M_rule_87 : decode b_M_rule 87 = .ok (.istore_n 3, 1) := by decide +kernel
theorem d_M_rule_88 : decode b_M_rule 88 = .ok (.iload_n 3, 1) := by decide +kernel
theorem d_M_rule_89 : decode b_M_rule 89 = .ok (.bipush 20, 2) := by decide +kernel
theorem d_M_rule_91 : decode b_M_rule 91 = .ok (.if_icmp .lt 6, 3) := by decide +kernel
theorem d_M_rule_94 : decode b_M_rule 94 = .ok (.bipush (-4), 2) := by decide +kernel
theorem d_M_rule_96 : decode b_M_rule 96 = .ok (.ireturn, 1) := by decide +kernel
theorem d_M_rule_97 : decode b_M_rule 97 = .ok (.aload_n 0, 1) := by decide +kernel
theorem d_M_rule_98 : decode b_M_rule 98 = .ok (.getfield 20, 3) := by decide +kernel
theorem d_M_rule_101 : decode b_M_rule 101 = .ok (.iload_n 3, 1) := by decide +kernel
theorem d_M_rule_102 : decode b_M_rule 102 = .ok (.iload_n 1, 1) := by decide +kernel
theorem d_M_rule_103 : decode b_M_rule 103 = .ok (.iastore, 1) := by decide +kernel
theorem d_M_rule_104 : decode b_M_rule 104 = .ok (.aload_n 0, 1) := by decide +kernel
theorem d_M_rule_105 : decode b_M_rule 105 = .ok (.getfield 23, 3) := by decide +kernel
theorem d_M_rule_108 : decode b_M_rule 108 = .ok (.iload_n 3, 1) := by decide +kernel
theorem d_M_rule_109 : decode b_M_rule 109 = .ok (.iload_n 2, 1) := by decide +kernel
theorem d_M_rule_110 : decode b_M_rule 110 = .ok (.iastore, 1) := by decide +kernel
theorem d_M_rule_111 : decode b_M_rule 111 = .ok (.aload_n 0, 1) := by decide +kernel
theorem d_M_rule_112 : decode b_M_rule 112 = .ok (.getfield 26, 3) := by decide +kernel
theorem d_M_rule_115 : decode b_M_rule 115 = .ok (.iload_n 3, 1) := by decide +kernel
theorem d_M_rule_116 : decode b_M_rule 116 = .ok (.aload_n 0, 1) := by decide +kernel
theorem d_M_rule_117 : decode b_M_rule 117 = .ok (.getfield 49, 3) := by decide +kernel
theorem d_M_rule_120 : decode b_M_rule 120 = .ok (.iastore, 1) := by decide +kernel
theorem d_M_rule_121 : decode b_M_rule 121 = .ok (.iconst 0, 1) := by decide +kernel
theorem d_M_rule_122 : decode b_M_rule 122 = .ok (.istore 4, 2) := by decide +kernel
theorem d_M_rule_124 : decode b_M_rule 124 = .ok (.iload 4, 2) := by decide +kernel
theorem d_M_rule_126 : decode b_M_rule 126 = .ok (.iconst 3, 1) := by decide +kernel
theorem d_M_rule_127 : decode b_M_rule 127 = .ok (.if_icmp .ge 45, 3) := by decide +kernel
theorem d_M_rule_130 : decode b_M_rule 130 = .ok (.aload_n 0, 1) := by decide +kernel
theorem d_M_rule_131 : decode b_M_rule 131 = .ok (.getfield 29, 3) := by decide +kernel
theorem d_M_rule_134 : decode b_M_rule 134 = .ok (.iconst 3, 1) := by decide +kernel
theorem d_M_rule_135 : decode b_M_rule 135 = .ok (.iload_n 3, 1) := by decide +kernel
theorem d_M_rule_136 : decode b_M_rule 136 = .ok (.imul, 1) := by decide +kernel
theorem d_M_rule_137 : decode b_M_rule 137 = .ok (.iload 4, 2) := by decide +kernel
theorem d_M_rule_139 : decode b_M_rule 139 = .ok (.iadd, 1) := by decide +kernel
theorem d_M_rule_140 : decode b_M_rule 140 = .ok (.aload_n 0, 1) := by decide +kernel
theorem d_M_rule_141 : decode b_M_rule 141 = .ok (.getfield 13, 3) := by decide +kernel
theorem d_M_rule_144 : decode b_M_rule 144 = .ok (.iload 4, 2) := by decide +kernel
theorem d_M_rule_146 : decode b_M_rule 146 = .ok (.iaload, 1) := by decide +kernel
theorem d_M_rule_147 : decode b_M_rule 147 = .ok (.iastore, 1) := by decide +kernel
theorem d_M_rule_148 : decode b_M_rule 148 = .ok (.aload_n 0, 1) := by decide +kernel
theorem d_M_rule_149 : decode b_M_rule 149 = .ok (.getfield 32, 3) := by decide +kernel
theorem d_M_rule_152 : decode b_M_rule 152 = .ok (.iconst 3, 1) := by decide +kernel
theorem d_M_rule_153 : decode b_M_rule 153 = .ok (.iload_n 3, 1) := by decide +kernel
theorem d_M_rule_154 : decode b_M_rule 154 = .ok (.imul, 1) := by decide +kernel
theorem d_M_rule_155 : decode b_M_rule 155 = .ok (.iload 4, 2) := by decide +kernel
theorem d_M_rule_157 : decode b_M_rule 157 = .ok (.iadd, 1) := by decide +kernel
theorem d_M_rule_158 : decode b_M_rule 158 = .ok (.aload_n 0, 1) := by decide +kernel
theorem d_M_rule_159 : decode b_M_rule 159 = .ok (.getfield 16, 3) := by decide +kernel
theorem d_M_rule_162 : decode b_M_rule 162 = .ok (.iload 4, 2) := by decide +kernel
theorem d_M_rule_164 : decode b_M_rule 164 = .ok (.baload, 1) := by decide +kernel
theorem d_M_rule_165 : decode b_M_rule 165 = .ok (.bastore, 1) := by decide +kernel
theorem d_M_rule_166 : decode b_M_rule 166 = .ok (.iinc 4 1, 3) := by decide +kernel
theorem d_M_rule_169 : decode b_M_rule 169 = .ok (.goto (-45), 3) := by decide +kernel
theorem d_M_rule_172 : decode b_M_rule 172 = .ok (.aload_n 0, 1) := by decide +kernel
theorem d_M_rule_173 : decode b_M_rule 173 = .ok (.iload_n 3, 1) := by decide +kernel
theorem d_M_rule_174 : decode b_M_rule 174 = .ok (.iconst 1, 1) := by decide +kernel
theorem d_M_rule_175 : decode b_M_rule 175 = .ok (.iadd, 1) := by decide +kernel
theorem d_M_rule_176 : decode b_M_rule 176 = .ok (.putfield 41, 3) := by decide +kernel
theorem d_M_rule_179 : decode b_M_rule 179 = .ok (.aload_n 0, 1) := by decide +kernel
theorem d_M_rule_180 : decode b_M_rule 180 = .ok (.iconst 0, 1) := by decide +kernel
theorem d_M_rule_181 : decode b_M_rule 181 = .ok (.putfield 49, 3) := by decide +kernel
theorem d_M_rule_184 : decode b_M_rule 184 = .ok (.iload_n 3, 1) := by decide +kernel
theorem d_M_rule_185 : decode b_M_rule 185 = .ok (.ireturn, 1) := by decide +kernel
theorem d_M_remove_0 : decode b_M_remove 0 = .ok (.aload_n 0, 1) := by decide +kernel
theorem d_M_remove_1 : decode b_M_remove 1 = .ok (.iload_n 1, 1) := by decide +kernel
theorem d_M_remove_2 : decode b_M_remove 2 = .ok (.invokevirtual 52, 3) := by decide +kernel
theorem d_M_remove_5 : decode b_M_remove 5 = .ok (.ifCond .eq 5, 3) := by decide +kernel
theorem d_M_remove_8 : decode b_M_remove 8 = .ok (.iconst (-1), 1) := by decide +kernel
theorem d_M_remove_9 : decode b_M_remove 9 = .ok (.ireturn, 1) := by decide +kernel
theorem d_M_remove_10 : decode b_M_remove 10 = .ok (.iload_n 1, 1) := by decide +kernel
theorem d_M_remove_11 : decode b_M_remove 11 = .ok (.istore_n 2, 1) := by decide +kernel
theorem d_M_remove_12 : decode b_M_remove 12 = .ok (.iload_n 2, 1) := by decide +kernel
theorem d_M_remove_13 : decode b_M_remove 13 = .ok (.aload_n 0, 1) := by decide +kernel
theorem d_M_remove_14 : decode b_M_remove 14 = .ok (.getfield 41, 3) := by decide +kernel
theorem d_M_remove_17 : decode b_M_remove 17 = .ok (.iconst 1, 1) := by decide +kernel
theorem d_M_remove_18 : decode b_M_remove 18 = .ok (.isub, 1) := by decide +kernel
theorem d_M_remove_19 : decode b_M_remove 19 = .ok (.if_icmp .ge 114, 3) := by decide +kernel
theorem d_M_remove_22 : decode b_M_remove 22 = .ok (.iload_n 2, 1) := by decide +kernel
theorem d_M_remove_23 : decode b_M_remove 23 = .ok (.bipush 19, 2) := by decide +kernel
theorem d_M_remove_25 : decode b_M_remove 25 = .ok (.if_icmp .ge 108, 3) := by decide +kernel
theorem d_M_remove_28 : decode b_M_remove 28 = .ok (.aload_n 0, 1) := by decide +kernel
theorem d_M_remove_29 : decode b_M_remove 29 = .ok (.getfield 20, 3) := by decide +kernel
theorem d_M_remove_32 : decode b_M_remove 32 = .ok (.iload_n 2, 1) := by decide +kernel
theorem d_M_remove_33 : decode b_M_remove 33 = .ok (.aload_n 0, 1) := by decide +kernel
theorem d_M_remove_34 : decode b_M_remove 34 = .ok (.getfield 20, 3) := by decide +kernel
theorem d_M_remove_37 : decode b_M_remove 37 = .ok (.iload_n 2, 1) := by decide +kernel
theorem d_M_remove_38 : decode b_M_remove 38 = .ok (.iconst 1, 1) := by decide +kernel
theorem d_M_remove_39 : decode b_M_remove 39 = .ok (.iadd, 1) := by decide +kernel
theorem d_M_remove_40 : decode b_M_remove 40 = .ok (.iaload, 1) := by decide +kernel
theorem d_M_remove_41 : decode b_M_remove 41 = .ok (.iastore, 1) := by decide +kernel
theorem d_M_remove_42 : decode b_M_remove 42 = .ok (.aload_n 0, 1) := by decide +kernel
theorem d_M_remove_43 : decode b_M_remove 43 = .ok (.getfield 23, 3) := by decide +kernel
theorem d_M_remove_46 : decode b_M_remove 46 = .ok (.iload_n 2, 1) := by decide +kernel
theorem d_M_remove_47 : decode b_M_remove 47 = .ok (.aload_n 0, 1) := by decide +kernel
theorem d_M_remove_48 : decode b_M_remove 48 = .ok (.getfield 23, 3) := by decide +kernel
theorem d_M_remove_51 : decode b_M_remove 51 = .ok (.iload_n 2, 1) := by decide +kernel
theorem d_M_remove_52 : decode b_M_remove 52 = .ok (.iconst 1, 1) := by decide +kernel
theorem d_M_remove_53 : decode b_M_remove 53 = .ok (.iadd, 1) := by decide +kernel
theorem d_M_remove_54 : decode b_M_remove 54 = .ok (.iaload, 1) := by decide +kernel
theorem d_M_remove_55 : decode b_M_remove 55 = .ok (.iastore, 1) := by decide +kernel
theorem d_M_remove_56 : decode b_M_remove 56 = .ok (.aload_n 0, 1) := by decide +kernel
theorem d_M_remove_57 : decode b_M_remove 57 = .ok (.getfield 26, 3) := by decide +kernel
theorem d_M_remove_60 : decode b_M_remove 60 = .ok (.iload_n 2, 1) := by decide +kernel
theorem d_M_remove_61 : decode b_M_remove 61 = .ok (.aload_n 0, 1) := by decide +kernel
theorem d_M_remove_62 : decode b_M_remove 62 = .ok (.getfield 26, 3) := by decide +kernel
theorem d_M_remove_65 : decode b_M_remove 65 = .ok (.iload_n 2, 1) := by decide +kernel
theorem d_M_remove_66 : decode b_M_remove 66 = .ok (.iconst 1, 1) := by decide +kernel
theorem d_M_remove_67 : decode b_M_remove 67 = .ok (.iadd, 1) := by decide +kernel
theorem d_M_remove_68 : decode b_M_remove 68 = .ok (.iaload, 1) := by decide +kernel
theorem d_M_remove_69 : decode b_M_remove 69 = .ok (.iastore, 1) := by decide +kernel
theorem d_M_remove_70 : decode b_M_remove 70 = .ok (.iconst 0, 1) := by decide +kernel
theorem d_M_remove_71 : decode b_M_remove 71 = .ok (.istore_n 3, 1) := by decide +kernel
theorem d_M_remove_72 : decode b_M_remove 72 = .ok (.iload_n 3, 1) := by decide +kernel
theorem d_M_remove_73 : decode b_M_remove 73 = .ok (.iconst 3, 1) := by decide +kernel
theorem d_M_remove_74 : decode b_M_remove 74 = .ok (.if_icmp .ge 53, 3) := by decide +kernel
theorem d_M_remove_77 : decode b_M_remove 77 = .ok (.aload_n 0, 1) := by decide +kernel
theorem d_M_remove_78 : decode b_M_remove 78 = .ok (.getfield 29, 3) := by decide +kernel
theorem d_M_remove_81 : decode b_M_remove 81 = .ok (.iconst 3, 1) := by decide +kernel
theorem d_M_remove_82 : decode b_M_remove 82 = .ok (.iload_n 2, 1) := by decide +kernel
theorem d_M_remove_83 : decode b_M_remove 83 = .ok (.imul, 1) := by decide +kernel
theorem d_M_remove_84 : decode b_M_remove 84 = .ok (.iload_n 3, 1) := by decide +kernel
theorem d_M_remove_85 : decode b_M_remove 85 = .ok (.iadd, 1) := by decide +kernel
theorem d_M_remove_86 : decode b_M_remove 86 = .ok (.aload_n 0, 1) := by decide +kernel
theorem d_M_remove_87 : decode b_M_remove 87 = .ok (.getfield 29, 3) := by decide +kernel
theorem d_M_remove_90 : decode b_M_remove 90 = .ok (.iconst 3, 1) := by decide +kernel
theorem d_M_remove_91 : decode b_M_remove 91 = .ok (.iload_n 2, 1) := by decide +kernel
theorem d_M_remove_92 : decode b_M_remove 92 = .ok (.imul, 1) := by decide +kernel
theorem d_M_remove_93 : decode b_M_remove 93 = .ok (.iconst 3, 1) := by decide +kernel
theorem d_M_remove_94 : decode b_M_remove 94 = .ok (.iadd, 1) := by decide +kernel
theorem d_M_remove_95 : decode b_M_remove 95 = .ok (.iload_n 3, 1) := by decide +kernel
theorem d_M_remove_96 : decode b_M_remove 96 = .ok (.iadd, 1) := by decide +kernel
theorem d_M_remove_97 : decode b_M_remove 97 = .ok (.iaload, 1) := by decide +kernel
theorem d_M_remove_98 : decode b_M_remove 98 = .ok (.iastore, 1) := by decide +kernel
theorem d_M_remove_99 : decode b_M_remove 99 = .ok (.aload_n 0, 1) := by decide +kernel
theorem d_M_remove_100 : decode b_M_remove 100 = .ok (.getfield 32, 3) := by decide +kernel
theorem d_M_remove_103 : decode b_M_remove 103 = .ok (.iconst 3, 1) := by decide +kernel
theorem d_M_remove_104 : decode b_M_remove 104 = .ok (.iload_n 2, 1) := by decide +kernel
theorem d_M_remove_105 : decode b_M_remove 105 = .ok (.imul, 1) := by decide +kernel
theorem d_M_remove_106 : decode b_M_remove 106 = .ok (.iload_n 3, 1) := by decide +kernel
theorem d_M_remove_107 : decode b_M_remove 107 = .ok (.iadd, 1) := by decide +kernel
theorem d_M_remove_108 : decode b_M_remove 108 = .ok (.aload_n 0, 1) := by decide +kernel
theorem d_M_remove_109 : decode b_M_remove 109 = .ok (.getfield 32, 3) := by decide +kernel
theorem d_M_remove_112 : decode b_M_remove 112 = .ok (.iconst 3, 1) := by decide +kernel
theorem d_M_remove_113 : decode b_M_remove 113 = .ok (.iload_n 2, 1) := by decide +kernel
theorem d_M_remove_114 : decode b_M_remove 114 = .ok (.imul, 1) := by decide +kernel
theorem d_M_remove_115 : decode b_M_remove 115 = .ok (.iconst 3, 1) := by decide +kernel
theorem d_M_remove_116 : decode b_M_remove 116 = .ok (.iadd, 1) := by decide +kernel
theorem d_M_remove_117 : decode b_M_remove 117 = .ok (.iload_n 3, 1) := by decide +kernel
theorem d_M_remove_118 : decode b_M_remove 118 = .ok (.iadd, 1) := by decide +kernel
theorem d_M_remove_119 : decode b_M_remove 119 = .ok (.baload, 1) := by decide +kernel
theorem d_M_remove_120 : decode b_M_remove 120 = .ok (.bastore, 1) := by decide +kernel
theorem d_M_remove_121 : decode b_M_remove 121 = .ok (.iinc 3 1, 3) := by decide +kernel
theorem d_M_remove_124 : decode b_M_remove 124 = .ok (.goto (-52), 3) := by decide +kernel
theorem d_M_remove_127 : decode b_M_remove 127 = .ok (.iinc 2 1, 3) := by decide +kernel
theorem d_M_remove_130 : decode b_M_remove 130 = .ok (.goto (-118), 3) := by decide +kernel
theorem d_M_remove_133 : decode b_M_remove 133 = .ok (.aload_n 0, 1) := by decide +kernel
theorem d_M_remove_134 : decode b_M_remove 134 = .ok (.dup, 1) := by decide +kernel
theorem d_M_remove_135 : decode b_M_remove 135 = .ok (.getfield 41, 3) := by decide +kernel
theorem d_M_remove_138 : decode b_M_remove 138 = .ok (.iconst 1, 1) := by decide +kernel
theorem d_M_remove_139 : decode b_M_remove 139 = .ok (.isub, 1) := by decide +kernel
theorem d_M_remove_140 : decode b_M_remove 140 = .ok (.putfield 41, 3) := by decide +kernel
theorem d_M_remove_143 : decode b_M_remove 143 = .ok (.aload_n 0, 1) := by decide +kernel
theorem d_M_remove_144 : decode b_M_remove 144 = .ok (.getfield 41, 3) := by decide +kernel
theorem d_M_remove_147 : decode b_M_remove 147 = .ok (.ireturn, 1) := by decide +kernel
theorem d_M_strengthen_0 : decode b_M_strengthen 0 = .ok (.aload_n 0, 1) := by decide +kernel
theorem d_M_strengthen_1 : decode b_M_strengthen 1 = .ok (.iload_n 1, 1) := by decide +kernel
theorem d_M_strengthen_2 : decode b_M_strengthen 2 = .ok (.invokevirtual 52, 3) := by decide +kernel
theorem d_M_strengthen_5 : decode b_M_strengthen 5 = .ok (.ifCond .eq 5, 3) := by decide +kernel
theorem d_M_strengthen_8 : decode b_M_strengthen 8 = .ok (.iconst (-1), 1) := by decide +kernel
theorem d_M_strengthen_9 : decode b_M_strengthen 9 = .ok (.ireturn, 1) := by decide +kernel
theorem d_M_strengthen_10 : decode b_M_strengthen 10 = .ok (.iload_n 2, 1) := by decide +kernel
theorem d_M_strengthen_11 : decode b_M_strengthen 11 = .ok (.iconst 1, 1) := by decide +kernel
theorem d_M_strengthen_12 : decode b_M_strengthen 12 = .ok (.if_icmp .lt 9, 3) := by decide +kernel
theorem d_M_strengthen_15 : decode b_M_strengthen 15 = .ok (.iload_n 2, 1) := by decide +kernel
theorem d_M_strengthen_16 : decode b_M_strengthen 16 = .ok (.bipush 100, 2) := by decide +kernel
theorem d_M_strengthen_18 : decode b_M_strengthen 18 = .ok (.if_icmp .le 6, 3) := by decide +kernel
theorem d_M_strengthen_21 : decode b_M_strengthen 21 = .ok (.bipush (-2), 2) := by decide +kernel
theorem d_M_strengthen_23 : decode b_M_strengthen 23 = .ok (.ireturn, 1) := by decide +kernel
theorem d_M_strengthen_24 : decode b_M_strengthen 24 = .ok (.aload_n 0, 1) := by decide +kernel
theorem d_M_strengthen_25 : decode b_M_strengthen 25 = .ok (.getfield 23, 3) := by decide +kernel
theorem d_M_strengthen_28 : decode b_M_strengthen 28 = .ok (.iload_n 1, 1) := by decide +kernel
theorem d_M_strengthen_29 : decode b_M_strengthen 29 = .ok (.iaload, 1) := by decide +kernel
theorem d_M_strengthen_30 : decode b_M_strengthen 30 = .ok (.istore_n 3, 1) := by decide +kernel
theorem d_M_strengthen_31 : decode b_M_strengthen 31 = .ok (.aload_n 0, 1) := by decide +kernel
theorem d_M_strengthen_32 : decode b_M_strengthen 32 = .ok (.getfield 23, 3) := by decide +kernel
theorem d_M_strengthen_35 : decode b_M_strengthen 35 = .ok (.iload_n 1, 1) := by decide +kernel
theorem d_M_strengthen_36 : decode b_M_strengthen 36 = .ok (.iload_n 2, 1) := by decide +kernel
theorem d_M_strengthen_37 : decode b_M_strengthen 37 = .ok (.iastore, 1) := by decide +kernel
theorem d_M_strengthen_38 : decode b_M_strengthen 38 = .ok (.iload_n 3, 1) := by decide +kernel
theorem d_M_strengthen_39 : decode b_M_strengthen 39 = .ok (.ireturn, 1) := by decide +kernel
theorem d_M_observe_0 : decode b_M_observe 0 = .ok (.aload_n 0, 1) := by decide +kernel
theorem d_M_observe_1 : decode b_M_observe 1 = .ok (.iload_n 1, 1) := by decide +kernel
theorem d_M_observe_2 : decode b_M_observe 2 = .ok (.invokevirtual 45, 3) := by decide +kernel
theorem d_M_observe_5 : decode b_M_observe 5 = .ok (.ifCond .eq 5, 3) := by decide +kernel
theorem d_M_observe_8 : decode b_M_observe 8 = .ok (.iconst (-1), 1) := by decide +kernel
theorem d_M_observe_9 : decode b_M_observe 9 = .ok (.ireturn, 1) := by decide +kernel
theorem d_M_observe_10 : decode b_M_observe 10 = .ok (.iload_n 2, 1) := by decide +kernel
theorem d_M_observe_11 : decode b_M_observe 11 = .ok (.ifCond .lt 9, 3) := by decide +kernel
theorem d_M_observe_14 : decode b_M_observe 14 = .ok (.iload_n 2, 1) := by decide +kernel
theorem d_M_observe_15 : decode b_M_observe 15 = .ok (.bipush 100, 2) := by decide +kernel
theorem d_M_observe_17 : decode b_M_observe 17 = .ok (.if_icmp .le 6, 3) := by decide +kernel
theorem d_M_observe_20 : decode b_M_observe 20 = .ok (.bipush (-2), 2) := by decide +kernel
theorem d_M_observe_22 : decode b_M_observe 22 = .ok (.ireturn, 1) := by decide +kernel
theorem d_M_observe_23 : decode b_M_observe 23 = .ok (.aload_n 0, 1) := by decide +kernel
theorem d_M_observe_24 : decode b_M_observe 24 = .ok (.getfield 7, 3) := by decide +kernel
theorem d_M_observe_27 : decode b_M_observe 27 = .ok (.iload_n 1, 1) := by decide +kernel
theorem d_M_observe_28 : decode b_M_observe 28 = .ok (.iaload, 1) := by decide +kernel
theorem d_M_observe_29 : decode b_M_observe 29 = .ok (.istore_n 3, 1) := by decide +kernel
theorem d_M_observe_30 : decode b_M_observe 30 = .ok (.aload_n 0, 1) := by decide +kernel
theorem d_M_observe_31 : decode b_M_observe 31 = .ok (.getfield 7, 3) := by decide +kernel
theorem d_M_observe_34 : decode b_M_observe 34 = .ok (.iload_n 1, 1) := by decide +kernel
theorem d_M_observe_35 : decode b_M_observe 35 = .ok (.iload_n 2, 1) := by decide +kernel
theorem d_M_observe_36 : decode b_M_observe 36 = .ok (.iastore, 1) := by decide +kernel
theorem d_M_observe_37 : decode b_M_observe 37 = .ok (.iload_n 3, 1) := by decide +kernel
theorem d_M_observe_38 : decode b_M_observe 38 = .ok (.ireturn, 1) := by decide +kernel
theorem d_M_rules_0 : decode b_M_rules 0 = .ok (.aload_n 0, 1) := by decide +kernel
theorem d_M_rules_1 : decode b_M_rules 1 = .ok (.getfield 41, 3) := by decide +kernel
theorem d_M_rules_4 : decode b_M_rules 4 = .ok (.ireturn, 1) := by decide +kernel
theorem d_M_headOf_0 : decode b_M_headOf 0 = .ok (.aload_n 0, 1) := by decide +kernel
theorem d_M_headOf_1 : decode b_M_headOf 1 = .ok (.iload_n 1, 1) := by decide +kernel
theorem d_M_headOf_2 : decode b_M_headOf 2 = .ok (.invokevirtual 52, 3) := by decide +kernel
theorem d_M_headOf_5 : decode b_M_headOf 5 = .ok (.ifCond .eq 7, 3) := by decide +kernel
theorem d_M_headOf_8 : decode b_M_headOf 8 = .ok (.iconst (-1), 1) := by decide +kernel
theorem d_M_headOf_9 : decode b_M_headOf 9 = .ok (.goto 9, 3) := by decide +kernel
theorem d_M_headOf_12 : decode b_M_headOf 12 = .ok (.aload_n 0, 1) := by decide +kernel
theorem d_M_headOf_13 : decode b_M_headOf 13 = .ok (.getfield 20, 3) := by decide +kernel
theorem d_M_headOf_16 : decode b_M_headOf 16 = .ok (.iload_n 1, 1) := by decide +kernel
theorem d_M_headOf_17 : decode b_M_headOf 17 = .ok (.iaload, 1) := by decide +kernel
theorem d_M_headOf_18 : decode b_M_headOf 18 = .ok (.ireturn, 1) := by decide +kernel
theorem d_M_observed_0 : decode b_M_observed 0 = .ok (.aload_n 0, 1) := by decide +kernel
theorem d_M_observed_1 : decode b_M_observed 1 = .ok (.iload_n 1, 1) := by decide +kernel
theorem d_M_observed_2 : decode b_M_observed 2 = .ok (.invokevirtual 45, 3) := by decide +kernel
theorem d_M_observed_5 : decode b_M_observed 5 = .ok (.ifCond .eq 7, 3) := by decide +kernel
theorem d_M_observed_8 : decode b_M_observed 8 = .ok (.iconst (-1), 1) := by decide +kernel
theorem d_M_observed_9 : decode b_M_observed 9 = .ok (.goto 9, 3) := by decide +kernel
theorem d_M_observed_12 : decode b_M_observed 12 = .ok (.aload_n 0, 1) := by decide +kernel
theorem d_M_observed_13 : decode b_M_observed 13 = .ok (.getfield 7, 3) := by decide +kernel
theorem d_M_observed_16 : decode b_M_observed 16 = .ok (.iload_n 1, 1) := by decide +kernel
theorem d_M_observed_17 : decode b_M_observed 17 = .ok (.iaload, 1) := by decide +kernel
theorem d_M_observed_18 : decode b_M_observed 18 = .ok (.ireturn, 1) := by decide +kernel
theorem d_M_asks_0 : decode b_M_asks 0 = .ok (.bipush 100, 2) := by decide +kernel
theorem d_M_asks_2 : decode b_M_asks 2 = .ok (.istore_n 2, 1) := by decide +kernel
theorem d_M_asks_3 : decode b_M_asks 3 = .ok (.iconst 0, 1) := by decide +kernel
theorem d_M_asks_4 : decode b_M_asks 4 = .ok (.istore_n 3, 1) := by decide +kernel
theorem d_M_asks_5 : decode b_M_asks 5 = .ok (.iload_n 3, 1) := by decide +kernel
theorem d_M_asks_6 : decode b_M_asks 6 = .ok (.aload_n 0, 1) := by decide +kernel
theorem d_M_asks_7 : decode b_M_asks 7 = .ok (.getfield 26, 3) := by decide +kernel
theorem d_M_asks_10 : decode b_M_asks 10 = .ok (.iload_n 1, 1) := by decide +kernel
theorem d_M_asks_11 : decode b_M_asks 11 = .ok (.iaload, 1) := by decide +kernel
theorem d_M_asks_12 : decode b_M_asks 12 = .ok (.if_icmp .ge 60, 3) := by decide +kernel
theorem d_M_asks_15 : decode b_M_asks 15 = .ok (.iload_n 3, 1) := by decide +kernel
theorem d_M_asks_16 : decode b_M_asks 16 = .ok (.iconst 3, 1) := by decide +kernel
theorem d_M_asks_17 : decode b_M_asks 17 = .ok (.if_icmp .ge 55, 3) := by decide +kernel
theorem d_M_asks_20 : decode b_M_asks 20 = .ok (.aload_n 0, 1) := by decide +kernel
theorem d_M_asks_21 : decode b_M_asks 21 = .ok (.getfield 35, 3) := by decide +kernel
theorem d_M_asks_24 : decode b_M_asks 24 = .ok (.aload_n 0, 1) := by decide +kernel
theorem d_M_asks_25 : decode b_M_asks 25 = .ok (.getfield 29, 3) := by decide +kernel
theorem d_M_asks_28 : decode b_M_asks 28 = .ok (.iconst 3, 1) := by decide +kernel
theorem d_M_asks_29 : decode b_M_asks 29 = .ok (.iload_n 1, 1) := by decide +kernel
theorem d_M_asks_30 : decode b_M_asks 30 = .ok (.imul, 1) := by decide +kernel
theorem d_M_asks_31 : decode b_M_asks 31 = .ok (.iload_n 3, 1) := by decide +kernel
theorem d_M_asks_32 : decode b_M_asks 32 = .ok (.iadd, 1) := by decide +kernel
theorem d_M_asks_33 : decode b_M_asks 33 = .ok (.iaload, 1) := by decide +kernel
theorem d_M_asks_34 : decode b_M_asks 34 = .ok (.iaload, 1) := by decide +kernel
theorem d_M_asks_35 : decode b_M_asks 35 = .ok (.istore 4, 2) := by decide +kernel
theorem d_M_asks_37 : decode b_M_asks 37 = .ok (.aload_n 0, 1) := by decide +kernel
theorem d_M_asks_38 : decode b_M_asks 38 = .ok (.getfield 32, 3) := by decide +kernel
theorem d_M_asks_41 : decode b_M_asks 41 = .ok (.iconst 3, 1) := by decide +kernel
theorem d_M_asks_42 : decode b_M_asks 42 = .ok (.iload_n 1, 1) := by decide +kernel
theorem d_M_asks_43 : decode b_M_asks 43 = .ok (.imul, 1) := by decide +kernel
theorem d_M_asks_44 : decode b_M_asks 44 = .ok (.iload_n 3, 1) := by decide +kernel
theorem d_M_asks_45 : decode b_M_asks 45 = .ok (.iadd, 1) := by decide +kernel
theorem d_M_asks_46 : decode b_M_asks 46 = .ok (.baload, 1) := by decide +kernel
theorem d_M_asks_47 : decode b_M_asks 47 = .ok (.ifCond .eq 10, 3) := by decide +kernel
theorem d_M_asks_50 : decode b_M_asks 50 = .ok (.bipush 100, 2) := by decide +kernel
theorem d_M_asks_52 : decode b_M_asks 52 = .ok (.iload 4, 2) := by decide +kernel
theorem d_M_asks_54 : decode b_M_asks 54 = .ok (.isub, 1) := by decide +kernel
theorem d_M_asks_55 : decode b_M_asks 55 = .ok (.istore 4, 2) := by decide +kernel
theorem d_M_asks_57 : decode b_M_asks 57 = .ok (.iload 4, 2) := by decide +kernel
theorem d_M_asks_59 : decode b_M_asks 59 = .ok (.iload_n 2, 1) := by decide +kernel
theorem d_M_asks_60 : decode b_M_asks 60 = .ok (.if_icmp .ge 6, 3) := by decide +kernel
theorem d_M_asks_63 : decode b_M_asks 63 = .ok (.iload 4, 2) := by decide +kernel
theorem d_M_asks_65 : decode b_M_asks 65 = .ok (.istore_n 2, 1) := by decide +kernel
theorem d_M_asks_66 : decode b_M_asks 66 = .ok (.iinc 3 1, 3) := by decide +kernel
theorem d_M_asks_69 : decode b_M_asks 69 = .ok (.goto (-64), 3) := by decide +kernel
theorem d_M_asks_72 : decode b_M_asks 72 = .ok (.iload_n 2, 1) := by decide +kernel
theorem d_M_asks_73 : decode b_M_asks 73 = .ok (.aload_n 0, 1) := by decide +kernel
theorem d_M_asks_74 : decode b_M_asks 74 = .ok (.getfield 23, 3) := by decide +kernel
theorem d_M_asks_77 : decode b_M_asks 77 = .ok (.iload_n 1, 1) := by decide +kernel
theorem d_M_asks_78 : decode b_M_asks 78 = .ok (.iaload, 1) := by decide +kernel
theorem d_M_asks_79 : decode b_M_asks 79 = .ok (.imul, 1) := by decide +kernel
theorem d_M_asks_80 : decode b_M_asks 80 = .ok (.bipush 100, 2) := by decide +kernel
theorem d_M_asks_82 : decode b_M_asks 82 = .ok (.idiv, 1) := by decide +kernel
theorem d_M_asks_83 : decode b_M_asks 83 = .ok (.ireturn, 1) := by decide +kernel
theorem d_M_raise_0 : decode b_M_raise 0 = .ok (.iconst 0, 1) := by decide +kernel
theorem d_M_raise_1 : decode b_M_raise 1 = .ok (.istore_n 3, 1) := by decide +kernel
theorem d_M_raise_2 : decode b_M_raise 2 = .ok (.iconst 0, 1) := by decide +kernel
theorem d_M_raise_3 : decode b_M_raise 3 = .ok (.istore 4, 2) := by decide +kernel
theorem d_M_raise_5 : decode b_M_raise 5 = .ok (.iload 4, 2) := by decide +kernel
theorem d_M_raise_7 : decode b_M_raise 7 = .ok (.aload_n 0, 1) := by decide +kernel
theorem d_M_raise_8 : decode b_M_raise 8 = .ok (.getfield 41, 3) := by decide +kernel
theorem d_M_raise_11 : decode b_M_raise 11 = .ok (.if_icmp .ge 70, 3) := by decide +kernel
theorem d_M_raise_14 : decode b_M_raise 14 = .ok (.iload 4, 2) := by decide +kernel
theorem d_M_raise_16 : decode b_M_raise 16 = .ok (.bipush 20, 2) := by decide +kernel
theorem d_M_raise_18 : decode b_M_raise 18 = .ok (.if_icmp .ge 63, 3) := by decide +kernel
theorem d_M_raise_21 : decode b_M_raise 21 = .ok (.aload_n 0, 1) := by decide +kernel
theorem d_M_raise_22 : decode b_M_raise 22 = .ok (.getfield 20, 3) := by decide +kernel
theorem d_M_raise_25 : decode b_M_raise 25 = .ok (.iload 4, 2) := by decide +kernel
theorem d_M_raise_27 : decode b_M_raise 27 = .ok (.iaload, 1) := by decide +kernel
theorem d_M_raise_28 : decode b_M_raise 28 = .ok (.istore 5, 2) := by decide +kernel
theorem d_M_raise_30 : decode b_M_raise 30 = .ok (.iload 4, 2) := by decide +kernel
theorem d_M_raise_32 : decode b_M_raise 32 = .ok (.iload_n 2, 1) := by decide +kernel
theorem d_M_raise_33 : decode b_M_raise 33 = .ok (.if_icmp .eq 42, 3) := by decide +kernel
theorem d_M_raise_36 : decode b_M_raise 36 = .ok (.iload 5, 2) := by decide +kernel
theorem d_M_raise_38 : decode b_M_raise 38 = .ok (.iconst 4, 1) := by decide +kernel
theorem d_M_raise_39 : decode b_M_raise 39 = .ok (.idiv, 1) := by decide +kernel
theorem d_M_raise_40 : decode b_M_raise 40 = .ok (.iload_n 1, 1) := by decide +kernel
theorem d_M_raise_41 : decode b_M_raise 41 = .ok (.if_icmp .ne 34, 3) := by decide +kernel
theorem d_M_raise_44 : decode b_M_raise 44 = .ok (.aload_n 0, 1) := by decide +kernel
theorem d_M_raise_45 : decode b_M_raise 45 = .ok (.iload 4, 2) := by decide +kernel
theorem d_M_raise_47 : decode b_M_raise 47 = .ok (.invokevirtual 55, 3) := by decide +kernel
theorem d_M_raise_50 : decode b_M_raise 50 = .ok (.istore 6, 2) := by decide +kernel
theorem d_M_raise_52 : decode b_M_raise 52 = .ok (.iload 6, 2) := by decide +kernel
theorem d_M_raise_54 : decode b_M_raise 54 = .ok (.aload_n 0, 1) := by decide +kernel
theorem d_M_raise_55 : decode b_M_raise 55 = .ok (.getfield 35, 3) := by decide +kernel
theorem d_M_raise_58 : decode b_M_raise 58 = .ok (.iload 5, 2) := by decide +kernel
theorem d_M_raise_60 : decode b_M_raise 60 = .ok (.iaload, 1) := by decide +kernel
theorem d_M_raise_61 : decode b_M_raise 61 = .ok (.if_icmp .le 14, 3) := by decide +kernel
theorem d_M_raise_64 : decode b_M_raise 64 = .ok (.aload_n 0, 1) := by decide +kernel
theorem d_M_raise_65 : decode b_M_raise 65 = .ok (.getfield 35, 3) := by decide +kernel
theorem d_M_raise_68 : decode b_M_raise 68 = .ok (.iload 5, 2) := by decide +kernel
theorem d_M_raise_70 : decode b_M_raise 70 = .ok (.iload 6, 2) := by decide +kernel
theorem d_M_raise_72 : decode b_M_raise 72 = .ok (.iastore, 1) := by decide +kernel
theorem d_M_raise_73 : decode b_M_raise 73 = .ok (.iconst 1, 1) := by decide +kernel
theorem d_M_raise_74 : decode b_M_raise 74 = .ok (.istore_n 3, 1) := by decide +kernel
theorem d_M_raise_75 : decode b_M_raise 75 = .ok (.iinc 4 1, 3) := by decide +kernel
theorem d_M_raise_78 : decode b_M_raise 78 = .ok (.goto (-73), 3) := by decide +kernel
theorem d_M_raise_81 : decode b_M_raise 81 = .ok (.iload_n 3, 1) := by decide +kernel
theorem d_M_raise_82 : decode b_M_raise 82 = .ok (.ireturn, 1) := by decide +kernel
theorem d_M_workOut_0 : decode b_M_workOut 0 = .ok (.iconst 0, 1) := by decide +kernel
theorem d_M_workOut_1 : decode b_M_workOut 1 = .ok (.istore 4, 2) := by decide +kernel
theorem d_M_workOut_3 : decode b_M_workOut 3 = .ok (.iload 4, 2) := by decide +kernel
theorem d_M_workOut_5 : decode b_M_workOut 5 = .ok (.bipush 16, 2) := by decide +kernel
theorem d_M_workOut_7 : decode b_M_workOut 7 = .ok (.if_icmp .ge 33, 3) := by decide +kernel
theorem d_M_workOut_10 : decode b_M_workOut 10 = .ok (.aload_n 0, 1) := by decide +kernel
theorem d_M_workOut_11 : decode b_M_workOut 11 = .ok (.getfield 35, 3) := by decide +kernel
theorem d_M_workOut_14 : decode b_M_workOut 14 = .ok (.iload 4, 2) := by decide +kernel
theorem d_M_workOut_16 : decode b_M_workOut 16 = .ok (.iload 4, 2) := by decide +kernel
theorem d_M_workOut_18 : decode b_M_workOut 18 = .ok (.iload_n 1, 1) := by decide +kernel
theorem d_M_workOut_19 : decode b_M_workOut 19 = .ok (.if_icmp .ne 7, 3) := by decide +kernel
theorem d_M_workOut_22 : decode b_M_workOut 22 = .ok (.iload_n 2, 1) := by decide +kernel
theorem d_M_workOut_23 : decode b_M_workOut 23 = .ok (.goto 10, 3) := by decide +kernel
theorem d_M_workOut_26 : decode b_M_workOut 26 = .ok (.aload_n 0, 1) := by decide +kernel
theorem d_M_workOut_27 : decode b_M_workOut 27 = .ok (.getfield 7, 3) := by decide +kernel
theorem d_M_workOut_30 : decode b_M_workOut 30 = .ok (.iload 4, 2) := by decide +kernel
theorem d_M_workOut_32 : decode b_M_workOut 32 = .ok (.iaload, 1) := by decide +kernel
theorem d_M_workOut_33 : decode b_M_workOut 33 = .ok (.iastore, 1) := by decide +kernel
theorem d_M_workOut_34 : decode b_M_workOut 34 = .ok (.iinc 4 1, 3) := by decide +kernel
theorem d_M_workOut_37 : decode b_M_workOut 37 = .ok (.goto (-34), 3) := by decide +kernel
theorem d_M_workOut_40 : decode b_M_workOut 40 = .ok (.iconst 0, 1) := by decide +kernel
theorem d_M_workOut_41 : decode b_M_workOut 41 = .ok (.istore 4, 2) := by decide +kernel
theorem d_M_workOut_43 : decode b_M_workOut 43 = .ok (.iload 4, 2) := by decide +kernel
theorem d_M_workOut_45 : decode b_M_workOut 45 = .ok (.iconst 4, 1) := by decide +kernel
theorem d_M_workOut_46 : decode b_M_workOut 46 = .ok (.if_icmp .ge 43, 3) := by decide +kernel
theorem d_M_workOut_49 : decode b_M_workOut 49 = .ok (.iconst 1, 1) := by decide +kernel
theorem d_M_workOut_50 : decode b_M_workOut 50 = .ok (.istore 5, 2) := by decide +kernel
theorem d_M_workOut_52 : decode b_M_workOut 52 = .ok (.iconst 0, 1) := by decide +kernel
theorem d_M_workOut_53 : decode b_M_workOut 53 = .ok (.istore 6, 2) := by decide +kernel
theorem d_M_workOut_55 : decode b_M_workOut 55 = .ok (.iload 6, 2) := by decide +kernel
theorem d_M_workOut_57 : decode b_M_workOut 57 = .ok (.sipush 500, 3) := by decide +kernel
theorem d_M_workOut_60 : decode b_M_workOut 60 = .ok (.if_icmp .ge 23, 3) := by decide +kernel
theorem d_M_workOut_63 : decode b_M_workOut 63 = .ok (.iload 5, 2) := by decide +kernel
theorem d_M_workOut_65 : decode b_M_workOut 65 = .ok (.ifCond .eq 18, 3) := by decide +kernel
theorem d_M_workOut_68 : decode b_M_workOut 68 = .ok (.aload_n 0, 1) := by decide +kernel
theorem d_M_workOut_69 : decode b_M_workOut 69 = .ok (.iload 4, 2) := by decide +kernel
theorem d_M_workOut_71 : decode b_M_workOut 71 = .ok (.iload_n 3, 1) := by decide +kernel
theorem d_M_workOut_72 : decode b_M_workOut 72 = .ok (.invokevirtual 59, 3) := by decide +kernel
theorem d_M_workOut_75 : decode b_M_workOut 75 = .ok (.istore 5, 2) := by decide +kernel
theorem d_M_workOut_77 : decode b_M_workOut 77 = .ok (.iinc 6 1, 3) := by decide +kernel
theorem d_M_workOut_80 : decode b_M_workOut 80 = .ok (.goto (-25), 3) := by decide +kernel
theorem d_M_workOut_83 : decode b_M_workOut 83 = .ok (.iinc 4 1, 3) := by decide +kernel
theorem d_M_workOut_86 : decode b_M_workOut 86 = .ok (.goto (-43), 3) := by decide +kernel
theorem d_M_workOut_89 : decode b_M_workOut 89 = .ok (.return_, 1) := by decide +kernel
theorem d_M_certainty_0 : decode b_M_certainty 0 = .ok (.aload_n 0, 1) := by decide +kernel
theorem d_M_certainty_1 : decode b_M_certainty 1 = .ok (.iload_n 1, 1) := by decide +kernel
theorem d_M_certainty_2 : decode b_M_certainty 2 = .ok (.invokevirtual 45, 3) := by decide +kernel
theorem d_M_certainty_5 : decode b_M_certainty 5 = .ok (.ifCond .eq 5, 3) := by decide +kernel
theorem d_M_certainty_8 : decode b_M_certainty 8 = .ok (.iconst (-1), 1) := by decide +kernel
theorem d_M_certainty_9 : decode b_M_certainty 9 = .ok (.ireturn, 1) := by decide +kernel
theorem d_M_certainty_10 : decode b_M_certainty 10 = .ok (.aload_n 0, 1) := by decide +kernel
theorem d_M_certainty_11 : decode b_M_certainty 11 = .ok (.iconst (-1), 1) := by decide +kernel
theorem d_M_certainty_12 : decode b_M_certainty 12 = .ok (.iconst 0, 1) := by decide +kernel
theorem d_M_certainty_13 : decode b_M_certainty 13 = .ok (.iconst (-1), 1) := by decide +kernel
theorem d_M_certainty_14 : decode b_M_certainty 14 = .ok (.invokevirtual 63, 3) := by decide +kernel
theorem d_M_certainty_17 : decode b_M_certainty 17 = .ok (.aload_n 0, 1) := by decide +kernel
theorem d_M_certainty_18 : decode b_M_certainty 18 = .ok (.getfield 35, 3) := by decide +kernel
theorem d_M_certainty_21 : decode b_M_certainty 21 = .ok (.iload_n 1, 1) := by decide +kernel
theorem d_M_certainty_22 : decode b_M_certainty 22 = .ok (.iaload, 1) := by decide +kernel
theorem d_M_certainty_23 : decode b_M_certainty 23 = .ok (.ireturn, 1) := by decide +kernel
theorem d_M_whatIf_0 : decode b_M_whatIf 0 = .ok (.aload_n 0, 1) := by decide +kernel
theorem d_M_whatIf_1 : decode b_M_whatIf 1 = .ok (.iload_n 1, 1) := by decide +kernel
theorem d_M_whatIf_2 : decode b_M_whatIf 2 = .ok (.invokevirtual 45, 3) := by decide +kernel
theorem d_M_whatIf_5 : decode b_M_whatIf 5 = .ok (.ifCond .ne 11, 3) := by decide +kernel
theorem d_M_whatIf_8 : decode b_M_whatIf 8 = .ok (.aload_n 0, 1) := by decide +kernel
theorem d_M_whatIf_9 : decode b_M_whatIf 9 = .ok (.iload_n 2, 1) := by decide +kernel
theorem d_M_whatIf_10 : decode b_M_whatIf 10 = .ok (.invokevirtual 45, 3) := by decide +kernel
theorem d_M_whatIf_13 : decode b_M_whatIf 13 = .ok (.ifCond .eq 5, 3) := by decide +kernel
theorem d_M_whatIf_16 : decode b_M_whatIf 16 = .ok (.iconst (-1), 1) := by decide +kernel
theorem d_M_whatIf_17 : decode b_M_whatIf 17 = .ok (.ireturn, 1) := by decide +kernel
theorem d_M_whatIf_18 : decode b_M_whatIf 18 = .ok (.iload_n 3, 1) := by decide +kernel
theorem d_M_whatIf_19 : decode b_M_whatIf 19 = .ok (.ifCond .lt 9, 3) := by decide +kernel
theorem d_M_whatIf_22 : decode b_M_whatIf 22 = .ok (.iload_n 3, 1) := by decide +kernel
theorem d_M_whatIf_23 : decode b_M_whatIf 23 = .ok (.bipush 100, 2) := by decide +kernel
theorem d_M_whatIf_25 : decode b_M_whatIf 25 = .ok (.if_icmp .le 6, 3) := by decide +kernel
theorem d_M_whatIf_28 : decode b_M_whatIf 28 = .ok (.bipush (-2), 2) := by decide +kernel
theorem d_M_whatIf_30 : decode b_M_whatIf 30 = .ok (.ireturn, 1) := by decide +kernel
theorem d_M_whatIf_31 : decode b_M_whatIf 31 = .ok (.aload_n 0, 1) := by decide +kernel
theorem d_M_whatIf_32 : decode b_M_whatIf 32 = .ok (.iload_n 2, 1) := by decide +kernel
theorem d_M_whatIf_33 : decode b_M_whatIf 33 = .ok (.iload_n 3, 1) := by decide +kernel
theorem d_M_whatIf_34 : decode b_M_whatIf 34 = .ok (.iconst (-1), 1) := by decide +kernel
theorem d_M_whatIf_35 : decode b_M_whatIf 35 = .ok (.invokevirtual 63, 3) := by decide +kernel
theorem d_M_whatIf_38 : decode b_M_whatIf 38 = .ok (.aload_n 0, 1) := by decide +kernel
theorem d_M_whatIf_39 : decode b_M_whatIf 39 = .ok (.getfield 35, 3) := by decide +kernel
theorem d_M_whatIf_42 : decode b_M_whatIf 42 = .ok (.iload_n 1, 1) := by decide +kernel
theorem d_M_whatIf_43 : decode b_M_whatIf 43 = .ok (.iaload, 1) := by decide +kernel
theorem d_M_whatIf_44 : decode b_M_whatIf 44 = .ok (.ireturn, 1) := by decide +kernel
theorem d_M_without_0 : decode b_M_without 0 = .ok (.aload_n 0, 1) := by decide +kernel
theorem d_M_without_1 : decode b_M_without 1 = .ok (.iload_n 1, 1) := by decide +kernel
theorem d_M_without_2 : decode b_M_without 2 = .ok (.invokevirtual 45, 3) := by decide +kernel
theorem d_M_without_5 : decode b_M_without 5 = .ok (.ifCond .eq 5, 3) := by decide +kernel
theorem d_M_without_8 : decode b_M_without 8 = .ok (.iconst (-1), 1) := by decide +kernel
theorem d_M_without_9 : decode b_M_without 9 = .ok (.ireturn, 1) := by decide +kernel
theorem d_M_without_10 : decode b_M_without 10 = .ok (.aload_n 0, 1) := by decide +kernel
theorem d_M_without_11 : decode b_M_without 11 = .ok (.iload_n 2, 1) := by decide +kernel
theorem d_M_without_12 : decode b_M_without 12 = .ok (.invokevirtual 52, 3) := by decide +kernel
theorem d_M_without_15 : decode b_M_without 15 = .ok (.ifCond .eq 6, 3) := by decide +kernel
theorem d_M_without_18 : decode b_M_without 18 = .ok (.bipush (-2), 2) := by decide +kernel
theorem d_M_without_20 : decode b_M_without 20 = .ok (.ireturn, 1) := by decide +kernel
theorem d_M_without_21 : decode b_M_without 21 = .ok (.aload_n 0, 1) := by decide +kernel
theorem d_M_without_22 : decode b_M_without 22 = .ok (.iconst (-1), 1) := by decide +kernel
theorem d_M_without_23 : decode b_M_without 23 = .ok (.iconst 0, 1) := by decide +kernel
theorem d_M_without_24 : decode b_M_without 24 = .ok (.iload_n 2, 1) := by decide +kernel
theorem d_M_without_25 : decode b_M_without 25 = .ok (.invokevirtual 63, 3) := by decide +kernel
theorem d_M_without_28 : decode b_M_without 28 = .ok (.aload_n 0, 1) := by decide +kernel
theorem d_M_without_29 : decode b_M_without 29 = .ok (.getfield 35, 3) := by decide +kernel
theorem d_M_without_32 : decode b_M_without 32 = .ok (.iload_n 1, 1) := by decide +kernel
theorem d_M_without_33 : decode b_M_without 33 = .ok (.iaload, 1) := by decide +kernel
theorem d_M_without_34 : decode b_M_without 34 = .ok (.ireturn, 1) := by decide +kernel
theorem d_M_supporter_0 : decode b_M_supporter 0 = .ok (.aload_n 0, 1) := by decide +kernel
theorem d_M_supporter_1 : decode b_M_supporter 1 = .ok (.iload_n 1, 1) := by decide +kernel
theorem d_M_supporter_2 : decode b_M_supporter 2 = .ok (.invokevirtual 45, 3) := by decide +kernel
theorem d_M_supporter_5 : decode b_M_supporter 5 = .ok (.ifCond .eq 5, 3) := by decide +kernel
theorem d_M_supporter_8 : decode b_M_supporter 8 = .ok (.iconst (-1), 1) := by decide +kernel
theorem d_M_supporter_9 : decode b_M_supporter 9 = .ok (.ireturn, 1) := by decide +kernel
theorem d_M_supporter_10 : decode b_M_supporter 10 = .ok (.aload_n 0, 1) := by decide +kernel
theorem d_M_supporter_11 : decode b_M_supporter 11 = .ok (.iconst (-1), 1) := by decide +kernel
theorem d_M_supporter_12 : decode b_M_supporter 12 = .ok (.iconst 0, 1) := by decide +kernel
theorem d_M_supporter_13 : decode b_M_supporter 13 = .ok (.iconst (-1), 1) := by decide +kernel
theorem d_M_supporter_14 : decode b_M_supporter 14 = .ok (.invokevirtual 63, 3) := by decide +kernel
theorem d_M_supporter_17 : decode b_M_supporter 17 = .ok (.iconst 0, 1) := by decide +kernel
theorem d_M_supporter_18 : decode b_M_supporter 18 = .ok (.istore_n 2, 1) := by decide +kernel
theorem d_M_supporter_19 : decode b_M_supporter 19 = .ok (.iload_n 2, 1) := by decide +kernel
theorem d_M_supporter_20 : decode b_M_supporter 20 = .ok (.aload_n 0, 1) := by decide +kernel
theorem d_M_supporter_21 : decode b_M_supporter 21 = .ok (.getfield 41, 3) := by decide +kernel
theorem d_M_supporter_24 : decode b_M_supporter 24 = .ok (.if_icmp .ge 50, 3) := by decide +kernel
theorem d_M_supporter_27 : decode b_M_supporter 27 = .ok (.iload_n 2, 1) := by decide +kernel
theorem d_M_supporter_28 : decode b_M_supporter 28 = .ok (.bipush 20, 2) := by decide +kernel
theorem d_M_supporter_30 : decode b_M_supporter 30 = .ok (.if_icmp .ge 44, 3) := by decide +kernel
theorem d_M_supporter_33 : decode b_M_supporter 33 = .ok (.aload_n 0, 1) := by decide +kernel
theorem d_M_supporter_34 : decode b_M_supporter 34 = .ok (.getfield 20, 3) := by decide +kernel
theorem d_M_supporter_37 : decode b_M_supporter 37 = .ok (.iload_n 2, 1) := by decide +kernel
theorem d_M_supporter_38 : decode b_M_supporter 38 = .ok (.iaload, 1) := by decide +kernel
theorem d_M_supporter_39 : decode b_M_supporter 39 = .ok (.iload_n 1, 1) := by decide +kernel
theorem d_M_supporter_40 : decode b_M_supporter 40 = .ok (.if_icmp .ne 28, 3) := by decide +kernel
theorem d_M_supporter_43 : decode b_M_supporter 43 = .ok (.aload_n 0, 1) := by decide +kernel
theorem d_M_supporter_44 : decode b_M_supporter 44 = .ok (.getfield 35, 3) := by decide +kernel
theorem d_M_supporter_47 : decode b_M_supporter 47 = .ok (.iload_n 1, 1) := by decide +kernel
theorem d_M_supporter_48 : decode b_M_supporter 48 = .ok (.iaload, 1) := by decide +kernel
theorem d_M_supporter_49 : decode b_M_supporter 49 = .ok (.ifCond .le 19, 3) := by decide +kernel
theorem d_M_supporter_52 : decode b_M_supporter 52 = .ok (.aload_n 0, 1) := by decide +kernel
theorem d_M_supporter_53 : decode b_M_supporter 53 = .ok (.iload_n 2, 1) := by decide +kernel
theorem d_M_supporter_54 : decode b_M_supporter 54 = .ok (.invokevirtual 55, 3) := by decide +kernel
theorem d_M_supporter_57 : decode b_M_supporter 57 = .ok (.aload_n 0, 1) := by decide +kernel
theorem d_M_supporter_58 : decode b_M_supporter 58 = .ok (.getfield 35, 3) := by decide +kernel
theorem d_M_supporter_61 : decode b_M_supporter 61 = .ok (.iload_n 1, 1) := by decide +kernel
theorem d_M_supporter_62 : decode b_M_supporter 62 = .ok (.iaload, 1) := by decide +kernel
theorem d_M_supporter_63 : decode b_M_supporter 63 = .ok (.if_icmp .ne 5, 3) := by decide +kernel
theorem d_M_supporter_66 : decode b_M_supporter 66 = .ok (.iload_n 2, 1) := by decide +kernel
theorem d_M_supporter_67 : decode b_M_supporter 67 = .ok (.ireturn, 1) := by decide +kernel
theorem d_M_supporter_68 : decode b_M_supporter 68 = .ok (.iinc 2 1, 3) := by decide +kernel
theorem d_M_supporter_71 : decode b_M_supporter 71 = .ok (.goto (-52), 3) := by decide +kernel
theorem d_M_supporter_74 : decode b_M_supporter 74 = .ok (.bipush (-2), 2) := by decide +kernel
theorem d_M_supporter_76 : decode b_M_supporter 76 = .ok (.ireturn, 1) := by decide +kernel
theorem d_M_yield_0 : decode b_M_yield 0 = .ok (.aload_n 0, 1) := by decide +kernel
theorem d_M_yield_1 : decode b_M_yield 1 = .ok (.iload_n 1, 1) := by decide +kernel
theorem d_M_yield_2 : decode b_M_yield 2 = .ok (.invokevirtual 52, 3) := by decide +kernel
theorem d_M_yield_5 : decode b_M_yield 5 = .ok (.ifCond .eq 5, 3) := by decide +kernel
theorem d_M_yield_8 : decode b_M_yield 8 = .ok (.iconst (-1), 1) := by decide +kernel
theorem d_M_yield_9 : decode b_M_yield 9 = .ok (.ireturn, 1) := by decide +kernel
theorem d_M_yield_10 : decode b_M_yield 10 = .ok (.aload_n 0, 1) := by decide +kernel
theorem d_M_yield_11 : decode b_M_yield 11 = .ok (.iconst (-1), 1) := by decide +kernel
theorem d_M_yield_12 : decode b_M_yield 12 = .ok (.iconst 0, 1) := by decide +kernel
theorem d_M_yield_13 : decode b_M_yield 13 = .ok (.iconst (-1), 1) := by decide +kernel
theorem d_M_yield_14 : decode b_M_yield 14 = .ok (.invokevirtual 63, 3) := by decide +kernel
theorem d_M_yield_17 : decode b_M_yield 17 = .ok (.aload_n 0, 1) := by decide +kernel
theorem d_M_yield_18 : decode b_M_yield 18 = .ok (.iload_n 1, 1) := by decide +kernel
theorem d_M_yield_19 : decode b_M_yield 19 = .ok (.invokevirtual 55, 3) := by decide +kernel
theorem d_M_yield_22 : decode b_M_yield 22 = .ok (.ireturn, 1) := by decide +kernel
theorem d_M_atLeast_0 : decode b_M_atLeast 0 = .ok (.aload_n 0, 1) := by decide +kernel
theorem d_M_atLeast_1 : decode b_M_atLeast 1 = .ok (.iconst (-1), 1) := by decide +kernel
theorem d_M_atLeast_2 : decode b_M_atLeast 2 = .ok (.iconst 0, 1) := by decide +kernel
theorem d_M_atLeast_3 : decode b_M_atLeast 3 = .ok (.iconst (-1), 1) := by decide +kernel
theorem d_M_atLeast_4 : decode b_M_atLeast 4 = .ok (.invokevirtual 63, 3) := by decide +kernel
theorem d_M_atLeast_7 : decode b_M_atLeast 7 = .ok (.iconst 0, 1) := by decide +kernel
theorem d_M_atLeast_8 : decode b_M_atLeast 8 = .ok (.istore_n 2, 1) := by decide +kernel
theorem d_M_atLeast_9 : decode b_M_atLeast 9 = .ok (.iconst 0, 1) := by decide +kernel
theorem d_M_atLeast_10 : decode b_M_atLeast 10 = .ok (.istore_n 3, 1) := by decide +kernel
theorem d_M_atLeast_11 : decode b_M_atLeast 11 = .ok (.iload_n 3, 1) := by decide +kernel
theorem d_M_atLeast_12 : decode b_M_atLeast 12 = .ok (.bipush 16, 2) := by decide +kernel
theorem d_M_atLeast_14 : decode b_M_atLeast 14 = .ok (.if_icmp .ge 22, 3) := by decide +kernel
theorem d_M_atLeast_17 : decode b_M_atLeast 17 = .ok (.aload_n 0, 1) := by decide +kernel
theorem d_M_atLeast_18 : decode b_M_atLeast 18 = .ok (.getfield 35, 3) := by decide +kernel
theorem d_M_atLeast_21 : decode b_M_atLeast 21 = .ok (.iload_n 3, 1) := by decide +kernel
theorem d_M_atLeast_22 : decode b_M_atLeast 22 = .ok (.iaload, 1) := by decide +kernel
theorem d_M_atLeast_23 : decode b_M_atLeast 23 = .ok (.iload_n 1, 1) := by decide +kernel
theorem d_M_atLeast_24 : decode b_M_atLeast 24 = .ok (.if_icmp .lt 6, 3) := by decide +kernel
theorem d_M_atLeast_27 : decode b_M_atLeast 27 = .ok (.iinc 2 1, 3) := by decide +kernel
theorem d_M_atLeast_30 : decode b_M_atLeast 30 = .ok (.iinc 3 1, 3) := by decide +kernel
theorem d_M_atLeast_33 : decode b_M_atLeast 33 = .ok (.goto (-22), 3) := by decide +kernel
theorem d_M_atLeast_36 : decode b_M_atLeast 36 = .ok (.iload_n 2, 1) := by decide +kernel
theorem d_M_atLeast_37 : decode b_M_atLeast 37 = .ok (.ireturn, 1) := by decide +kernel
theorem d_M_strongest_0 : decode b_M_strongest 0 = .ok (.aload_n 0, 1) := by decide +kernel
theorem d_M_strongest_1 : decode b_M_strongest 1 = .ok (.iload_n 1, 1) := by decide +kernel
theorem d_M_strongest_2 : decode b_M_strongest 2 = .ok (.invokevirtual 45, 3) := by decide +kernel
theorem d_M_strongest_5 : decode b_M_strongest 5 = .ok (.ifCond .ne 11, 3) := by decide +kernel
theorem d_M_strongest_8 : decode b_M_strongest 8 = .ok (.aload_n 0, 1) := by decide +kernel
theorem d_M_strongest_9 : decode b_M_strongest 9 = .ok (.iload_n 2, 1) := by decide +kernel
theorem d_M_strongest_10 : decode b_M_strongest 10 = .ok (.invokevirtual 45, 3) := by decide +kernel
theorem d_M_strongest_13 : decode b_M_strongest 13 = .ok (.ifCond .eq 5, 3) := by decide +kernel
theorem d_M_strongest_16 : decode b_M_strongest 16 = .ok (.iconst (-1), 1) := by decide +kernel
theorem d_M_strongest_17 : decode b_M_strongest 17 = .ok (.ireturn, 1) := by decide +kernel
theorem d_M_strongest_18 : decode b_M_strongest 18 = .ok (.iload_n 1, 1) := by decide +kernel
theorem d_M_strongest_19 : decode b_M_strongest 19 = .ok (.iload_n 2, 1) := by decide +kernel
theorem d_M_strongest_20 : decode b_M_strongest 20 = .ok (.if_icmp .le 6, 3) := by decide +kernel
theorem d_M_strongest_23 : decode b_M_strongest 23 = .ok (.bipush (-2), 2) := by decide +kernel
theorem d_M_strongest_25 : decode b_M_strongest 25 = .ok (.ireturn, 1) := by decide +kernel
theorem d_M_strongest_26 : decode b_M_strongest 26 = .ok (.aload_n 0, 1) := by decide +kernel
theorem d_M_strongest_27 : decode b_M_strongest 27 = .ok (.iconst (-1), 1) := by decide +kernel
theorem d_M_strongest_28 : decode b_M_strongest 28 = .ok (.iconst 0, 1) := by decide +kernel
theorem d_M_strongest_29 : decode b_M_strongest 29 = .ok (.iconst (-1), 1) := by decide +kernel
theorem d_M_strongest_30 : decode b_M_strongest 30 = .ok (.invokevirtual 63, 3) := by decide +kernel
theorem d_M_strongest_33 : decode b_M_strongest 33 = .ok (.iload_n 1, 1) := by decide +kernel
theorem d_M_strongest_34 : decode b_M_strongest 34 = .ok (.istore_n 3, 1) := by decide +kernel
theorem d_M_strongest_35 : decode b_M_strongest 35 = .ok (.iload_n 1, 1) := by decide +kernel
theorem d_M_strongest_36 : decode b_M_strongest 36 = .ok (.istore 4, 2) := by decide +kernel
theorem d_M_strongest_38 : decode b_M_strongest 38 = .ok (.iload 4, 2) := by decide +kernel
theorem d_M_strongest_40 : decode b_M_strongest 40 = .ok (.iload_n 2, 1) := by decide +kernel
theorem d_M_strongest_41 : decode b_M_strongest 41 = .ok (.if_icmp .gt 28, 3) := by decide +kernel
theorem d_M_strongest_44 : decode b_M_strongest 44 = .ok (.aload_n 0, 1) := by decide +kernel
theorem d_M_strongest_45 : decode b_M_strongest 45 = .ok (.getfield 35, 3) := by decide +kernel
theorem d_M_strongest_48 : decode b_M_strongest 48 = .ok (.iload 4, 2) := by decide +kernel
theorem d_M_strongest_50 : decode b_M_strongest 50 = .ok (.iaload, 1) := by decide +kernel
theorem d_M_strongest_51 : decode b_M_strongest 51 = .ok (.aload_n 0, 1) := by decide +kernel
theorem d_M_strongest_52 : decode b_M_strongest 52 = .ok (.getfield 35, 3) := by decide +kernel
theorem d_M_strongest_55 : decode b_M_strongest 55 = .ok (.iload_n 3, 1) := by decide +kernel
theorem d_M_strongest_56 : decode b_M_strongest 56 = .ok (.iaload, 1) := by decide +kernel
theorem d_M_strongest_57 : decode b_M_strongest 57 = .ok (.if_icmp .le 6, 3) := by decide +kernel
theorem d_M_strongest_60 : decode b_M_strongest 60 = .ok (.iload 4, 2) := by decide +kernel
theorem d_M_strongest_62 : decode b_M_strongest 62 = .ok (.istore_n 3, 1) := by decide +kernel
theorem d_M_strongest_63 : decode b_M_strongest 63 = .ok (.iinc 4 1, 3) := by decide +kernel
theorem d_M_strongest_66 : decode b_M_strongest 66 = .ok (.goto (-28), 3) := by decide +kernel
theorem d_M_strongest_69 : decode b_M_strongest 69 = .ok (.iload_n 3, 1) := by decide +kernel
theorem d_M_strongest_70 : decode b_M_strongest 70 = .ok (.ireturn, 1) := by decide +kernel
theorem d_M_keep_0 : decode b_M_keep 0 = .ok (.aload_n 0, 1) := by decide +kernel
theorem d_M_keep_1 : decode b_M_keep 1 = .ok (.iconst (-1), 1) := by decide +kernel
theorem d_M_keep_2 : decode b_M_keep 2 = .ok (.iconst 0, 1) := by decide +kernel
theorem d_M_keep_3 : decode b_M_keep 3 = .ok (.iconst (-1), 1) := by decide +kernel
theorem d_M_keep_4 : decode b_M_keep 4 = .ok (.invokevirtual 63, 3) := by decide +kernel
theorem d_M_keep_7 : decode b_M_keep 7 = .ok (.iconst 0, 1) := by decide +kernel
theorem d_M_keep_8 : decode b_M_keep 8 = .ok (.istore_n 1, 1) := by decide +kernel
theorem d_M_keep_9 : decode b_M_keep 9 = .ok (.iload_n 1, 1) := by decide +kernel
theorem d_M_keep_10 : decode b_M_keep 10 = .ok (.bipush 16, 2) := by decide +kernel
theorem d_M_keep_12 : decode b_M_keep 12 = .ok (.if_icmp .ge 21, 3) := by decide +kernel
theorem d_M_keep_15 : decode b_M_keep 15 = .ok (.aload_n 0, 1) := by decide +kernel
theorem d_M_keep_16 : decode b_M_keep 16 = .ok (.getfield 38, 3) := by decide +kernel
theorem d_M_keep_19 : decode b_M_keep 19 = .ok (.iload_n 1, 1) := by decide +kernel
theorem d_M_keep_20 : decode b_M_keep 20 = .ok (.aload_n 0, 1) := by decide +kernel
theorem d_M_keep_21 : decode b_M_keep 21 = .ok (.getfield 35, 3) := by decide +kernel
theorem d_M_keep_24 : decode b_M_keep 24 = .ok (.iload_n 1, 1) := by decide +kernel
theorem d_M_keep_25 : decode b_M_keep 25 = .ok (.iaload, 1) := by decide +kernel
theorem d_M_keep_26 : decode b_M_keep 26 = .ok (.iastore, 1) := by decide +kernel
theorem d_M_keep_27 : decode b_M_keep 27 = .ok (.iinc 1 1, 3) := by decide +kernel
theorem d_M_keep_30 : decode b_M_keep 30 = .ok (.goto (-21), 3) := by decide +kernel
theorem d_M_keep_33 : decode b_M_keep 33 = .ok (.return_, 1) := by decide +kernel
theorem d_M_others_0 : decode b_M_others 0 = .ok (.iconst 0, 1) := by decide +kernel
theorem d_M_others_1 : decode b_M_others 1 = .ok (.istore_n 1, 1) := by decide +kernel
theorem d_M_others_2 : decode b_M_others 2 = .ok (.iconst 0, 1) := by decide +kernel
theorem d_M_others_3 : decode b_M_others 3 = .ok (.istore_n 2, 1) := by decide +kernel
theorem d_M_others_4 : decode b_M_others 4 = .ok (.iload_n 2, 1) := by decide +kernel
theorem d_M_others_5 : decode b_M_others 5 = .ok (.bipush 16, 2) := by decide +kernel
theorem d_M_others_7 : decode b_M_others 7 = .ok (.if_icmp .ge 27, 3) := by decide +kernel
theorem d_M_others_10 : decode b_M_others 10 = .ok (.aload_n 0, 1) := by decide +kernel
theorem d_M_others_11 : decode b_M_others 11 = .ok (.getfield 35, 3) := by decide +kernel
theorem d_M_others_14 : decode b_M_others 14 = .ok (.iload_n 2, 1) := by decide +kernel
theorem d_M_others_15 : decode b_M_others 15 = .ok (.iaload, 1) := by decide +kernel
theorem d_M_others_16 : decode b_M_others 16 = .ok (.aload_n 0, 1) := by decide +kernel
theorem d_M_others_17 : decode b_M_others 17 = .ok (.getfield 38, 3) := by decide +kernel
theorem d_M_others_20 : decode b_M_others 20 = .ok (.iload_n 2, 1) := by decide +kernel
theorem d_M_others_21 : decode b_M_others 21 = .ok (.iaload, 1) := by decide +kernel
theorem d_M_others_22 : decode b_M_others 22 = .ok (.if_icmp .eq 6, 3) := by decide +kernel
theorem d_M_others_25 : decode b_M_others 25 = .ok (.iinc 1 1, 3) := by decide +kernel
theorem d_M_others_28 : decode b_M_others 28 = .ok (.iinc 2 1, 3) := by decide +kernel
theorem d_M_others_31 : decode b_M_others 31 = .ok (.goto (-27), 3) := by decide +kernel
theorem d_M_others_34 : decode b_M_others 34 = .ok (.iload_n 1, 1) := by decide +kernel
theorem d_M_others_35 : decode b_M_others 35 = .ok (.ireturn, 1) := by decide +kernel
theorem d_M_essential_0 : decode b_M_essential 0 = .ok (.aload_n 0, 1) := by decide +kernel
theorem d_M_essential_1 : decode b_M_essential 1 = .ok (.invokevirtual 67, 3) := by decide +kernel
theorem d_M_essential_4 : decode b_M_essential 4 = .ok (.iconst 0, 1) := by decide +kernel
theorem d_M_essential_5 : decode b_M_essential 5 = .ok (.istore_n 1, 1) := by decide +kernel
theorem d_M_essential_6 : decode b_M_essential 6 = .ok (.iconst 0, 1) := by decide +kernel
theorem d_M_essential_7 : decode b_M_essential 7 = .ok (.istore_n 2, 1) := by decide +kernel
theorem d_M_essential_8 : decode b_M_essential 8 = .ok (.iload_n 2, 1) := by decide +kernel
theorem d_M_essential_9 : decode b_M_essential 9 = .ok (.aload_n 0, 1) := by decide +kernel
theorem d_M_essential_10 : decode b_M_essential 10 = .ok (.getfield 41, 3) := by decide +kernel
theorem d_M_essential_13 : decode b_M_essential 13 = .ok (.if_icmp .ge 32, 3) := by decide +kernel
theorem d_M_essential_16 : decode b_M_essential 16 = .ok (.iload_n 2, 1) := by decide +kernel
theorem d_M_essential_17 : decode b_M_essential 17 = .ok (.bipush 20, 2) := by decide +kernel
theorem d_M_essential_19 : decode b_M_essential 19 = .ok (.if_icmp .ge 26, 3) := by decide +kernel
theorem d_M_essential_22 : decode b_M_essential 22 = .ok (.aload_n 0, 1) := by decide +kernel
theorem d_M_essential_23 : decode b_M_essential 23 = .ok (.iconst (-1), 1) := by decide +kernel
theorem d_M_essential_24 : decode b_M_essential 24 = .ok (.iconst 0, 1) := by decide +kernel
theorem d_M_essential_25 : decode b_M_essential 25 = .ok (.iload_n 2, 1) := by decide +kernel
theorem d_M_essential_26 : decode b_M_essential 26 = .ok (.invokevirtual 63, 3) := by decide +kernel
theorem d_M_essential_29 : decode b_M_essential 29 = .ok (.aload_n 0, 1) := by decide +kernel
theorem d_M_essential_30 : decode b_M_essential 30 = .ok (.invokevirtual 70, 3) := by decide +kernel
theorem d_M_essential_33 : decode b_M_essential 33 = .ok (.ifCond .le 6, 3) := by decide +kernel
theorem d_M_essential_36 : decode b_M_essential 36 = .ok (.iinc 1 1, 3) := by decide +kernel
theorem d_M_essential_39 : decode b_M_essential 39 = .ok (.iinc 2 1, 3) := by decide +kernel
theorem d_M_essential_42 : decode b_M_essential 42 = .ok (.goto (-34), 3) := by decide +kernel
theorem d_M_essential_45 : decode b_M_essential 45 = .ok (.iload_n 1, 1) := by decide +kernel
theorem d_M_essential_46 : decode b_M_essential 46 = .ok (.ireturn, 1) := by decide +kernel
theorem d_M_influence_0 : decode b_M_influence 0 = .ok (.aload_n 0, 1) := by decide +kernel
theorem d_M_influence_1 : decode b_M_influence 1 = .ok (.iload_n 1, 1) := by decide +kernel
theorem d_M_influence_2 : decode b_M_influence 2 = .ok (.invokevirtual 45, 3) := by decide +kernel
theorem d_M_influence_5 : decode b_M_influence 5 = .ok (.ifCond .eq 5, 3) := by decide +kernel
theorem d_M_influence_8 : decode b_M_influence 8 = .ok (.iconst (-1), 1) := by decide +kernel
theorem d_M_influence_9 : decode b_M_influence 9 = .ok (.ireturn, 1) := by decide +kernel
theorem d_M_influence_10 : decode b_M_influence 10 = .ok (.aload_n 0, 1) := by decide +kernel
theorem d_M_influence_11 : decode b_M_influence 11 = .ok (.invokevirtual 67, 3) := by decide +kernel
theorem d_M_influence_14 : decode b_M_influence 14 = .ok (.aload_n 0, 1) := by decide +kernel
theorem d_M_influence_15 : decode b_M_influence 15 = .ok (.iload_n 1, 1) := by decide +kernel
theorem d_M_influence_16 : decode b_M_influence 16 = .ok (.iconst 0, 1) := by decide +kernel
theorem d_M_influence_17 : decode b_M_influence 17 = .ok (.iconst (-1), 1) := by decide +kernel
theorem d_M_influence_18 : decode b_M_influence 18 = .ok (.invokevirtual 63, 3) := by decide +kernel
theorem d_M_influence_21 : decode b_M_influence 21 = .ok (.aload_n 0, 1) := by decide +kernel
theorem d_M_influence_22 : decode b_M_influence 22 = .ok (.invokevirtual 70, 3) := by decide +kernel
theorem d_M_influence_25 : decode b_M_influence 25 = .ok (.ireturn, 1) := by decide +kernel
end
section
theorem d_law_0 : decode code 0 = .ok (.new 7, 3) := by decide +kernel
theorem d_law_3 : decode code 3 = .ok (.dup, 1) := by decide +kernel
theorem d_law_4 : decode code 4 = .ok (.invokespecial 9, 3) := by decide +kernel
theorem d_law_7 : decode code 7 = .ok (.astore_n 1, 1) := by decide +kernel
theorem d_law_8 : decode code 8 = .ok (.new 10, 3) := by decide +kernel
theorem d_law_11 : decode code 11 = .ok (.dup, 1) := by decide +kernel
theorem d_law_12 : decode code 12 = .ok (.invokespecial 12, 3) := by decide +kernel
theorem d_law_15 : decode code 15 = .ok (.astore_n 2, 1) := by decide +kernel
theorem d_law_16 : decode code 16 = .ok (.iconst 0, 1) := by decide +kernel
theorem d_law_17 : decode code 17 = .ok (.istore_n 3, 1) := by decide +kernel
theorem d_law_18 : decode code 18 = .ok (.iload_n 3, 1) := by decide +kernel
theorem d_law_19 : decode code 19 = .ok (.aload_n 0, 1) := by decide +kernel
theorem d_law_20 : decode code 20 = .ok (.arraylength, 1) := by decide +kernel
theorem d_law_21 : decode code 21 = .ok (.iconst 4, 1) := by decide +kernel
theorem d_law_22 : decode code 22 = .ok (.isub, 1) := by decide +kernel
theorem d_law_23 : decode code 23 = .ok (.if_icmp .gt 567, 3) := by decide +kernel
theorem d_law_26 : decode code 26 = .ok (.aload_n 0, 1) := by decide +kernel
theorem d_law_27 : decode code 27 = .ok (.iload_n 3, 1) := by decide +kernel
theorem d_law_28 : decode code 28 = .ok (.iaload, 1) := by decide +kernel
theorem d_law_29 : decode code 29 = .ok (.bipush 31, 2) := by decide +kernel
theorem d_law_31 : decode code 31 = .ok (.iand, 1) := by decide +kernel
theorem d_law_32 : decode code 32 = .ok (.tableswitch 552 0 17 #[88, 121, 134, 167, 190, 223, 256, 269, 292, 315, 338, 381, 414, 437, 460, 483, 516, 529], 88) := by decide +kernel
theorem d_law_120 : decode code 120 = .ok (.aload_n 1, 1) := by decide +kernel
theorem d_law_121 : decode code 121 = .ok (.aload_n 0, 1) := by decide +kernel
theorem d_law_122 : decode code 122 = .ok (.iload_n 3, 1) := by decide +kernel
theorem d_law_123 : decode code 123 = .ok (.iconst 1, 1) := by decide +kernel
theorem d_law_124 : decode code 124 = .ok (.iadd, 1) := by decide +kernel
theorem d_law_125 : decode code 125 = .ok (.iaload, 1) := by decide +kernel
theorem d_law_126 : decode code 126 = .ok (.aload_n 0, 1) := by decide +kernel
theorem d_law_127 : decode code 127 = .ok (.iload_n 3, 1) := by decide +kernel
theorem d_law_128 : decode code 128 = .ok (.iconst 2, 1) := by decide +kernel
theorem d_law_129 : decode code 129 = .ok (.iadd, 1) := by decide +kernel
theorem d_law_130 : decode code 130 = .ok (.iaload, 1) := by decide +kernel
theorem d_law_131 : decode code 131 = .ok (.invokevirtual 13, 3) := by decide +kernel
theorem d_law_134 : decode code 134 = .ok (.aload_n 2, 1) := by decide +kernel
theorem d_law_135 : decode code 135 = .ok (.aload_n 0, 1) := by decide +kernel
theorem d_law_136 : decode code 136 = .ok (.iload_n 3, 1) := by decide +kernel
theorem d_law_137 : decode code 137 = .ok (.iconst 1, 1) := by decide +kernel
theorem d_law_138 : decode code 138 = .ok (.iadd, 1) := by decide +kernel
theorem d_law_139 : decode code 139 = .ok (.iaload, 1) := by decide +kernel
theorem d_law_140 : decode code 140 = .ok (.aload_n 0, 1) := by decide +kernel
theorem d_law_141 : decode code 141 = .ok (.iload_n 3, 1) := by decide +kernel
theorem d_law_142 : decode code 142 = .ok (.iconst 2, 1) := by decide +kernel
theorem d_law_143 : decode code 143 = .ok (.iadd, 1) := by decide +kernel
theorem d_law_144 : decode code 144 = .ok (.iaload, 1) := by decide +kernel
theorem d_law_145 : decode code 145 = .ok (.invokevirtual 17, 3) := by decide +kernel
theorem d_law_148 : decode code 148 = .ok (.if_icmp .eq 436, 3) := by decide +kernel
theorem d_law_151 : decode code 151 = .ok (.iconst 0, 1) := by decide +kernel
theorem d_law_152 : decode code 152 = .ok (.ireturn, 1) := by decide +kernel
theorem d_law_153 : decode code 153 = .ok (.aload_n 1, 1) := by decide +kernel
theorem d_law_154 : decode code 154 = .ok (.invokevirtual 18, 3) := by decide +kernel
theorem d_law_157 : decode code 157 = .ok (.aload_n 2, 1) := by decide +kernel
theorem d_law_158 : decode code 158 = .ok (.invokevirtual 22, 3) := by decide +kernel
theorem d_law_161 : decode code 161 = .ok (.if_icmp .eq 423, 3) := by decide +kernel
theorem d_law_164 : decode code 164 = .ok (.iconst 0, 1) := by decide +kernel
theorem d_law_165 : decode code 165 = .ok (.ireturn, 1) := by decide +kernel
theorem d_law_166 : decode code 166 = .ok (.aload_n 1, 1) := by decide +kernel
theorem d_law_167 : decode code 167 = .ok (.aload_n 0, 1) := by decide +kernel
theorem d_law_168 : decode code 168 = .ok (.iload_n 3, 1) := by decide +kernel
theorem d_law_169 : decode code 169 = .ok (.iconst 1, 1) := by decide +kernel
theorem d_law_170 : decode code 170 = .ok (.iadd, 1) := by decide +kernel
theorem d_law_171 : decode code 171 = .ok (.iaload, 1) := by decide +kernel
theorem d_law_172 : decode code 172 = .ok (.aload_n 0, 1) := by decide +kernel
theorem d_law_173 : decode code 173 = .ok (.iload_n 3, 1) := by decide +kernel
theorem d_law_174 : decode code 174 = .ok (.iconst 2, 1) := by decide +kernel
theorem d_law_175 : decode code 175 = .ok (.iadd, 1) := by decide +kernel
theorem d_law_176 : decode code 176 = .ok (.iaload, 1) := by decide +kernel
theorem d_law_177 : decode code 177 = .ok (.invokevirtual 23, 3) := by decide +kernel
theorem d_law_180 : decode code 180 = .ok (.aload_n 2, 1) := by decide +kernel
theorem d_law_181 : decode code 181 = .ok (.aload_n 0, 1) := by decide +kernel
theorem d_law_182 : decode code 182 = .ok (.iload_n 3, 1) := by decide +kernel
theorem d_law_183 : decode code 183 = .ok (.iconst 1, 1) := by decide +kernel
theorem d_law_184 : decode code 184 = .ok (.iadd, 1) := by decide +kernel
theorem d_law_185 : decode code 185 = .ok (.iaload, 1) := by decide +kernel
theorem d_law_186 : decode code 186 = .ok (.aload_n 0, 1) := by decide +kernel
theorem d_law_187 : decode code 187 = .ok (.iload_n 3, 1) := by decide +kernel
theorem d_law_188 : decode code 188 = .ok (.iconst 2, 1) := by decide +kernel
theorem d_law_189 : decode code 189 = .ok (.iadd, 1) := by decide +kernel
theorem d_law_190 : decode code 190 = .ok (.iaload, 1) := by decide +kernel
theorem d_law_191 : decode code 191 = .ok (.invokevirtual 26, 3) := by decide +kernel
theorem d_law_194 : decode code 194 = .ok (.if_icmp .eq 390, 3) := by decide +kernel
theorem d_law_197 : decode code 197 = .ok (.iconst 0, 1) := by decide +kernel
theorem d_law_198 : decode code 198 = .ok (.ireturn, 1) := by decide +kernel
theorem d_law_199 : decode code 199 = .ok (.aload_n 1, 1) := by decide +kernel
theorem d_law_200 : decode code 200 = .ok (.aload_n 0, 1) := by decide +kernel
theorem d_law_201 : decode code 201 = .ok (.iload_n 3, 1) := by decide +kernel
theorem d_law_202 : decode code 202 = .ok (.iconst 1, 1) := by decide +kernel
theorem d_law_203 : decode code 203 = .ok (.iadd, 1) := by decide +kernel
theorem d_law_204 : decode code 204 = .ok (.iaload, 1) := by decide +kernel
theorem d_law_205 : decode code 205 = .ok (.invokevirtual 27, 3) := by decide +kernel
theorem d_law_208 : decode code 208 = .ok (.aload_n 2, 1) := by decide +kernel
theorem d_law_209 : decode code 209 = .ok (.aload_n 0, 1) := by decide +kernel
theorem d_law_210 : decode code 210 = .ok (.iload_n 3, 1) := by decide +kernel
theorem d_law_211 : decode code 211 = .ok (.iconst 1, 1) := by decide +kernel
theorem d_law_212 : decode code 212 = .ok (.iadd, 1) := by decide +kernel
theorem d_law_213 : decode code 213 = .ok (.iaload, 1) := by decide +kernel
theorem d_law_214 : decode code 214 = .ok (.invokevirtual 31, 3) := by decide +kernel
theorem d_law_217 : decode code 217 = .ok (.if_icmp .eq 367, 3) := by decide +kernel
theorem d_law_220 : decode code 220 = .ok (.iconst 0, 1) := by decide +kernel
theorem d_law_221 : decode code 221 = .ok (.ireturn, 1) := by decide +kernel
theorem d_law_222 : decode code 222 = .ok (.aload_n 1, 1) := by decide +kernel
theorem d_law_223 : decode code 223 = .ok (.aload_n 0, 1) := by decide +kernel
theorem d_law_224 : decode code 224 = .ok (.iload_n 3, 1) := by decide +kernel
theorem d_law_225 : decode code 225 = .ok (.iconst 1, 1) := by decide +kernel
theorem d_law_226 : decode code 226 = .ok (.iadd, 1) := by decide +kernel
theorem d_law_227 : decode code 227 = .ok (.iaload, 1) := by decide +kernel
theorem d_law_228 : decode code 228 = .ok (.aload_n 0, 1) := by decide +kernel
theorem d_law_229 : decode code 229 = .ok (.iload_n 3, 1) := by decide +kernel
theorem d_law_230 : decode code 230 = .ok (.iconst 2, 1) := by decide +kernel
theorem d_law_231 : decode code 231 = .ok (.iadd, 1) := by decide +kernel
theorem d_law_232 : decode code 232 = .ok (.iaload, 1) := by decide +kernel
theorem d_law_233 : decode code 233 = .ok (.invokevirtual 32, 3) := by decide +kernel
theorem d_law_236 : decode code 236 = .ok (.aload_n 2, 1) := by decide +kernel
theorem d_law_237 : decode code 237 = .ok (.aload_n 0, 1) := by decide +kernel
theorem d_law_238 : decode code 238 = .ok (.iload_n 3, 1) := by decide +kernel
theorem d_law_239 : decode code 239 = .ok (.iconst 1, 1) := by decide +kernel
theorem d_law_240 : decode code 240 = .ok (.iadd, 1) := by decide +kernel
theorem d_law_241 : decode code 241 = .ok (.iaload, 1) := by decide +kernel
theorem d_law_242 : decode code 242 = .ok (.aload_n 0, 1) := by decide +kernel
theorem d_law_243 : decode code 243 = .ok (.iload_n 3, 1) := by decide +kernel
theorem d_law_244 : decode code 244 = .ok (.iconst 2, 1) := by decide +kernel
theorem d_law_245 : decode code 245 = .ok (.iadd, 1) := by decide +kernel
theorem d_law_246 : decode code 246 = .ok (.iaload, 1) := by decide +kernel
theorem d_law_247 : decode code 247 = .ok (.invokevirtual 35, 3) := by decide +kernel
theorem d_law_250 : decode code 250 = .ok (.if_icmp .eq 334, 3) := by decide +kernel
theorem d_law_253 : decode code 253 = .ok (.iconst 0, 1) := by decide +kernel
theorem d_law_254 : decode code 254 = .ok (.ireturn, 1) := by decide +kernel
theorem d_law_255 : decode code 255 = .ok (.aload_n 1, 1) := by decide +kernel
theorem d_law_256 : decode code 256 = .ok (.aload_n 0, 1) := by decide +kernel
theorem d_law_257 : decode code 257 = .ok (.iload_n 3, 1) := by decide +kernel
theorem d_law_258 : decode code 258 = .ok (.iconst 1, 1) := by decide +kernel
theorem d_law_259 : decode code 259 = .ok (.iadd, 1) := by decide +kernel
theorem d_law_260 : decode code 260 = .ok (.iaload, 1) := by decide +kernel
theorem d_law_261 : decode code 261 = .ok (.aload_n 0, 1) := by decide +kernel
theorem d_law_262 : decode code 262 = .ok (.iload_n 3, 1) := by decide +kernel
theorem d_law_263 : decode code 263 = .ok (.iconst 2, 1) := by decide +kernel
theorem d_law_264 : decode code 264 = .ok (.iadd, 1) := by decide +kernel
theorem d_law_265 : decode code 265 = .ok (.iaload, 1) := by decide +kernel
theorem d_law_266 : decode code 266 = .ok (.invokevirtual 36, 3) := by decide +kernel
theorem d_law_269 : decode code 269 = .ok (.aload_n 2, 1) := by decide +kernel
theorem d_law_270 : decode code 270 = .ok (.aload_n 0, 1) := by decide +kernel
theorem d_law_271 : decode code 271 = .ok (.iload_n 3, 1) := by decide +kernel
theorem d_law_272 : decode code 272 = .ok (.iconst 1, 1) := by decide +kernel
theorem d_law_273 : decode code 273 = .ok (.iadd, 1) := by decide +kernel
theorem d_law_274 : decode code 274 = .ok (.iaload, 1) := by decide +kernel
theorem d_law_275 : decode code 275 = .ok (.aload_n 0, 1) := by decide +kernel
theorem d_law_276 : decode code 276 = .ok (.iload_n 3, 1) := by decide +kernel
theorem d_law_277 : decode code 277 = .ok (.iconst 2, 1) := by decide +kernel
theorem d_law_278 : decode code 278 = .ok (.iadd, 1) := by decide +kernel
theorem d_law_279 : decode code 279 = .ok (.iaload, 1) := by decide +kernel
theorem d_law_280 : decode code 280 = .ok (.invokevirtual 39, 3) := by decide +kernel
theorem d_law_283 : decode code 283 = .ok (.if_icmp .eq 301, 3) := by decide +kernel
theorem d_law_286 : decode code 286 = .ok (.iconst 0, 1) := by decide +kernel
theorem d_law_287 : decode code 287 = .ok (.ireturn, 1) := by decide +kernel
theorem d_law_288 : decode code 288 = .ok (.aload_n 1, 1) := by decide +kernel
theorem d_law_289 : decode code 289 = .ok (.invokevirtual 40, 3) := by decide +kernel
theorem d_law_292 : decode code 292 = .ok (.aload_n 2, 1) := by decide +kernel
theorem d_law_293 : decode code 293 = .ok (.invokevirtual 43, 3) := by decide +kernel
theorem d_law_296 : decode code 296 = .ok (.if_icmp .eq 288, 3) := by decide +kernel
theorem d_law_299 : decode code 299 = .ok (.iconst 0, 1) := by decide +kernel
theorem d_law_300 : decode code 300 = .ok (.ireturn, 1) := by decide +kernel
theorem d_law_301 : decode code 301 = .ok (.aload_n 1, 1) := by decide +kernel
theorem d_law_302 : decode code 302 = .ok (.aload_n 0, 1) := by decide +kernel
theorem d_law_303 : decode code 303 = .ok (.iload_n 3, 1) := by decide +kernel
theorem d_law_304 : decode code 304 = .ok (.iconst 1, 1) := by decide +kernel
theorem d_law_305 : decode code 305 = .ok (.iadd, 1) := by decide +kernel
theorem d_law_306 : decode code 306 = .ok (.iaload, 1) := by decide +kernel
theorem d_law_307 : decode code 307 = .ok (.invokevirtual 44, 3) := by decide +kernel
theorem d_law_310 : decode code 310 = .ok (.aload_n 2, 1) := by decide +kernel
theorem d_law_311 : decode code 311 = .ok (.aload_n 0, 1) := by decide +kernel
theorem d_law_312 : decode code 312 = .ok (.iload_n 3, 1) := by decide +kernel
theorem d_law_313 : decode code 313 = .ok (.iconst 1, 1) := by decide +kernel
theorem d_law_314 : decode code 314 = .ok (.iadd, 1) := by decide +kernel
theorem d_law_315 : decode code 315 = .ok (.iaload, 1) := by decide +kernel
theorem d_law_316 : decode code 316 = .ok (.invokevirtual 47, 3) := by decide +kernel
theorem d_law_319 : decode code 319 = .ok (.if_icmp .eq 265, 3) := by decide +kernel
theorem d_law_322 : decode code 322 = .ok (.iconst 0, 1) := by decide +kernel
theorem d_law_323 : decode code 323 = .ok (.ireturn, 1) := by decide +kernel
theorem d_law_324 : decode code 324 = .ok (.aload_n 1, 1) := by decide +kernel
theorem d_law_325 : decode code 325 = .ok (.aload_n 0, 1) := by decide +kernel
theorem d_law_326 : decode code 326 = .ok (.iload_n 3, 1) := by decide +kernel
theorem d_law_327 : decode code 327 = .ok (.iconst 1, 1) := by decide +kernel
theorem d_law_328 : decode code 328 = .ok (.iadd, 1) := by decide +kernel
theorem d_law_329 : decode code 329 = .ok (.iaload, 1) := by decide +kernel
theorem d_law_330 : decode code 330 = .ok (.invokevirtual 48, 3) := by decide +kernel
theorem d_law_333 : decode code 333 = .ok (.aload_n 2, 1) := by decide +kernel
theorem d_law_334 : decode code 334 = .ok (.aload_n 0, 1) := by decide +kernel
theorem d_law_335 : decode code 335 = .ok (.iload_n 3, 1) := by decide +kernel
theorem d_law_336 : decode code 336 = .ok (.iconst 1, 1) := by decide +kernel
theorem d_law_337 : decode code 337 = .ok (.iadd, 1) := by decide +kernel
theorem d_law_338 : decode code 338 = .ok (.iaload, 1) := by decide +kernel
theorem d_law_339 : decode code 339 = .ok (.invokevirtual 51, 3) := by decide +kernel
theorem d_law_342 : decode code 342 = .ok (.if_icmp .eq 242, 3) := by decide +kernel
theorem d_law_345 : decode code 345 = .ok (.iconst 0, 1) := by decide +kernel
theorem d_law_346 : decode code 346 = .ok (.ireturn, 1) := by decide +kernel
theorem d_law_347 : decode code 347 = .ok (.aload_n 1, 1) := by decide +kernel
theorem d_law_348 : decode code 348 = .ok (.aload_n 0, 1) := by decide +kernel
theorem d_law_349 : decode code 349 = .ok (.iload_n 3, 1) := by decide +kernel
theorem d_law_350 : decode code 350 = .ok (.iconst 1, 1) := by decide +kernel
theorem d_law_351 : decode code 351 = .ok (.iadd, 1) := by decide +kernel
theorem d_law_352 : decode code 352 = .ok (.iaload, 1) := by decide +kernel
theorem d_law_353 : decode code 353 = .ok (.invokevirtual 52, 3) := by decide +kernel
theorem d_law_356 : decode code 356 = .ok (.aload_n 2, 1) := by decide +kernel
theorem d_law_357 : decode code 357 = .ok (.aload_n 0, 1) := by decide +kernel
theorem d_law_358 : decode code 358 = .ok (.iload_n 3, 1) := by decide +kernel
theorem d_law_359 : decode code 359 = .ok (.iconst 1, 1) := by decide +kernel
theorem d_law_360 : decode code 360 = .ok (.iadd, 1) := by decide +kernel
theorem d_law_361 : decode code 361 = .ok (.iaload, 1) := by decide +kernel
theorem d_law_362 : decode code 362 = .ok (.invokevirtual 55, 3) := by decide +kernel
theorem d_law_365 : decode code 365 = .ok (.if_icmp .eq 219, 3) := by decide +kernel
theorem d_law_368 : decode code 368 = .ok (.iconst 0, 1) := by decide +kernel
theorem d_law_369 : decode code 369 = .ok (.ireturn, 1) := by decide +kernel
theorem d_law_370 : decode code 370 = .ok (.aload_n 1, 1) := by decide +kernel
theorem d_law_371 : decode code 371 = .ok (.aload_n 0, 1) := by decide +kernel
theorem d_law_372 : decode code 372 = .ok (.iload_n 3, 1) := by decide +kernel
theorem d_law_373 : decode code 373 = .ok (.iconst 1, 1) := by decide +kernel
theorem d_law_374 : decode code 374 = .ok (.iadd, 1) := by decide +kernel
theorem d_law_375 : decode code 375 = .ok (.iaload, 1) := by decide +kernel
theorem d_law_376 : decode code 376 = .ok (.aload_n 0, 1) := by decide +kernel
theorem d_law_377 : decode code 377 = .ok (.iload_n 3, 1) := by decide +kernel
theorem d_law_378 : decode code 378 = .ok (.iconst 2, 1) := by decide +kernel
theorem d_law_379 : decode code 379 = .ok (.iadd, 1) := by decide +kernel
theorem d_law_380 : decode code 380 = .ok (.iaload, 1) := by decide +kernel
theorem d_law_381 : decode code 381 = .ok (.aload_n 0, 1) := by decide +kernel
theorem d_law_382 : decode code 382 = .ok (.iload_n 3, 1) := by decide +kernel
theorem d_law_383 : decode code 383 = .ok (.iconst 3, 1) := by decide +kernel
theorem d_law_384 : decode code 384 = .ok (.iadd, 1) := by decide +kernel
theorem d_law_385 : decode code 385 = .ok (.iaload, 1) := by decide +kernel
theorem d_law_386 : decode code 386 = .ok (.invokevirtual 56, 3) := by decide +kernel
theorem d_law_389 : decode code 389 = .ok (.aload_n 2, 1) := by decide +kernel
theorem d_law_390 : decode code 390 = .ok (.aload_n 0, 1) := by decide +kernel
theorem d_law_391 : decode code 391 = .ok (.iload_n 3, 1) := by decide +kernel
theorem d_law_392 : decode code 392 = .ok (.iconst 1, 1) := by decide +kernel
theorem d_law_393 : decode code 393 = .ok (.iadd, 1) := by decide +kernel
theorem d_law_394 : decode code 394 = .ok (.iaload, 1) := by decide +kernel
theorem d_law_395 : decode code 395 = .ok (.aload_n 0, 1) := by decide +kernel
theorem d_law_396 : decode code 396 = .ok (.iload_n 3, 1) := by decide +kernel
theorem d_law_397 : decode code 397 = .ok (.iconst 2, 1) := by decide +kernel
theorem d_law_398 : decode code 398 = .ok (.iadd, 1) := by decide +kernel
theorem d_law_399 : decode code 399 = .ok (.iaload, 1) := by decide +kernel
theorem d_law_400 : decode code 400 = .ok (.aload_n 0, 1) := by decide +kernel
theorem d_law_401 : decode code 401 = .ok (.iload_n 3, 1) := by decide +kernel
theorem d_law_402 : decode code 402 = .ok (.iconst 3, 1) := by decide +kernel
theorem d_law_403 : decode code 403 = .ok (.iadd, 1) := by decide +kernel
theorem d_law_404 : decode code 404 = .ok (.iaload, 1) := by decide +kernel
theorem d_law_405 : decode code 405 = .ok (.invokevirtual 60, 3) := by decide +kernel
theorem d_law_408 : decode code 408 = .ok (.if_icmp .eq 176, 3) := by decide +kernel
theorem d_law_411 : decode code 411 = .ok (.iconst 0, 1) := by decide +kernel
theorem d_law_412 : decode code 412 = .ok (.ireturn, 1) := by decide +kernel
theorem d_law_413 : decode code 413 = .ok (.aload_n 1, 1) := by decide +kernel
theorem d_law_414 : decode code 414 = .ok (.aload_n 0, 1) := by decide +kernel
theorem d_law_415 : decode code 415 = .ok (.iload_n 3, 1) := by decide +kernel
theorem d_law_416 : decode code 416 = .ok (.iconst 1, 1) := by decide +kernel
theorem d_law_417 : decode code 417 = .ok (.iadd, 1) := by decide +kernel
theorem d_law_418 : decode code 418 = .ok (.iaload, 1) := by decide +kernel
theorem d_law_419 : decode code 419 = .ok (.aload_n 0, 1) := by decide +kernel
theorem d_law_420 : decode code 420 = .ok (.iload_n 3, 1) := by decide +kernel
theorem d_law_421 : decode code 421 = .ok (.iconst 2, 1) := by decide +kernel
theorem d_law_422 : decode code 422 = .ok (.iadd, 1) := by decide +kernel
theorem d_law_423 : decode code 423 = .ok (.iaload, 1) := by decide +kernel
theorem d_law_424 : decode code 424 = .ok (.invokevirtual 61, 3) := by decide +kernel
theorem d_law_427 : decode code 427 = .ok (.aload_n 2, 1) := by decide +kernel
theorem d_law_428 : decode code 428 = .ok (.aload_n 0, 1) := by decide +kernel
theorem d_law_429 : decode code 429 = .ok (.iload_n 3, 1) := by decide +kernel
theorem d_law_430 : decode code 430 = .ok (.iconst 1, 1) := by decide +kernel
theorem d_law_431 : decode code 431 = .ok (.iadd, 1) := by decide +kernel
theorem d_law_432 : decode code 432 = .ok (.iaload, 1) := by decide +kernel
theorem d_law_433 : decode code 433 = .ok (.aload_n 0, 1) := by decide +kernel
theorem d_law_434 : decode code 434 = .ok (.iload_n 3, 1) := by decide +kernel
theorem d_law_435 : decode code 435 = .ok (.iconst 2, 1) := by decide +kernel
theorem d_law_436 : decode code 436 = .ok (.iadd, 1) := by decide +kernel
theorem d_law_437 : decode code 437 = .ok (.iaload, 1) := by decide +kernel
theorem d_law_438 : decode code 438 = .ok (.invokevirtual 64, 3) := by decide +kernel
theorem d_law_441 : decode code 441 = .ok (.if_icmp .eq 143, 3) := by decide +kernel
theorem d_law_444 : decode code 444 = .ok (.iconst 0, 1) := by decide +kernel
theorem d_law_445 : decode code 445 = .ok (.ireturn, 1) := by decide +kernel
theorem d_law_446 : decode code 446 = .ok (.aload_n 1, 1) := by decide +kernel
theorem d_law_447 : decode code 447 = .ok (.aload_n 0, 1) := by decide +kernel
theorem d_law_448 : decode code 448 = .ok (.iload_n 3, 1) := by decide +kernel
theorem d_law_449 : decode code 449 = .ok (.iconst 1, 1) := by decide +kernel
theorem d_law_450 : decode code 450 = .ok (.iadd, 1) := by decide +kernel
theorem d_law_451 : decode code 451 = .ok (.iaload, 1) := by decide +kernel
theorem d_law_452 : decode code 452 = .ok (.invokevirtual 65, 3) := by decide +kernel
theorem d_law_455 : decode code 455 = .ok (.aload_n 2, 1) := by decide +kernel
theorem d_law_456 : decode code 456 = .ok (.aload_n 0, 1) := by decide +kernel
theorem d_law_457 : decode code 457 = .ok (.iload_n 3, 1) := by decide +kernel
theorem d_law_458 : decode code 458 = .ok (.iconst 1, 1) := by decide +kernel
theorem d_law_459 : decode code 459 = .ok (.iadd, 1) := by decide +kernel
theorem d_law_460 : decode code 460 = .ok (.iaload, 1) := by decide +kernel
theorem d_law_461 : decode code 461 = .ok (.invokevirtual 68, 3) := by decide +kernel
theorem d_law_464 : decode code 464 = .ok (.if_icmp .eq 120, 3) := by decide +kernel
theorem d_law_467 : decode code 467 = .ok (.iconst 0, 1) := by decide +kernel
theorem d_law_468 : decode code 468 = .ok (.ireturn, 1) := by decide +kernel
theorem d_law_469 : decode code 469 = .ok (.aload_n 1, 1) := by decide +kernel
theorem d_law_470 : decode code 470 = .ok (.aload_n 0, 1) := by decide +kernel
theorem d_law_471 : decode code 471 = .ok (.iload_n 3, 1) := by decide +kernel
theorem d_law_472 : decode code 472 = .ok (.iconst 1, 1) := by decide +kernel
theorem d_law_473 : decode code 473 = .ok (.iadd, 1) := by decide +kernel
theorem d_law_474 : decode code 474 = .ok (.iaload, 1) := by decide +kernel
theorem d_law_475 : decode code 475 = .ok (.invokevirtual 69, 3) := by decide +kernel
theorem d_law_478 : decode code 478 = .ok (.aload_n 2, 1) := by decide +kernel
theorem d_law_479 : decode code 479 = .ok (.aload_n 0, 1) := by decide +kernel
theorem d_law_480 : decode code 480 = .ok (.iload_n 3, 1) := by decide +kernel
theorem d_law_481 : decode code 481 = .ok (.iconst 1, 1) := by decide +kernel
theorem d_law_482 : decode code 482 = .ok (.iadd, 1) := by decide +kernel
theorem d_law_483 : decode code 483 = .ok (.iaload, 1) := by decide +kernel
theorem d_law_484 : decode code 484 = .ok (.invokevirtual 72, 3) := by decide +kernel
theorem d_law_487 : decode code 487 = .ok (.if_icmp .eq 97, 3) := by decide +kernel
theorem d_law_490 : decode code 490 = .ok (.iconst 0, 1) := by decide +kernel
theorem d_law_491 : decode code 491 = .ok (.ireturn, 1) := by decide +kernel
theorem d_law_492 : decode code 492 = .ok (.aload_n 1, 1) := by decide +kernel
theorem d_law_493 : decode code 493 = .ok (.aload_n 0, 1) := by decide +kernel
theorem d_law_494 : decode code 494 = .ok (.iload_n 3, 1) := by decide +kernel
theorem d_law_495 : decode code 495 = .ok (.iconst 1, 1) := by decide +kernel
theorem d_law_496 : decode code 496 = .ok (.iadd, 1) := by decide +kernel
theorem d_law_497 : decode code 497 = .ok (.iaload, 1) := by decide +kernel
theorem d_law_498 : decode code 498 = .ok (.invokevirtual 73, 3) := by decide +kernel
theorem d_law_501 : decode code 501 = .ok (.aload_n 2, 1) := by decide +kernel
theorem d_law_502 : decode code 502 = .ok (.aload_n 0, 1) := by decide +kernel
theorem d_law_503 : decode code 503 = .ok (.iload_n 3, 1) := by decide +kernel
theorem d_law_504 : decode code 504 = .ok (.iconst 1, 1) := by decide +kernel
theorem d_law_505 : decode code 505 = .ok (.iadd, 1) := by decide +kernel
theorem d_law_506 : decode code 506 = .ok (.iaload, 1) := by decide +kernel
theorem d_law_507 : decode code 507 = .ok (.invokevirtual 76, 3) := by decide +kernel
theorem d_law_510 : decode code 510 = .ok (.if_icmp .eq 74, 3) := by decide +kernel
theorem d_law_513 : decode code 513 = .ok (.iconst 0, 1) := by decide +kernel
theorem d_law_514 : decode code 514 = .ok (.ireturn, 1) := by decide +kernel
theorem d_law_515 : decode code 515 = .ok (.aload_n 1, 1) := by decide +kernel
theorem d_law_516 : decode code 516 = .ok (.aload_n 0, 1) := by decide +kernel
theorem d_law_517 : decode code 517 = .ok (.iload_n 3, 1) := by decide +kernel
theorem d_law_518 : decode code 518 = .ok (.iconst 1, 1) := by decide +kernel
theorem d_law_519 : decode code 519 = .ok (.iadd, 1) := by decide +kernel
theorem d_law_520 : decode code 520 = .ok (.iaload, 1) := by decide +kernel
theorem d_law_521 : decode code 521 = .ok (.aload_n 0, 1) := by decide +kernel
theorem d_law_522 : decode code 522 = .ok (.iload_n 3, 1) := by decide +kernel
theorem d_law_523 : decode code 523 = .ok (.iconst 2, 1) := by decide +kernel
theorem d_law_524 : decode code 524 = .ok (.iadd, 1) := by decide +kernel
theorem d_law_525 : decode code 525 = .ok (.iaload, 1) := by decide +kernel
theorem d_law_526 : decode code 526 = .ok (.invokevirtual 77, 3) := by decide +kernel
theorem d_law_529 : decode code 529 = .ok (.aload_n 2, 1) := by decide +kernel
theorem d_law_530 : decode code 530 = .ok (.aload_n 0, 1) := by decide +kernel
theorem d_law_531 : decode code 531 = .ok (.iload_n 3, 1) := by decide +kernel
theorem d_law_532 : decode code 532 = .ok (.iconst 1, 1) := by decide +kernel
theorem d_law_533 : decode code 533 = .ok (.iadd, 1) := by decide +kernel
theorem d_law_534 : decode code 534 = .ok (.iaload, 1) := by decide +kernel
theorem d_law_535 : decode code 535 = .ok (.aload_n 0, 1) := by decide +kernel
theorem d_law_536 : decode code 536 = .ok (.iload_n 3, 1) := by decide +kernel
theorem d_law_537 : decode code 537 = .ok (.iconst 2, 1) := by decide +kernel
theorem d_law_538 : decode code 538 = .ok (.iadd, 1) := by decide +kernel
theorem d_law_539 : decode code 539 = .ok (.iaload, 1) := by decide +kernel
theorem d_law_540 : decode code 540 = .ok (.invokevirtual 80, 3) := by decide +kernel
theorem d_law_543 : decode code 543 = .ok (.if_icmp .eq 41, 3) := by decide +kernel
theorem d_law_546 : decode code 546 = .ok (.iconst 0, 1) := by decide +kernel
theorem d_law_547 : decode code 547 = .ok (.ireturn, 1) := by decide +kernel
theorem d_law_548 : decode code 548 = .ok (.aload_n 1, 1) := by decide +kernel
theorem d_law_549 : decode code 549 = .ok (.invokevirtual 81, 3) := by decide +kernel
theorem d_law_552 : decode code 552 = .ok (.aload_n 2, 1) := by decide +kernel
theorem d_law_553 : decode code 553 = .ok (.invokevirtual 84, 3) := by decide +kernel
theorem d_law_556 : decode code 556 = .ok (.if_icmp .eq 28, 3) := by decide +kernel
theorem d_law_559 : decode code 559 = .ok (.iconst 0, 1) := by decide +kernel
theorem d_law_560 : decode code 560 = .ok (.ireturn, 1) := by decide +kernel
theorem d_law_561 : decode code 561 = .ok (.aload_n 1, 1) := by decide +kernel
theorem d_law_562 : decode code 562 = .ok (.aload_n 0, 1) := by decide +kernel
theorem d_law_563 : decode code 563 = .ok (.iload_n 3, 1) := by decide +kernel
theorem d_law_564 : decode code 564 = .ok (.iconst 1, 1) := by decide +kernel
theorem d_law_565 : decode code 565 = .ok (.iadd, 1) := by decide +kernel
theorem d_law_566 : decode code 566 = .ok (.iaload, 1) := by decide +kernel
theorem d_law_567 : decode code 567 = .ok (.invokevirtual 85, 3) := by decide +kernel
theorem d_law_570 : decode code 570 = .ok (.aload_n 2, 1) := by decide +kernel
theorem d_law_571 : decode code 571 = .ok (.aload_n 0, 1) := by decide +kernel
theorem d_law_572 : decode code 572 = .ok (.iload_n 3, 1) := by decide +kernel
theorem d_law_573 : decode code 573 = .ok (.iconst 1, 1) := by decide +kernel
theorem d_law_574 : decode code 574 = .ok (.iadd, 1) := by decide +kernel
theorem d_law_575 : decode code 575 = .ok (.iaload, 1) := by decide +kernel
theorem d_law_576 : decode code 576 = .ok (.invokevirtual 88, 3) := by decide +kernel
theorem d_law_579 : decode code 579 = .ok (.if_icmp .eq 5, 3) := by decide +kernel
theorem d_law_582 : decode code 582 = .ok (.iconst 0, 1) := by decide +kernel
theorem d_law_583 : decode code 583 = .ok (.ireturn, 1) := by decide +kernel
theorem d_law_584 : decode code 584 = .ok (.iinc 3 4, 3) := by decide +kernel
theorem d_law_587 : decode code 587 = .ok (.goto (-569), 3) := by decide +kernel
theorem d_law_590 : decode code 590 = .ok (.iconst 1, 1) := by decide +kernel
theorem d_law_591 : decode code 591 = .ok (.ireturn, 1) := by decide +kernel
end
section
/-! ===== THE PLAIN LAW: certainties as least solutions, level by level; no program in sight ===== -/
def ch_up (v : Nat → Nat) (k x : Nat) : Nat → Nat := fun j => if j = k then x else v j
theorem ch_up_s {v : Nat → Nat} {k x : Nat} : ch_up v k x k = x := if_pos rfl
theorem ch_up_n {v : Nat → Nat} {k x j : Nat} (h : j ≠ k) : ch_up v k x j = v j := if_neg h
def ch_bd (B : Nat) (v : Nat → Nat) : Prop := ∀ j, v j ≤ B
theorem ch_bd_up {B : Nat} {v : Nat → Nat} {k x : Nat} (h : ch_bd B v) (hx : x ≤ B) : ch_bd B (ch_up v k x) := by
  intro j
  by_cases e : j = k
  · rw [e, ch_up_s]; exact hx
  · rw [ch_up_n e]; exact h j
/-- a premise's value -/
def ch_pv (pt ng v : Nat → Nat) (j : Nat) : Nat := if ng j = 0 then v (pt j) else 100 - v (pt j)
/-- the least of 100 and the first k premises' values -/
def ch_wl (pt ng v : Nat → Nat) (b : Nat) : Nat → Nat
  | 0 => 100
  | k + 1 => if ch_pv pt ng v (b + k) < ch_wl pt ng v b k then ch_pv pt ng v (b + k) else ch_wl pt ng v b k
/-- what rule r is worth -/
def ch_wor (st sz pt ng : Nat → Nat) (v : Nat → Nat) (r : Nat) : Nat := ch_wl pt ng v (3 * r) (sz r) * st r / 100
theorem ch_wl_100 (pt ng v : Nat → Nat) (b : Nat) : ∀ k, ch_wl pt ng v b k ≤ 100
  | 0 => Nat.le_refl _
  | k + 1 => by
    have ih := ch_wl_100 pt ng v b k
    show (if _ then _ else _) ≤ 100
    split <;> omega
theorem ch_wl_le (pt ng v : Nat → Nat) (b : Nat) : ∀ k j, j < k → ch_wl pt ng v b k ≤ ch_pv pt ng v (b + j)
  | 0, j, h => absurd h (Nat.not_lt_zero _)
  | k + 1, j, h => by
    show (if _ then _ else _) ≤ _
    by_cases e : j = k
    · subst e
      split <;> omega
    · have ih := ch_wl_le pt ng v b k j (by omega)
      split <;> omega
theorem ch_wl_mono {pt ng v pt' ng' u : Nat → Nat} {b : Nat} : ∀ k, (∀ j, j < k → ch_pv pt ng v (b + j) ≤ ch_pv pt' ng' u (b + j)) → ch_wl pt ng v b k ≤ ch_wl pt' ng' u b k
  | 0, _ => Nat.le_refl _
  | k + 1, h => by
    have ih := ch_wl_mono k (fun j hj => h j (by omega))
    have hk := h k (by omega)
    show (if _ then _ else _) ≤ (if _ then _ else _)
    split <;> split <;> omega
theorem ch_div_le {a s : Nat} (hs : s ≤ 100) : a * s / 100 ≤ a := by
  apply Nat.div_le_of_le_mul
  rw [Nat.mul_comm 100 a]
  exact Nat.mul_le_mul_left a hs
theorem ch_wor_pv {st sz pt ng v : Nat → Nat} {r j : Nat} (hs : st r ≤ 100) (hj : j < sz r) : ch_wor st sz pt ng v r ≤ ch_pv pt ng v (3 * r + j) :=
  Nat.le_trans (ch_div_le hs) (ch_wl_le pt ng v (3 * r) (sz r) j hj)
theorem ch_wor_100 {st sz pt ng v : Nat → Nat} {r : Nat} (hs : st r ≤ 100) : ch_wor st sz pt ng v r ≤ 100 :=
  Nat.le_trans (ch_div_le hs) (ch_wl_100 pt ng v (3 * r) (sz r))
theorem ch_wor_mono {st sz pt ng v pt' ng' u : Nat → Nat} {r : Nat} (h : ∀ j, j < sz r → ch_pv pt ng v (3 * r + j) ≤ ch_pv pt' ng' u (3 * r + j)) : ch_wor st sz pt ng v r ≤ ch_wor st sz pt' ng' u r :=
  Nat.div_le_div_right (Nat.mul_le_mul_right _ (ch_wl_mono (sz r) h))
theorem ch_wor_eq {st sz pt ng v pt' ng' u : Nat → Nat} {r : Nat} (h : ∀ j, j < sz r → ch_pv pt ng v (3 * r + j) = ch_pv pt' ng' u (3 * r + j)) : ch_wor st sz pt ng v r = ch_wor st sz pt' ng' u r :=
  Nat.le_antisymm (ch_wor_mono fun j hj => Nat.le_of_eq (h j hj)) (ch_wor_mono fun j hj => Nat.le_of_eq (h j hj).symm)
/-- the rules' levels: a premise's level is at most the head's, a negated one's is lower -/
def ch_ok (hd sz pt ng : Nat → Nat) (cn : Nat) : Prop := ∀ r, r < cn → ∀ k, k < sz r → pt (3 * r + k) / 4 ≤ hd r / 4 ∧ (ng (3 * r + k) ≠ 0 → pt (3 * r + k) / 4 < hd r / 4)
theorem ch_pv_mono {hd sz pt ng u v : Nat → Nat} {cn r k : Nat} (hok : ch_ok hd sz pt ng cn) (hr : r < cn) (hk : k < sz r) (hlo : ∀ c, c / 4 < hd r / 4 → u c = v c) (heq : ∀ c, c / 4 = hd r / 4 → v c ≤ u c) : ch_pv pt ng v (3 * r + k) ≤ ch_pv pt ng u (3 * r + k) := by
  obtain ⟨h1, h2⟩ := hok r hr k hk
  unfold ch_pv
  by_cases hn : ng (3 * r + k) = 0
  · rw [if_pos hn, if_pos hn]
    by_cases e : pt (3 * r + k) / 4 = hd r / 4
    · exact heq _ e
    · exact Nat.le_of_eq (hlo _ (by omega)).symm
  · rw [if_neg hn, if_neg hn, hlo _ (h2 hn)]
    exact Nat.le_refl _
theorem ch_wor_lvl {st hd sz pt ng u v : Nat → Nat} {cn r : Nat} (hok : ch_ok hd sz pt ng cn) (hr : r < cn) (hlo : ∀ c, c / 4 < hd r / 4 → u c = v c) (heq : ∀ c, c / 4 = hd r / 4 → v c ≤ u c) : ch_wor st sz pt ng v r ≤ ch_wor st sz pt ng u r :=
  ch_wor_mono fun _ hj => ch_pv_mono hok hr hj hlo heq
theorem ch_wor_same {st hd sz pt ng u v : Nat → Nat} {cn r : Nat} (hok : ch_ok hd sz pt ng cn) (hr : r < cn) (h : ∀ c, c / 4 ≤ hd r / 4 → u c = v c) : ch_wor st sz pt ng u r = ch_wor st sz pt ng v r := by
  apply ch_wor_eq
  intro j hj
  have h1 := (hok r hr j hj).1
  unfold ch_pv
  rw [h _ h1]
/-- a valuation is closed at level L -/
def ch_Pre (wo : (Nat → Nat) → Nat → Nat) (hd : Nat → Nat) (cn : Nat) (se : Nat → Nat) (sk : Int32) (L : Nat) (U : Nat → Nat) : Prop :=
  (∀ c, c / 4 = L → se c ≤ U c) ∧ ∀ r, r < cn → nI r ≠ sk → hd r / 4 = L → wo U r ≤ U (hd r)
/-- and is the least such, over what lies below -/
def ch_Lst (wo : (Nat → Nat) → Nat → Nat) (hd : Nat → Nat) (cn : Nat) (se : Nat → Nat) (sk : Int32) (L : Nat) (V : Nat → Nat) : Prop :=
  ∀ U : Nat → Nat, (∀ c, c / 4 < L → U c = V c) → ch_Pre wo hd cn se sk L U → ∀ c, c / 4 = L → V c ≤ U c
def ch_Sol (wo : (Nat → Nat) → Nat → Nat) (hd : Nat → Nat) (cn : Nat) (se : Nat → Nat) (sk : Int32) (V : Nat → Nat) : Prop :=
  ∀ L, L < 4 → ch_Pre wo hd cn se sk L V ∧ ch_Lst wo hd cn se sk L V
theorem ch_Sol_uniq {wo : (Nat → Nat) → Nat → Nat} {hd : Nat → Nat} {cn : Nat} {se : Nat → Nat} {sk : Int32} {V V' : Nat → Nat} (h1 : ch_Sol wo hd cn se sk V) (h2 : ch_Sol wo hd cn se sk V') : ∀ c, c < 16 → V c = V' c := by
  have key : ∀ L, L ≤ 4 → ∀ c, c / 4 < L → V c = V' c := by
    intro L
    induction L with
    | zero => intro _ c h; omega
    | succ L ih =>
      intro hL c hc
      have ih := ih (by omega)
      by_cases h : c / 4 < L
      · exact ih c h
      · have e : c / 4 = L := by omega
        exact Nat.le_antisymm ((h1 L (by omega)).2 V' (fun c hc => (ih c hc).symm) (h2 L (by omega)).1 c e) ((h2 L (by omega)).2 V (fun c hc => ih c hc) (h1 L (by omega)).1 c e)
  intro c hc
  exact key 4 (Nat.le_refl _) c (by omega)
theorem ch_Pre_cg {wo wo' : (Nat → Nat) → Nat → Nat} {hd : Nat → Nat} {cn : Nat} {se se' : Nat → Nat} {sk : Int32} {L : Nat} {U : Nat → Nat} (hL : L < 4) (hw : ∀ U r, r < cn → wo U r = wo' U r) (hs : ∀ c, c < 16 → se c = se' c) (h : ch_Pre wo hd cn se sk L U) : ch_Pre wo' hd cn se' sk L U :=
  ⟨fun c hc => by rw [← hs c (by omega)]; exact h.1 c hc, fun r hr hk hl => by rw [← hw U r hr]; exact h.2 r hr hk hl⟩
theorem ch_Sol_cg {wo wo' : (Nat → Nat) → Nat → Nat} {hd : Nat → Nat} {cn : Nat} {se se' : Nat → Nat} {sk : Int32} {V : Nat → Nat} (hw : ∀ U r, r < cn → wo U r = wo' U r) (hs : ∀ c, c < 16 → se c = se' c) (h : ch_Sol wo hd cn se sk V) : ch_Sol wo' hd cn se' sk V :=
  fun L hL => ⟨ch_Pre_cg hL hw hs (h L hL).1, fun U hU hp => (h L hL).2 U hU (ch_Pre_cg hL (fun U r hr => (hw U r hr).symm) (fun c hc => (hs c hc).symm) hp)⟩
section EX
variable {st sz pt ng hd se : Nat → Nat} {cn : Nat} {sk : Int32}
/-- closed and least at a level stay, if nothing changes up to it -/
theorem ch_keep {L : Nat} {V V' : Nat → Nat} (hok : ch_ok hd sz pt ng cn) (he : ∀ c, c / 4 ≤ L → V' c = V c) (h : ch_Pre (ch_wor st sz pt ng) hd cn se sk L V ∧ ch_Lst (ch_wor st sz pt ng) hd cn se sk L V) : ch_Pre (ch_wor st sz pt ng) hd cn se sk L V' ∧ ch_Lst (ch_wor st sz pt ng) hd cn se sk L V' := by
  refine ⟨⟨fun c hc => ?_, fun r hr hk hl => ?_⟩, fun U hU hp c hc => ?_⟩
  · rw [he c (by omega)]; exact h.1.1 c hc
  · rw [he (hd r) (by omega), ch_wor_same (v := V) hok hr (fun c hc => he c (by omega))]
    exact h.1.2 r hr hk hl
  · rw [he c (by omega)]
    exact h.2 U (fun d hd => by rw [hU d hd, he d (by omega)]) hp c hc
theorem ch_Sol_ex (hok : ch_ok hd sz pt ng cn) (hst : ch_bd 100 st) (hse : ch_bd 100 se) : ∃ V, ch_Sol (ch_wor st sz pt ng) hd cn se sk V ∧ ch_bd 100 V := by
  have key : ∀ L, ∃ V, (∀ M, M < L → ch_Pre (ch_wor st sz pt ng) hd cn se sk M V ∧ ch_Lst (ch_wor st sz pt ng) hd cn se sk M V) ∧ ch_bd 100 V := by
    intro L
    induction L with
    | zero => exact ⟨fun _ => 0, fun M h => absurd h (Nat.not_lt_zero _), fun _ => Nat.zero_le _⟩
    | succ L ih =>
      obtain ⟨V, hV, hb⟩ := ih
      have hU0 : ch_Pre (ch_wor st sz pt ng) hd cn se sk L (fun c => if c / 4 = L then 100 else V c) := by
        refine ⟨fun c hc => ?_, fun r hr hk hl => ?_⟩
        · show se c ≤ if c / 4 = L then 100 else V c
          rw [if_pos hc]; exact hse c
        · show _ ≤ if hd r / 4 = L then 100 else V (hd r)
          rw [if_pos hl]; exact ch_wor_100 (hst r)
      have hmin : ∀ c, ∃ n, (c / 4 = L → (∃ U, (∀ d, d / 4 < L → U d = V d) ∧ ch_Pre (ch_wor st sz pt ng) hd cn se sk L U ∧ U c = n) ∧ ∀ U, (∀ d, d / 4 < L → U d = V d) → ch_Pre (ch_wor st sz pt ng) hd cn se sk L U → n ≤ U c) ∧ (c / 4 ≠ L → n = V c) := by
        intro c
        by_cases hc : c / 4 = L
        · obtain ⟨n, ⟨U, h1, h2, h3⟩, hn⟩ := pk_least (fun n => ∃ U, (∀ d, d / 4 < L → U d = V d) ∧ ch_Pre (ch_wor st sz pt ng) hd cn se sk L U ∧ U c = n) ⟨_, _, fun d hd => by show (if d / 4 = L then 100 else V d) = V d; rw [if_neg (by omega)], hU0, rfl⟩
          refine ⟨n, fun _ => ⟨⟨U, h1, h2, h3⟩, fun U' a b => ?_⟩, fun h => absurd hc h⟩
          rcases Nat.lt_or_ge (U' c) n with q | q
          · exact absurd ⟨U', a, b, rfl⟩ (hn _ q)
          · exact q
        · exact ⟨V c, fun h => absurd h hc, fun _ => rfl⟩
      obtain ⟨V', hV'⟩ : ∃ V' : Nat → Nat, ∀ c, (c / 4 = L → (∃ U, (∀ d, d / 4 < L → U d = V d) ∧ ch_Pre (ch_wor st sz pt ng) hd cn se sk L U ∧ U c = V' c) ∧ ∀ U, (∀ d, d / 4 < L → U d = V d) → ch_Pre (ch_wor st sz pt ng) hd cn se sk L U → V' c ≤ U c) ∧ (c / 4 ≠ L → V' c = V c) := ⟨fun c => Classical.choose (hmin c), fun c => Classical.choose_spec (hmin c)⟩
      refine ⟨V', fun M hM => ?_, fun c => ?_⟩
      · by_cases e : M = L
        · subst e
          refine ⟨⟨fun c hc => ?_, fun r hr hk hl => ?_⟩, fun U hU hp c hc => ?_⟩
          · obtain ⟨⟨U, h1, h2, h3⟩, -⟩ := (hV' c).1 hc
            rw [← h3]; exact h2.1 c hc
          · obtain ⟨⟨U, h1, h2, h3⟩, -⟩ := (hV' (hd r)).1 hl
            rw [← h3]
            refine Nat.le_trans (ch_wor_lvl (u := U) (v := V') hok hr (fun c hc => ?_) (fun c hc => ?_)) (h2.2 r hr hk hl)
            · rw [h1 c (by omega), (hV' c).2 (by omega)]
            · exact ((hV' c).1 (by omega)).2 U h1 h2
          · exact ((hV' c).1 hc).2 U (fun d hd => by rw [hU d hd, (hV' d).2 (by omega)]) hp
        · exact ch_keep hok (fun c hc => (hV' c).2 (by omega)) (hV M (by omega))
      · by_cases hc : c / 4 = L
        · have := ((hV' c).1 hc).2 _ (fun d hd => by show (if d / 4 = L then 100 else V d) = V d; rw [if_neg (by omega)]) hU0
          have e : (if c / 4 = L then 100 else V c) = 100 := if_pos hc
          omega
        · rw [(hV' c).2 hc]; exact hb c
  obtain ⟨V, h, hb⟩ := key 4
  exact ⟨V, h, hb⟩
end EX
end
section
/-! ===== the class's own way: claims of a level settled from the greatest offer down ===== -/
/-- how many of the first k premises are not settled -/
def ch_uc (sl pt : Nat → Nat) (b : Nat) : Nat → Nat
  | 0 => 0
  | k + 1 => ch_uc sl pt b k + (if sl (pt (b + k)) = 0 then 1 else 0)
/-- how many of the first k premises are c -/
def ch_ct (pt : Nat → Nat) (b c : Nat) : Nat → Nat
  | 0 => 0
  | k + 1 => ch_ct pt b c k + (if pt (b + k) = c then 1 else 0)
theorem ch_uc_le (sl pt : Nat → Nat) (b : Nat) : ∀ k, ch_uc sl pt b k ≤ k
  | 0 => Nat.le_refl _
  | k + 1 => by
    have ih := ch_uc_le sl pt b k
    show ch_uc sl pt b k + (if _ then 1 else 0) ≤ _
    split <;> omega
theorem ch_ct_le (pt : Nat → Nat) (b c : Nat) : ∀ k, ch_ct pt b c k ≤ k
  | 0 => Nat.le_refl _
  | k + 1 => by
    have ih := ch_ct_le pt b c k
    show ch_ct pt b c k + (if _ then 1 else 0) ≤ _
    split <;> omega
theorem ch_uc_0 {sl pt : Nat → Nat} {b : Nat} : ∀ k, ch_uc sl pt b k = 0 → ∀ j, j < k → sl (pt (b + j)) ≠ 0
  | 0, _, j, h => absurd h (Nat.not_lt_zero _)
  | k + 1, h, j, hj => by
    have h' : ch_uc sl pt b k + (if sl (pt (b + k)) = 0 then 1 else 0) = 0 := h
    by_cases e : j = k
    · subst e
      intro q
      rw [if_pos q] at h'
      omega
    · exact ch_uc_0 k (by omega) j (by omega)
theorem ch_uc_of {sl pt : Nat → Nat} {b : Nat} : ∀ k, (∀ j, j < k → sl (pt (b + j)) ≠ 0) → ch_uc sl pt b k = 0
  | 0, _ => rfl
  | k + 1, h => by
    show ch_uc sl pt b k + (if sl (pt (b + k)) = 0 then 1 else 0) = 0
    rw [if_neg (h k (by omega)), ch_uc_of k (fun j hj => h j (by omega))]
theorem ch_uc_all {sl pt : Nat → Nat} {b : Nat} : ∀ k, (∀ j, j < k → sl (pt (b + j)) = 0) → ch_uc sl pt b k = k
  | 0, _ => rfl
  | k + 1, h => by
    show ch_uc sl pt b k + (if sl (pt (b + k)) = 0 then 1 else 0) = k + 1
    rw [if_pos (h k (by omega)), ch_uc_all k (fun j hj => h j (by omega))]
theorem ch_uc_up {sl pt : Nat → Nat} {b c : Nat} (h : sl c = 0) : ∀ k, ch_uc sl pt b k = ch_uc (ch_up sl c 1) pt b k + ch_ct pt b c k
  | 0 => rfl
  | k + 1 => by
    have ih := ch_uc_up (pt := pt) (b := b) h k
    show ch_uc sl pt b k + (if sl (pt (b + k)) = 0 then 1 else 0) = (ch_uc (ch_up sl c 1) pt b k + (if ch_up sl c 1 (pt (b + k)) = 0 then 1 else 0)) + (ch_ct pt b c k + (if pt (b + k) = c then 1 else 0))
    by_cases e : pt (b + k) = c
    · rw [if_pos e, e, ch_up_s, if_pos h, if_neg (by omega : ¬ (1 : Nat) = 0)]; omega
    · rw [if_neg e, ch_up_n e]; omega
theorem ch_ct_pos {pt : Nat → Nat} {b c : Nat} : ∀ k, 0 < ch_ct pt b c k → ∃ j, j < k ∧ pt (b + j) = c
  | 0, h => absurd h (Nat.lt_irrefl _)
  | k + 1, h => by
    by_cases e : pt (b + k) = c
    · exact ⟨k, Nat.lt_succ_self _, e⟩
    · have h' : 0 < ch_ct pt b c k + (if pt (b + k) = c then 1 else 0) := h
      rw [if_neg e] at h'
      obtain ⟨j, h1, h2⟩ := ch_ct_pos k h'
      exact ⟨j, by omega, h2⟩
/-- the offers behind makeOffer(r) -/
def ch_mk (w : Nat) (hd : Nat → Nat) (r : Nat) (sk : Int32) (sl of : Nat → Nat) : Nat → Nat := if nI r = sk ∨ sl (hd r) ≠ 0 then of else if of (hd r) < w then ch_up of (hd r) w else of
theorem ch_mk_bd {w : Nat} {hd : Nat → Nat} {r : Nat} {sk : Int32} {sl of : Nat → Nat} (h : ch_bd 100 of) (hw : w ≤ 100) : ch_bd 100 (ch_mk w hd r sk sl of) := by
  unfold ch_mk
  split
  · exact h
  · split
    · exact ch_bd_up h hw
    · exact h
theorem ch_mk_or (w : Nat) (hd : Nat → Nat) (r : Nat) (sk : Int32) (sl of : Nat → Nat) (c : Nat) : ch_mk w hd r sk sl of c = of c ∨ (c = hd r ∧ nI r ≠ sk ∧ sl (hd r) = 0 ∧ ch_mk w hd r sk sl of c = w ∧ of c < w) := by
  unfold ch_mk
  by_cases h : nI r = sk ∨ sl (hd r) ≠ 0
  · rw [if_pos h]; exact Or.inl rfl
  · rw [if_neg h]
    by_cases h2 : of (hd r) < w
    · rw [if_pos h2]
      by_cases e : c = hd r
      · right
        refine ⟨e, fun q => h (Or.inl q), ?_, by rw [e, ch_up_s], by rw [e]; exact h2⟩
        rcases Nat.eq_zero_or_pos (sl (hd r)) with q | q
        · exact q
        · exact absurd (Or.inr (by omega)) h
      · left; exact ch_up_n e
    · rw [if_neg h2]; exact Or.inl rfl
theorem ch_mk_ge (w : Nat) (hd : Nat → Nat) (r : Nat) (sk : Int32) (sl of : Nat → Nat) (c : Nat) : of c ≤ ch_mk w hd r sk sl of c := by
  rcases ch_mk_or w hd r sk sl of c with h | ⟨-, -, -, h, h2⟩
  · omega
  · omega
theorem ch_mk_w {w : Nat} {hd : Nat → Nat} {r : Nat} {sk : Int32} {sl of : Nat → Nat} (h1 : nI r ≠ sk) (h2 : sl (hd r) = 0) : w ≤ ch_mk w hd r sk sl of (hd r) := by
  unfold ch_mk
  rw [if_neg (fun q => q.elim h1 (fun z => z h2))]
  by_cases h : of (hd r) < w
  · rw [if_pos h, ch_up_s]; exact Nat.le_refl _
  · rw [if_neg h]; omega
theorem ch_mk_settled {w : Nat} {hd : Nat → Nat} {r : Nat} {sk : Int32} {sl of : Nat → Nat} {c : Nat} (h : sl c ≠ 0) : ch_mk w hd r sk sl of c = of c := by
  rcases ch_mk_or w hd r sk sl of c with q | ⟨e, -, h2, -, -⟩
  · exact q
  · rw [e] at h; exact absurd h2 h
def ch_un (sl : Nat → Nat) (L : Nat) : Nat := (if sl (4 * L) = 0 then 1 else 0) + (if sl (4 * L + 1) = 0 then 1 else 0) + (if sl (4 * L + 2) = 0 then 1 else 0) + (if sl (4 * L + 3) = 0 then 1 else 0)
theorem ch_un_pos {sl : Nat → Nat} {L : Nat} (h : 0 < ch_un sl L) : ∃ c, 4 * L ≤ c ∧ c < 4 * L + 4 ∧ sl c = 0 := by
  unfold ch_un at h
  by_cases h0 : sl (4 * L) = 0
  · exact ⟨_, by omega, by omega, h0⟩
  · by_cases h1 : sl (4 * L + 1) = 0
    · exact ⟨_, by omega, by omega, h1⟩
    · by_cases h2 : sl (4 * L + 2) = 0
      · exact ⟨_, by omega, by omega, h2⟩
      · by_cases h3 : sl (4 * L + 3) = 0
        · exact ⟨_, by omega, by omega, h3⟩
        · rw [if_neg h0, if_neg h1, if_neg h2, if_neg h3] at h; omega
theorem ch_un_0 {sl : Nat → Nat} {L : Nat} (h : ch_un sl L = 0) : ∀ c, c / 4 = L → sl c ≠ 0 := by
  intro c hc q
  unfold ch_un at h
  have : c = 4 * L ∨ c = 4 * L + 1 ∨ c = 4 * L + 2 ∨ c = 4 * L + 3 := by omega
  rcases this with e | e | e | e <;> subst e <;> rw [if_pos q] at h <;> omega
theorem ch_un_4 {sl : Nat → Nat} {L : Nat} (h : ∀ c, c / 4 = L → sl c = 0) : ch_un sl L = 4 := by
  unfold ch_un
  rw [if_pos (h _ (by omega)), if_pos (h _ (by omega)), if_pos (h _ (by omega)), if_pos (h _ (by omega))]
theorem ch_un_up {sl : Nat → Nat} {L c : Nat} (hc : c / 4 = L) (h : sl c = 0) : ch_un (ch_up sl c 1) L + 1 = ch_un sl L := by
  unfold ch_un
  have : c = 4 * L ∨ c = 4 * L + 1 ∨ c = 4 * L + 2 ∨ c = 4 * L + 3 := by omega
  rcases this with e | e | e | e <;> subst e
  · rw [ch_up_s, ch_up_n (by omega), ch_up_n (by omega), ch_up_n (by omega), if_pos h, if_neg (by omega)]; (try omega)
  · rw [ch_up_s, ch_up_n (by omega), ch_up_n (by omega), ch_up_n (by omega), if_pos h, if_neg (show ¬ (1 : Nat) = 0 by omega)]; (try omega)
  · rw [ch_up_s, ch_up_n (by omega), ch_up_n (by omega), ch_up_n (by omega), if_pos h, if_neg (show ¬ (1 : Nat) = 0 by omega)]; (try omega)
  · rw [ch_up_s, ch_up_n (by omega), ch_up_n (by omega), ch_up_n (by omega), if_pos h, if_neg (show ¬ (1 : Nat) = 0 by omega)]; (try omega)
section ST
variable {st sz pt ng hd se : Nat → Nat} {cn : Nat} {sk : Int32}
/-- behind the first r rules' start -/
def ch_I2 (st sz pt ng hd : Nat → Nat) (se : Nat → Nat) (sk : Int32) (r0 : Nat) (va of : Nat → Nat) (wt : Nat → Int32) : Prop :=
  (∀ r, r < r0 → wt r = nI (sz r)) ∧ (∀ c, c < 16 → se c ≤ of c) ∧ (∀ r, r < r0 → nI r ≠ sk → sz r = 0 → ch_wor st sz pt ng va r ≤ of (hd r)) ∧
  (∀ c, c < 16 → of c = se c ∨ ∃ r, r < r0 ∧ nI r ≠ sk ∧ sz r = 0 ∧ hd r = c ∧ of c = ch_wor st sz pt ng va r)
theorem ch_I2_0 {va of : Nat → Nat} {wt : Nat → Int32} (h : ∀ c, c < 16 → of c = se c) : ch_I2 st sz pt ng hd se sk 0 va of wt :=
  ⟨fun r h => absurd h (Nat.not_lt_zero _), fun c hc => Nat.le_of_eq (h c hc).symm, fun r h => absurd h (Nat.not_lt_zero _), fun c hc => Or.inl (h c hc)⟩
theorem ch_I2_skip {r0 : Nat} {va of : Nat → Nat} {wt : Nat → Int32} (hz : sz r0 ≠ 0) (h : ch_I2 st sz pt ng hd se sk r0 va of wt) : ch_I2 st sz pt ng hd se sk (r0 + 1) va of (upd wt r0 (nI (sz r0))) := by
  obtain ⟨h1, h2, h3, h4⟩ := h
  refine ⟨fun r hr => ?_, h2, fun r hr hk h0 => h3 r ?_ hk h0, fun c hc => ?_⟩
  · by_cases e : r = r0
    · rw [e, pk_us]
    · rw [pk_un e]; exact h1 r (by omega)
  · have : r ≠ r0 := fun e => hz (e ▸ h0)
    omega
  · rcases h4 c hc with q | ⟨r, q1, q2⟩
    · exact Or.inl q
    · exact Or.inr ⟨r, by omega, q2⟩
theorem ch_I2_make {r0 : Nat} {va of sl : Nat → Nat} {wt : Nat → Int32} (hz : sz r0 = 0) (hs : ∀ c, c < 16 → sl c = 0) (hh : hd r0 < 16) (h : ch_I2 st sz pt ng hd se sk r0 va of wt) : ch_I2 st sz pt ng hd se sk (r0 + 1) va (ch_mk (ch_wor st sz pt ng va r0) hd r0 sk sl of) (upd wt r0 (nI (sz r0))) := by
  obtain ⟨h1, h2, h3, h4⟩ := h
  refine ⟨fun r hr => ?_, fun c hc => Nat.le_trans (h2 c hc) (ch_mk_ge _ _ _ _ _ _ _), fun r hr hk h0 => ?_, fun c hc => ?_⟩
  · by_cases e : r = r0
    · rw [e, pk_us]
    · rw [pk_un e]; exact h1 r (by omega)
  · by_cases e : r = r0
    · subst e
      exact ch_mk_w hk (hs _ hh)
    · exact Nat.le_trans (h3 r (by omega) hk h0) (ch_mk_ge _ _ _ _ _ _ _)
  · rcases ch_mk_or (ch_wor st sz pt ng va r0) hd r0 sk sl of c with q | ⟨e, q2, -, q3, -⟩
    · rw [q]
      rcases h4 c hc with q | ⟨r, q1, q2⟩
      · exact Or.inl q
      · exact Or.inr ⟨r, by omega, q2⟩
    · exact Or.inr ⟨r0, by omega, q2, hz, e.symm, q3⟩
/-- at the head of a turn -/
def ch_I3 (st sz pt ng hd : Nat → Nat) (cn : Nat) (se : Nat → Nat) (sk : Int32) (t : Nat) (va of sl : Nat → Nat) (wt : Nat → Int32) : Prop :=
  (∀ r, r < cn → wt r = nI (ch_uc sl pt (3 * r) (sz r))) ∧
  ((∀ c, c < 16 → c / 4 < t / 4 → sl c ≠ 0) ∧ (∀ c, c < 16 → t / 4 < c / 4 → sl c = 0) ∧ (t < 16 → ch_un sl (t / 4) + t % 4 = 4)) ∧
  (∀ c, c < 16 → sl c ≠ 0 → va c = of c) ∧
  (∀ c, c < 16 → se c ≤ of c) ∧
  (∀ r, r < cn → nI r ≠ sk → ch_uc sl pt (3 * r) (sz r) = 0 → ch_wor st sz pt ng va r ≤ of (hd r)) ∧
  (∀ c, c < 16 → of c = se c ∨ ∃ r, r < cn ∧ nI r ≠ sk ∧ ch_uc sl pt (3 * r) (sz r) = 0 ∧ hd r = c ∧ of c = ch_wor st sz pt ng va r) ∧
  (∀ s c, s < 16 → s / 4 = t / 4 → c / 4 = t / 4 → sl s ≠ 0 → sl c = 0 → of c ≤ va s) ∧
  (∀ c, c < 16 → sl c ≠ 0 → ∀ U : Nat → Nat, (∀ d, d / 4 < c / 4 → U d = va d) → ch_Pre (ch_wor st sz pt ng) hd cn se sk (c / 4) U → va c ≤ U c)
theorem ch_I3_0 {va of sl : Nat → Nat} {wt : Nat → Int32} (hpt : ch_bd 15 pt) (hs : ∀ c, c < 16 → sl c = 0) (h : ch_I2 st sz pt ng hd se sk cn va of wt) : ch_I3 st sz pt ng hd cn se sk 0 va of sl wt := by
  obtain ⟨h1, h2, h3, h4⟩ := h
  have hu : ∀ r, ch_uc sl pt (3 * r) (sz r) = sz r := fun r => ch_uc_all _ (fun j _ => hs _ (Nat.lt_succ_of_le (hpt _)))
  refine ⟨fun r hr => by rw [hu r]; exact h1 r hr, ⟨fun c _ h => by omega, fun c hc _ => hs c hc, fun _ => ?_⟩, fun c hc q => absurd (hs c hc) q, h2, fun r hr hk h0 => h3 r hr hk (by rw [hu r] at h0; exact h0), fun c hc => ?_, fun s c e0 e1 e2 q => absurd (hs s e0) q, fun c hc q => absurd (hs c hc) q⟩
  · rw [ch_un_4 (fun c hc => hs c (by omega))]
  · rcases h4 c hc with q | ⟨r, a, b, e, f⟩
    · exact Or.inl q
    · exact Or.inr ⟨r, a, b, by rw [hu r]; exact e, f⟩
theorem ch_I3_end {va of sl : Nat → Nat} {wt : Nat → Int32} (hpt : ch_bd 15 pt) (hhd : ch_bd 15 hd) (h : ch_I3 st sz pt ng hd cn se sk 16 va of sl wt) : ch_Sol (ch_wor st sz pt ng) hd cn se sk va := by
  obtain ⟨h1, ⟨h2, -, -⟩, h3, h4, h5, h6, h7, h8⟩ := h
  have ha : ∀ c, c < 16 → sl c ≠ 0 := fun c hc => h2 c hc (by omega)
  intro L hL
  refine ⟨⟨fun c hc => ?_, fun r hr hk hl => ?_⟩, fun U hU hp c hc => ?_⟩
  · rw [h3 c (by omega) (ha c (by omega))]; exact h4 c (by omega)
  · have hh : hd r < 16 := Nat.lt_succ_of_le (hhd r)
    rw [h3 _ hh (ha _ hh)]
    exact h5 r hr hk (ch_uc_of _ (fun j _ => ha _ (Nat.lt_succ_of_le (hpt _))))
  · subst hc
    exact h8 c (by omega) (ha c (by omega)) U hU hp
/-- while the rules take notice that c is settled: the first r0 have -/
def ch_I4 (st sz pt ng hd : Nat → Nat) (cn : Nat) (se : Nat → Nat) (sk : Int32) (t : Nat) (sl va1 sl1 : Nat → Nat) (r0 : Nat) (of : Nat → Nat) (wt : Nat → Int32) : Prop :=
  (∀ r, r < cn → wt r = nI (ch_uc (if r < r0 then sl1 else sl) pt (3 * r) (sz r))) ∧
  (∀ d, d < 16 → sl1 d ≠ 0 → va1 d = of d) ∧
  (∀ d, d < 16 → se d ≤ of d) ∧
  (∀ r, r < cn → nI r ≠ sk → ch_uc (if r < r0 then sl1 else sl) pt (3 * r) (sz r) = 0 → ch_wor st sz pt ng va1 r ≤ of (hd r)) ∧
  (∀ d, d < 16 → of d = se d ∨ ∃ r, r < cn ∧ nI r ≠ sk ∧ ch_uc sl1 pt (3 * r) (sz r) = 0 ∧ hd r = d ∧ of d = ch_wor st sz pt ng va1 r) ∧
  (∀ s d, s / 4 = t / 4 → d / 4 = t / 4 → sl1 s ≠ 0 → sl1 d = 0 → of d ≤ va1 s)
/-- what stands fixed while c is made known -/
def ch_F4 (t c : Nat) (sl va1 sl1 : Nat → Nat) : Prop := sl c = 0 ∧ c < 16 ∧ c / 4 = t / 4 ∧ sl1 = ch_up sl c 1 ∧ (∀ s, s / 4 = t / 4 → sl1 s ≠ 0 → va1 c ≤ va1 s) ∧ (∀ d, d < 16 → sl1 d ≠ 0 → d / 4 ≤ t / 4)
theorem ch_wor_un {va sl : Nat → Nat} {c x r : Nat} (hc : sl c = 0) (h : ch_uc sl pt (3 * r) (sz r) = 0) : ch_wor st sz pt ng (ch_up va c x) r = ch_wor st sz pt ng va r := by
  apply ch_wor_eq
  intro j hj
  have := ch_uc_0 _ h j hj
  have e : pt (3 * r + j) ≠ c := fun q => this (by rw [q]; exact hc)
  unfold ch_pv
  rw [ch_up_n e]
theorem ch_F4_start {t c : Nat} {va of sl : Nat → Nat} {wt : Nat → Int32} (ht : t < 16) (hc1 : 4 * (t / 4) ≤ c) (hc2 : c < 4 * (t / 4) + 4) (hc : sl c = 0) (hm : ∀ d, 4 * (t / 4) ≤ d → d < 4 * (t / 4) + 4 → sl d = 0 → of d ≤ of c) (h : ch_I3 st sz pt ng hd cn se sk t va of sl wt) : ch_F4 t c sl (ch_up va c (of c)) (ch_up sl c 1) ∧ ch_I4 st sz pt ng hd cn se sk t sl (ch_up va c (of c)) (ch_up sl c 1) 0 of wt := by
  obtain ⟨h1, ⟨h2, h2', h2''⟩, h3, h4, h5, h6, h7, h8⟩ := h
  have hl : c / 4 = t / 4 := by omega
  have h16 : c < 16 := by omega
  refine ⟨⟨hc, h16, hl, rfl, fun s e q => ?_, fun d hd q => ?_⟩, fun r hr => ?_, fun d hd q => ?_, h4, fun r hr hk h0 => ?_, fun d hd => ?_, fun s d e1 e2 q1 q2 => ?_⟩
  · rw [ch_up_s]
    by_cases z : s = c
    · rw [z, ch_up_s]; exact Nat.le_refl _
    · rw [ch_up_n z] at q ⊢
      exact h7 s c (by omega) e hl q hc
  · by_cases z : d = c
    · rw [z]; omega
    · rw [ch_up_n z] at q
      rcases Nat.lt_or_ge (t / 4) (d / 4) with w | w
      · exact absurd (h2' d hd w) q
      · exact w
  · rw [if_neg (Nat.not_lt_zero r)]; exact h1 r hr
  · by_cases z : d = c
    · rw [z, ch_up_s]
    · rw [ch_up_n z] at q ⊢
      exact h3 d hd q
  · rw [if_neg (Nat.not_lt_zero r)] at h0
    rw [ch_wor_un hc h0]
    exact h5 r hr hk h0
  · rcases h6 d hd with q | ⟨r, a1, a2, a3, a4, a5⟩
    · exact Or.inl q
    · refine Or.inr ⟨r, a1, a2, ?_, a4, by rw [ch_wor_un hc a3]; exact a5⟩
      have := ch_uc_up (pt := pt) (b := 3 * r) hc (sz r)
      omega
  · have z2 : d ≠ c := fun z => by rw [z, ch_up_s] at q2; omega
    rw [ch_up_n z2] at q2
    by_cases z : s = c
    · rw [z, ch_up_s]
      exact hm d (by omega) (by omega) q2
    · rw [ch_up_n z] at q1 ⊢
      exact h7 s d (by omega) e1 e2 q1 q2
/-- what a rule that fires now is worth is at most c's value, where its head is of c's level -/
theorem ch_fire {t c r : Nat} {sl va1 sl1 : Nat → Nat} (hok : ch_ok hd sz pt ng cn) (hst : ch_bd 100 st) (hr : r < cn) (hct : 0 < ch_ct pt (3 * r) c (sz r)) (hl : c / 4 = t / 4) (hh : hd r / 4 = t / 4) : ch_wor st sz pt ng va1 r ≤ va1 c := by
  obtain ⟨j, hj, e⟩ := ch_ct_pos _ hct
  have hn : ng (3 * r + j) = 0 := by
    rcases Nat.eq_zero_or_pos (ng (3 * r + j)) with q | q
    · exact q
    · have := (hok r hr j hj).2 (by omega)
      rw [e] at this
      omega
  have := ch_wor_pv (pt := pt) (ng := ng) (v := va1) (hst r) hj
  unfold ch_pv at this
  rw [if_pos hn, e] at this
  exact this
theorem ch_I4_step {t c r0 : Nat} {sl va1 sl1 of : Nat → Nat} {wt : Nat → Int32} (hok : ch_ok hd sz pt ng cn) (hst : ch_bd 100 st) (hhd : ch_bd 15 hd) (hsz : ch_bd 3 sz) (hF : ch_F4 t c sl va1 sl1) (hr0 : r0 < cn) (h : ch_I4 st sz pt ng hd cn se sk t sl va1 sl1 r0 of wt) :
    ch_I4 st sz pt ng hd cn se sk t sl va1 sl1 (r0 + 1) (if 0 < wt r0 ∧ wt r0 - nI (ch_ct pt (3 * r0) c (sz r0)) = 0 then ch_mk (ch_wor st sz pt ng va1 r0) hd r0 sk sl1 of else of) (upd wt r0 (wt r0 - nI (ch_ct pt (3 * r0) c (sz r0)))) := by
  obtain ⟨hc, h16, hl, hsl1, hmin, hlev⟩ := hF
  obtain ⟨h1, h3, h4, h5, h6, h7⟩ := h
  have hu := ch_uc_up (pt := pt) (b := 3 * r0) hc (sz r0)
  rw [← hsl1] at hu
  have hw0 : wt r0 = nI (ch_uc sl pt (3 * r0) (sz r0)) := by
    have := h1 r0 hr0
    rw [if_neg (Nat.lt_irrefl _)] at this
    exact this
  have hb1 := ch_uc_le sl pt (3 * r0) (sz r0)
  have hb2 := hsz r0
  have hw1 : wt r0 - nI (ch_ct pt (3 * r0) c (sz r0)) = nI (ch_uc sl1 pt (3 * r0) (sz r0)) := by
    rw [hw0, pk_sub (by omega)]
    congr 1
    omega
  have hcond : (0 < wt r0 ∧ wt r0 - nI (ch_ct pt (3 * r0) c (sz r0)) = 0) ↔ (0 < ch_uc sl pt (3 * r0) (sz r0) ∧ ch_uc sl1 pt (3 * r0) (sz r0) = 0) := by
    rw [hw1, hw0, ← nI_0, nI_ltI (by omega) (by omega), nI_eq (by omega) (by omega)]
  have hwt : ∀ r, r < cn → upd wt r0 (wt r0 - nI (ch_ct pt (3 * r0) c (sz r0))) r = nI (ch_uc (if r < r0 + 1 then sl1 else sl) pt (3 * r) (sz r)) := by
    intro r hr
    by_cases e : r = r0
    · rw [e, pk_us, hw1, if_pos (Nat.lt_succ_self _)]
    · rw [pk_un e, h1 r hr]
      by_cases q : r < r0
      · rw [if_pos q, if_pos (by omega)]
      · rw [if_neg q, if_neg (by omega)]
  by_cases hcd : 0 < ch_uc sl pt (3 * r0) (sz r0) ∧ ch_uc sl1 pt (3 * r0) (sz r0) = 0
  · rw [if_pos (hcond.mpr hcd)]
    have hct : 0 < ch_ct pt (3 * r0) c (sz r0) := by omega
    have hhl := (Nat.lt_succ_of_le (hhd r0) : hd r0 < 16)
    have hge : t / 4 ≤ hd r0 / 4 := by
      obtain ⟨j, hj, e⟩ := ch_ct_pos _ hct
      have := (hok r0 hr0 j hj).1
      rw [e] at this
      omega
    refine ⟨hwt, fun d hd9 q => ?_, fun d hd9 => Nat.le_trans (h4 d hd9) (ch_mk_ge _ _ _ _ _ _ _), fun r hr hk h0 => ?_, fun d hd9 => ?_, fun s d e1 e2 q1 q2 => ?_⟩
    · rw [ch_mk_settled q]; exact h3 d hd9 q
    · by_cases e : r = r0
      · subst e
        by_cases hs : sl1 (hd r) = 0
        · exact ch_mk_w hk hs
        · have hle := hlev _ hhl hs
          have heq : hd r / 4 = t / 4 := by omega
          rw [ch_mk_settled hs, ← h3 _ hhl hs]
          exact Nat.le_trans (ch_fire (sl := sl) (sl1 := sl1) hok hst hr hct hl heq) (hmin _ heq hs)
      · refine Nat.le_trans (h5 r hr hk ?_) (ch_mk_ge _ _ _ _ _ _ _)
        by_cases q : r < r0
        · rw [if_pos (by omega)] at h0; rw [if_pos q]; exact h0
        · rw [if_neg (by omega)] at h0; rw [if_neg q]; exact h0
    · rcases ch_mk_or (ch_wor st sz pt ng va1 r0) hd r0 sk sl1 of d with q | ⟨e, q2, -, q3, -⟩
      · rw [q]; exact h6 d hd9
      · exact Or.inr ⟨r0, hr0, q2, hcd.2, e.symm, q3⟩
    · rcases ch_mk_or (ch_wor st sz pt ng va1 r0) hd r0 sk sl1 of d with q | ⟨e, -, -, q3, -⟩
      · rw [q]; exact h7 s d e1 e2 q1 q2
      · rw [q3]
        rw [e] at e2
        exact Nat.le_trans (ch_fire (sl := sl) (sl1 := sl1) hok hst hr0 hct hl e2) (hmin s e1 q1)
  · rw [if_neg (fun q => hcd (hcond.mp q))]
    refine ⟨hwt, h3, h4, fun r hr hk h0 => ?_, h6, h7⟩
    by_cases e : r = r0
    · subst e
      rw [if_pos (Nat.lt_succ_self _)] at h0
      have hz : ch_uc sl pt (3 * r) (sz r) = 0 := by
        rcases Nat.eq_zero_or_pos (ch_uc sl pt (3 * r) (sz r)) with q | q
        · exact q
        · exact absurd ⟨q, h0⟩ hcd
      exact h5 r hr hk (by rw [if_neg (Nat.lt_irrefl _)]; exact hz)
    · refine h5 r hr hk ?_
      by_cases q : r < r0
      · rw [if_pos (by omega)] at h0; rw [if_pos q]; exact h0
      · rw [if_neg (by omega)] at h0; rw [if_neg q]; exact h0
theorem ch_I4_end {t c : Nat} {va of0 sl of : Nat → Nat} {wt0 wt : Nat → Int32} (ht : t < 16) (hok : ch_ok hd sz pt ng cn) (hpt : ch_bd 15 pt) (hF : ch_F4 t c sl (ch_up va c (of0 c)) (ch_up sl c 1)) (h0 : ch_I3 st sz pt ng hd cn se sk t va of0 sl wt0) (h : ch_I4 st sz pt ng hd cn se sk t sl (ch_up va c (of0 c)) (ch_up sl c 1) cn of wt) : ch_I3 st sz pt ng hd cn se sk (t + 1) (ch_up va c (of0 c)) of (ch_up sl c 1) wt := by
  obtain ⟨hc, h16, hl, -, hmin, hlev⟩ := hF
  obtain ⟨-, ⟨g2, g2', g2''⟩, g3, -, -, g6, -, g8⟩ := h0
  obtain ⟨h1, h3, h4, h5, h6, h7⟩ := h
  have hun := ch_un_up hl hc
  have hu := g2'' ht
  refine ⟨fun r hr => ?_, ⟨fun d hd q => ?_, fun d hd q => ?_, fun ht1 => ?_⟩, h3, h4, fun r hr hk q => ?_, h6, fun s d e0 e1 e2 q1 q2 => ?_, fun d hd q U hU hp => ?_⟩
  · have := h1 r hr
    rw [if_pos hr] at this
    exact this
  · by_cases z : d = c
    · rw [z, ch_up_s]; omega
    · rw [ch_up_n z]
      by_cases w : d / 4 < t / 4
      · exact g2 d hd w
      · have e : ch_un (ch_up sl c 1) (t / 4) = 0 := by omega
        have := ch_un_0 e d (by omega)
        rw [ch_up_n z] at this
        exact this
  · have z : d ≠ c := fun z => by rw [z] at q; omega
    rw [ch_up_n z]
    exact g2' d hd (by omega)
  · by_cases w : (t + 1) / 4 = t / 4
    · rw [w]; omega
    · have e : (t + 1) / 4 = t / 4 + 1 := by omega
      rw [e, ch_un_4 (fun d hd => ?_)]
      · omega
      · have z : d ≠ c := fun z => by rw [z] at hd; omega
        rw [ch_up_n z]
        exact g2' d (by omega) (by omega)
  · exact h5 r hr hk (by rw [if_pos hr]; exact q)
  · by_cases w : (t + 1) / 4 = t / 4
    · exact h7 s d (by omega) (by omega) q1 q2
    · have := hlev s e0 q1
      omega
  · by_cases z : d = c
    · subst z
      rw [ch_up_s]
      have hU' : ∀ e, e / 4 < d / 4 → U e = va e := fun e he => by rw [hU e he, ch_up_n (fun z => by rw [z] at he; omega)]
      rcases g6 d hd with a | ⟨r, a1, a2, a3, a4, a5⟩
      · rw [a]; exact hp.1 d rfl
      · rw [a5]
        have hp2 := hp.2 r a1 a2 (by rw [a4])
        rw [a4] at hp2
        refine Nat.le_trans (ch_wor_mono (u := U) fun j hj => ?_) hp2
        have hs := ch_uc_0 _ a3 j hj
        obtain ⟨b1, b2⟩ := hok r a1 j hj
        rw [a4] at b1 b2
        unfold ch_pv
        by_cases hn : ng (3 * r + j) = 0
        · rw [if_pos hn, if_pos hn]
          by_cases e : pt (3 * r + j) / 4 = d / 4
          · refine g8 _ (Nat.lt_succ_of_le (hpt _)) hs U (fun e' he' => hU' e' (by omega)) ?_
            rw [e]; exact hp
          · exact Nat.le_of_eq (hU' _ (by omega)).symm
        · rw [if_neg hn, if_neg hn, hU' _ (b2 hn)]
          exact Nat.le_refl _
    · rw [ch_up_n z] at q ⊢
      have hle := hlev d hd (by rw [ch_up_n z]; exact q)
      refine g8 d hd q U (fun e he => ?_) hp
      rw [hU e he, ch_up_n (fun z => by rw [z] at he; omega)]
end ST
end
section
/-! ===== the reference's way: a level is raised until nothing must be raised ===== -/
def ch_sm (v : Nat → Nat) (L : Nat) : Nat := v (4 * L) + v (4 * L + 1) + v (4 * L + 2) + v (4 * L + 3)
theorem ch_sm_le {v : Nat → Nat} {L : Nat} (h : ch_bd 100 v) : ch_sm v L ≤ 400 := by
  unfold ch_sm
  have h0 := h (4 * L)
  have h1 := h (4 * L + 1)
  have h2 := h (4 * L + 2)
  have h3 := h (4 * L + 3)
  omega
theorem ch_sm_mono {v u : Nat → Nat} {L : Nat} (h : ∀ c, v c ≤ u c) : ch_sm v L ≤ ch_sm u L := by
  unfold ch_sm
  have h0 := h (4 * L)
  have h1 := h (4 * L + 1)
  have h2 := h (4 * L + 2)
  have h3 := h (4 * L + 3)
  omega
theorem ch_sm_up {v : Nat → Nat} {L c x : Nat} (hc : c / 4 = L) (h : v c < x) : ch_sm v L < ch_sm (ch_up v c x) L := by
  unfold ch_sm
  have : c = 4 * L ∨ c = 4 * L + 1 ∨ c = 4 * L + 2 ∨ c = 4 * L + 3 := by omega
  rcases this with e | e | e | e <;> subst e <;> rw [ch_up_s, ch_up_n (by omega), ch_up_n (by omega), ch_up_n (by omega)] <;> omega
section RS
variable {st sz pt ng hd se : Nat → Nat} {cn : Nat} {sk : Int32}
/-- behind the first r0 rules of a pass over level L that began with v -/
def ch_R (st sz pt ng hd : Nat → Nat) (cn : Nat) (sk : Int32) (L : Nat) (v : Nat → Nat) (r0 : Nat) (u : Nat → Nat) (any : Nat) : Prop :=
  (∀ c, v c ≤ u c) ∧ (∀ c, c / 4 ≠ L → u c = v c) ∧ ch_bd 100 u ∧
  (∀ U : Nat → Nat, (∀ c, c / 4 < L → U c = v c) → (∀ r, r < cn → nI r ≠ sk → hd r / 4 = L → ch_wor st sz pt ng U r ≤ U (hd r)) → (∀ c, c / 4 = L → v c ≤ U c) → ∀ c, c / 4 = L → u c ≤ U c) ∧
  (any = 0 → u = v ∧ ∀ r, r < r0 → nI r ≠ sk → hd r / 4 = L → ch_wor st sz pt ng v r ≤ v (hd r)) ∧ (any ≠ 0 → ch_sm v L < ch_sm u L)
theorem ch_R_0 {L : Nat} {v : Nat → Nat} (hv : ch_bd 100 v) : ch_R st sz pt ng hd cn sk L v 0 v 0 :=
  ⟨fun _ => Nat.le_refl _, fun _ _ => rfl, hv, fun _ _ _ h => h, fun _ => ⟨rfl, fun _ h => absurd h (Nat.not_lt_zero _)⟩, fun h => absurd rfl h⟩
theorem ch_R_skip {L r0 any : Nat} {v u : Nat → Nat} (h : ch_R st sz pt ng hd cn sk L v r0 u any) (hs : nI r0 ≠ sk → hd r0 / 4 = L → ch_wor st sz pt ng u r0 ≤ u (hd r0)) : ch_R st sz pt ng hd cn sk L v (r0 + 1) u any := by
  obtain ⟨h1, h2, h3, h4, h5, h6⟩ := h
  refine ⟨h1, h2, h3, h4, fun e => ?_, h6⟩
  obtain ⟨e1, e2⟩ := h5 e
  refine ⟨e1, fun r hr hk hl => ?_⟩
  by_cases z : r = r0
  · subst z
    rw [e1] at hs
    exact hs hk hl
  · exact e2 r (by omega) hk hl
theorem ch_R_raise {L r0 any : Nat} {v u : Nat → Nat} (hok : ch_ok hd sz pt ng cn) (hst : ch_bd 100 st) (hr0 : r0 < cn) (h : ch_R st sz pt ng hd cn sk L v r0 u any) (hk : nI r0 ≠ sk) (hl : hd r0 / 4 = L) (hlt : u (hd r0) < ch_wor st sz pt ng u r0) : ch_R st sz pt ng hd cn sk L v (r0 + 1) (ch_up u (hd r0) (ch_wor st sz pt ng u r0)) 1 := by
  obtain ⟨h1, h2, h3, h4, h5, h6⟩ := h
  refine ⟨fun c => ?_, fun c hc => ?_, ch_bd_up h3 (ch_wor_100 (hst r0)), fun U hU hp hv c hc => ?_, fun e => absurd e (by decide), fun _ => ?_⟩
  · by_cases z : c = hd r0
    · rw [z, ch_up_s]
      have := h1 (hd r0)
      omega
    · rw [ch_up_n z]; exact h1 c
  · rw [ch_up_n (fun z => hc (by rw [z]; exact hl))]; exact h2 c hc
  · have ih := h4 U hU hp hv
    by_cases z : c = hd r0
    · rw [z, ch_up_s]
      refine Nat.le_trans (ch_wor_lvl (u := U) hok hr0 (fun d hd => ?_) (fun d hd => ih d (by omega))) (hp r0 hr0 hk hl)
      rw [hU d (by omega), h2 d (by omega)]
    · rw [ch_up_n z]; exact ih c hc
  · exact Nat.lt_of_le_of_lt (ch_sm_mono h1) (ch_sm_up hl hlt)
/-- levels below L are done, those from L on are as observed -/
def ch_D (st sz pt ng hd : Nat → Nat) (cn : Nat) (sv : Nat → Nat) (sk : Int32) (L : Nat) (v : Nat → Nat) : Prop :=
  (∀ M, M < L → ch_Pre (ch_wor st sz pt ng) hd cn sv sk M v ∧ ch_Lst (ch_wor st sz pt ng) hd cn sv sk M v) ∧ (∀ c, c < 16 → L ≤ c / 4 → v c = sv c) ∧ ch_bd 100 v
theorem ch_D_0 {sv v : Nat → Nat} (h : ∀ c, c < 16 → v c = sv c) (hb : ch_bd 100 v) : ch_D st sz pt ng hd cn sv sk 0 v := ⟨fun _ h => absurd h (Nat.not_lt_zero _), fun c hc _ => h c hc, hb⟩
theorem ch_D_end {sv v : Nat → Nat} (h : ch_D st sz pt ng hd cn sv sk 4 v) : ch_Sol (ch_wor st sz pt ng) hd cn sv sk v := h.1
/-- at the head of a round of level L -/
def ch_Q (st sz pt ng hd : Nat → Nat) (cn : Nat) (sv : Nat → Nat) (sk : Int32) (L rd : Nat) (v : Nat → Nat) (more : Nat) : Prop :=
  (∀ M, M < L → ch_Pre (ch_wor st sz pt ng) hd cn sv sk M v ∧ ch_Lst (ch_wor st sz pt ng) hd cn sv sk M v) ∧ (∀ c, c < 16 → L < c / 4 → v c = sv c) ∧ ch_bd 100 v ∧
  (∀ c, c / 4 = L → sv c ≤ v c) ∧ ch_Lst (ch_wor st sz pt ng) hd cn sv sk L v ∧ (more ≠ 0 → rd ≤ ch_sm v L) ∧ (more = 0 → ∀ r, r < cn → nI r ≠ sk → hd r / 4 = L → ch_wor st sz pt ng v r ≤ v (hd r))
theorem ch_Q_0 {sv v : Nat → Nat} {L : Nat} (hL : L < 4) (h : ch_D st sz pt ng hd cn sv sk L v) : ch_Q st sz pt ng hd cn sv sk L 0 v 1 :=
  ⟨h.1, fun c hc hl => h.2.1 c hc (by omega), h.2.2, fun c hc => Nat.le_of_eq (h.2.1 c (by omega) (by omega)).symm, fun U hU hp c hc => by rw [h.2.1 c (by omega) (by omega)]; exact hp.1 c hc, fun _ => Nat.zero_le _, fun e => absurd e (by decide)⟩
theorem ch_Q_step {sv v u : Nat → Nat} {L rd any : Nat} (hok : ch_ok hd sz pt ng cn) (h : ch_Q st sz pt ng hd cn sv sk L rd v 1) (hr : ch_R st sz pt ng hd cn sk L v cn u any) : ch_Q st sz pt ng hd cn sv sk L (rd + 1) u any := by
  obtain ⟨q1, q2, q3, q4, q5, q6, q7⟩ := h
  obtain ⟨h1, h2, h3, h4, h5, h6⟩ := hr
  refine ⟨fun M hM => ch_keep hok (fun c hc => h2 c (by omega)) (q1 M hM), fun c hc hl => ?_, h3, fun c hc => Nat.le_trans (q4 c hc) (h1 c), fun U hU hp c hc => ?_, fun e => ?_, fun e => ?_⟩
  · rw [h2 c (by omega)]; exact q2 c hc hl
  · have hU' : ∀ c, c / 4 < L → U c = v c := fun d hd => by rw [hU d hd, h2 d (by omega)]
    exact h4 U hU' hp.2 (q5 U hU' hp) c hc
  · have := q6 (by decide)
    have := h6 e
    omega
  · obtain ⟨e1, e2⟩ := h5 e
    rw [e1]
    exact e2
theorem ch_Q_end {sv v : Nat → Nat} {L rd more : Nat} (h : ch_Q st sz pt ng hd cn sv sk L rd v more) (he : 500 ≤ rd ∨ more = 0) : ch_D st sz pt ng hd cn sv sk (L + 1) v := by
  obtain ⟨q1, q2, q3, q4, q5, q6, q7⟩ := h
  have hm : more = 0 := by
    rcases he with e | e
    · rcases Nat.eq_zero_or_pos more with z | z
      · exact z
      · have := q6 (by omega)
        have := ch_sm_le (L := L) q3
        omega
    · exact e
  refine ⟨fun M hM => ?_, fun c hc hl => q2 c hc (by omega), q3⟩
  by_cases e : M = L
  · subst e
    exact ⟨⟨q4, q7 hm⟩, q5⟩
  · exact q1 M (by omega)
end RS
end
section
/-! ===== rows over numbers, worlds of the two classes, starts, ends and calls of contracts ===== -/
def nF (v : Nat → Nat) : Nat → Int32 := fun j => nI (v j)
theorem nF_up (v : Nat → Nat) (k x : Nat) : upd (nF v) k (nI x) = nF (ch_up v k x) := by
  funext j
  by_cases h : j = k
  · show upd (nF v) k (nI x) j = nI (ch_up v k x j)
    rw [h, pk_us, ch_up_s]
  · show upd (nF v) k (nI x) j = nI (ch_up v k x j)
    rw [pk_un h, ch_up_n h]
    rfl
theorem nr_nz {x : Nat} (h : x ≤ 1) : vp_nar .boolean (nI x) = nI x := by
  rcases (show x = 0 ∨ x = 1 by omega) with e | e <;> subst e <;> decide
theorem nr_31 {x B : Nat} (h : x ≤ B) (hB : B < 2 ^ 31) : x < 2 ^ 31 := Nat.lt_of_le_of_lt h hB
def Pw (D : va_G) (w : va_W) (ty : List (ClassId × FieldType)) (sz : Nat) (U : State) : Prop := U.heap.size = sz ∧ va_P D classes w U.heap ∧ va_K D classes ty U ∧ va_D (fun _ => True) w
def Bw (D : va_G) (w0 w : va_W) (ty : List (ClassId × FieldType)) (sz : Nat) (t : State) : Prop := va_P D classes w t.heap ∧ va_K D classes ty t ∧ va_D (va_A w0 sz) w
/-- the class's cells -/
def wX (h0 : Nat) (a : Nat → Nat) (c : Nat → ClassId) (hd st sz pt ng dp dn se va of sl : Nat → Nat) (wt : Nat → Int32) (kp : Nat → Nat) (ds cn : Nat) (sk : Int32) (cu : Nat) : va_W :=
  [(h0, .inr (0, [.ref (a 0), .ref (a 1), .ref (a 2), .ref (a 3), .ref (a 4), .ref (a 5), .ref (a 6), .ref (a 7), .ref (a 8), .ref (a 9), .ref (a 10), .ref (a 11), .ref (a 12), .int (nI ds), .int (nI cn), .int sk, .int (nI cu)])),
   (a 0, .inl (c 0, 20, .inl (nF hd))), (a 1, .inl (c 1, 20, .inl (nF st))), (a 2, .inl (c 2, 20, .inl (nF sz))), (a 3, .inl (c 3, 60, .inl (nF pt))), (a 4, .inl (c 4, 60, .inl (nF ng))), (a 5, .inl (c 5, 3, .inl (nF dp))), (a 6, .inl (c 6, 3, .inl (nF dn))), (a 7, .inl (c 7, 16, .inl (nF se))), (a 8, .inl (c 8, 16, .inl (nF va))), (a 9, .inl (c 9, 16, .inl (nF of))), (a 10, .inl (c 10, 16, .inl (nF sl))), (a 11, .inl (c 11, 20, .inl wt)), (a 12, .inl (c 12, 16, .inl (nF kp)))]
def yX (c : Nat → ClassId) : List (ClassId × FieldType) := [(c 0, .int), (c 1, .int), (c 2, .int), (c 3, .int), (c 4, .boolean), (c 5, .int), (c 6, .boolean), (c 7, .int), (c 8, .int), (c 9, .int), (c 10, .boolean), (c 11, .int), (c 12, .int)]
/-- the reference's cells -/
def wM (h0 : Nat) (a : Nat → Nat) (c : Nat → ClassId) (se dp dn hd st sz pt ng va kp : Nat → Nat) (ds cn : Nat) : va_W :=
  [(h0, .inr (1, [.ref (a 0), .int (nI ds), .ref (a 1), .ref (a 2), .int (nI cn), .ref (a 3), .ref (a 4), .ref (a 5), .ref (a 6), .ref (a 7), .ref (a 8), .ref (a 9)])),
   (a 0, .inl (c 0, 16, .inl (nF se))), (a 1, .inl (c 1, 3, .inl (nF dp))), (a 2, .inl (c 2, 3, .inl (nF dn))), (a 3, .inl (c 3, 20, .inl (nF hd))), (a 4, .inl (c 4, 20, .inl (nF st))), (a 5, .inl (c 5, 20, .inl (nF sz))), (a 6, .inl (c 6, 60, .inl (nF pt))), (a 7, .inl (c 7, 60, .inl (nF ng))), (a 8, .inl (c 8, 16, .inl (nF va))), (a 9, .inl (c 9, 16, .inl (nF kp)))]
def yM (c : Nat → ClassId) : List (ClassId × FieldType) := [(c 0, .int), (c 1, .int), (c 2, .boolean), (c 3, .int), (c 4, .int), (c 5, .int), (c 6, .int), (c 7, .boolean), (c 8, .int), (c 9, .int)]
section NR
variable {p : Program} {l : Launch} {e : Env} {R : Room} {s : State} {m : MethodId} {args : Array Value} {below : List Frame} {meth : Method} {c : Code} {H : Heap} {locs : List Loc} {cells slots : Nat} {Q : State → Prop}
variable {cc : ByteArray} {pc : Nat} {ls : Array Slot} {rest : List Value} {D : va_G} {cl : List vw_C} {A : Nat → Prop} {a : Nat} {tys : List (ClassId × FieldType)} {ws : va_W} {H0 : Heap}
theorem nr_iald (hexec : p.tables.exec = Jvm.exec) (hb : c.code = cc) (hK : va_K D cl tys s) (hP : va_P D cl ws H) (q0 t0 : Nat) {cA : ClassId} {n k : Nat} {v : Nat → Nat} (ha : ws[q0]? = some (a, .inl (cA, n, .inl (nF v)))) (ht : tys[t0]? = some (cA, .int)) (hk : k < n) (hn : n < 2 ^ 31) (hdg : decode cc pc = .ok (.iaload, 1))
    (kk : W p l e R s m args below meth c H locs cells slots Q (F0 m (pc + 1) ls (.int (nI (v k)) :: rest))) : W p l e R s m args below meth c H locs cells slots Q (F0 m pc ls (.int (nI k) :: .ref a :: rest)) := by
  refine va_iald hexec hb hK hP q0 t0 ha ht (vp_in_nI hk hn) hdg ?_
  rw [nI_clamp (by omega)]
  exact kk
theorem nr_zald (hexec : p.tables.exec = Jvm.exec) (hb : c.code = cc) (hK : va_K D cl tys s) (hP : va_P D cl ws H) (q0 t0 : Nat) {cA : ClassId} {n k : Nat} {v : Nat → Nat} (ha : ws[q0]? = some (a, .inl (cA, n, .inl (nF v)))) (ht : tys[t0]? = some (cA, .boolean)) (hk : k < n) (hn : n < 2 ^ 31) (hdg : decode cc pc = .ok (.baload, 1))
    (kk : W p l e R s m args below meth c H locs cells slots Q (F0 m (pc + 1) ls (.int (nI (v k)) :: rest))) : W p l e R s m args below meth c H locs cells slots Q (F0 m pc ls (.int (nI k) :: .ref a :: rest)) := by
  refine va_zald hexec hb hK hP q0 t0 ha ht (vp_in_nI hk hn) hdg ?_
  rw [nI_clamp (by omega)]
  exact kk
theorem nr_wald (hexec : p.tables.exec = Jvm.exec) (hb : c.code = cc) (hK : va_K D cl tys s) (hP : va_P D cl ws H) (q0 t0 : Nat) {cA : ClassId} {n k : Nat} {v : Nat → Int32} (ha : ws[q0]? = some (a, .inl (cA, n, .inl v))) (ht : tys[t0]? = some (cA, .int)) (hk : k < n) (hn : n < 2 ^ 31) (hdg : decode cc pc = .ok (.iaload, 1))
    (kk : W p l e R s m args below meth c H locs cells slots Q (F0 m (pc + 1) ls (.int (v k) :: rest))) : W p l e R s m args below meth c H locs cells slots Q (F0 m pc ls (.int (nI k) :: .ref a :: rest)) := by
  refine va_iald hexec hb hK hP q0 t0 ha ht (vp_in_nI hk hn) hdg ?_
  rw [nI_clamp (by omega)]
  exact kk
theorem nr_iast (hexec : p.tables.exec = Jvm.exec) (hb : c.code = cc) (hK : va_K D cl tys s) (hP : va_P D cl ws H) (hD : va_D A ws) (hS : va_S A H0 H locs) (q0 t0 : Nat) {cA : ClassId} {n k x : Nat} {v : Nat → Nat} (ha : ws[q0]? = some (a, .inl (cA, n, .inl (nF v)))) (ht : tys[t0]? = some (cA, .int)) (hk : k < n) (hn : n < 2 ^ 31) (hdg : decode cc pc = .ok (.iastore, 1))
    (kk : ∀ (H1 : Heap) (locs1 : List Loc), va_P D cl (ws.set q0 (a, .inl (cA, n, .inl (nF (ch_up v k x))))) H1 → va_D A (ws.set q0 (a, .inl (cA, n, .inl (nF (ch_up v k x))))) → va_S A H0 H1 locs1 → W p l e R s m args below meth c H1 locs1 cells slots Q (F0 m (pc + 1) ls rest)) : W p l e R s m args below meth c H locs cells slots Q (F0 m pc ls (.int (nI x) :: .int (nI k) :: .ref a :: rest)) := by
  refine va_iast hexec hb hK hP hD hS q0 t0 ha ht (vp_in_nI hk hn) hdg (fun H1 locs1 a1 a2 a3 => ?_)
  rw [nI_clamp (by omega), nF_up] at a1 a2
  exact kk H1 locs1 a1 a2 a3
theorem nr_zast (hexec : p.tables.exec = Jvm.exec) (hb : c.code = cc) (hK : va_K D cl tys s) (hP : va_P D cl ws H) (hD : va_D A ws) (hS : va_S A H0 H locs) (q0 t0 : Nat) {cA : ClassId} {n k x : Nat} {v : Nat → Nat} (ha : ws[q0]? = some (a, .inl (cA, n, .inl (nF v)))) (ht : tys[t0]? = some (cA, .boolean)) (hk : k < n) (hn : n < 2 ^ 31) (hx : x ≤ 1) (hdg : decode cc pc = .ok (.bastore, 1))
    (kk : ∀ (H1 : Heap) (locs1 : List Loc), va_P D cl (ws.set q0 (a, .inl (cA, n, .inl (nF (ch_up v k x))))) H1 → va_D A (ws.set q0 (a, .inl (cA, n, .inl (nF (ch_up v k x))))) → va_S A H0 H1 locs1 → W p l e R s m args below meth c H1 locs1 cells slots Q (F0 m (pc + 1) ls rest)) : W p l e R s m args below meth c H locs cells slots Q (F0 m pc ls (.int (nI x) :: .int (nI k) :: .ref a :: rest)) := by
  refine va_zast hexec hb hK hP hD hS q0 t0 ha ht (vp_in_nI hk hn) hdg (fun H1 locs1 a1 a2 a3 => ?_)
  rw [nI_clamp (by omega), nr_nz hx, nF_up] at a1 a2
  exact kk H1 locs1 a1 a2 a3
theorem nr_wast (hexec : p.tables.exec = Jvm.exec) (hb : c.code = cc) (hK : va_K D cl tys s) (hP : va_P D cl ws H) (hD : va_D A ws) (hS : va_S A H0 H locs) (q0 t0 : Nat) {cA : ClassId} {n k : Nat} {x : Int32} {v : Nat → Int32} (ha : ws[q0]? = some (a, .inl (cA, n, .inl v))) (ht : tys[t0]? = some (cA, .int)) (hk : k < n) (hn : n < 2 ^ 31) (hdg : decode cc pc = .ok (.iastore, 1))
    (kk : ∀ (H1 : Heap) (locs1 : List Loc), va_P D cl (ws.set q0 (a, .inl (cA, n, .inl (upd v k x)))) H1 → va_D A (ws.set q0 (a, .inl (cA, n, .inl (upd v k x)))) → va_S A H0 H1 locs1 → W p l e R s m args below meth c H1 locs1 cells slots Q (F0 m (pc + 1) ls rest)) : W p l e R s m args below meth c H locs cells slots Q (F0 m pc ls (.int x :: .int (nI k) :: .ref a :: rest)) := by
  refine va_iast hexec hb hK hP hD hS q0 t0 ha ht (vp_in_nI hk hn) hdg (fun H1 locs1 a1 a2 a3 => ?_)
  rw [nI_clamp (by omega)] at a1 a2
  exact kk H1 locs1 a1 a2 a3
theorem nr_iadd (hexec : p.tables.exec = Jvm.exec) (hb : c.code = cc) {x y : Nat} (hdg : decode cc pc = .ok (.iadd, 1))
    (k : W p l e R s m args below meth c H locs cells slots Q (F0 m (pc + 1) ls (.int (nI (x + y)) :: rest))) : W p l e R s m args below meth c H locs cells slots Q (F0 m pc ls (.int (nI y) :: .int (nI x) :: rest)) := by
  refine lv_iadd hexec hb hdg ?_
  rw [nI_add]; exact k
theorem nr_isub (hexec : p.tables.exec = Jvm.exec) (hb : c.code = cc) {x y : Nat} (h : y ≤ x) (hdg : decode cc pc = .ok (.isub, 1))
    (k : W p l e R s m args below meth c H locs cells slots Q (F0 m (pc + 1) ls (.int (nI (x - y)) :: rest))) : W p l e R s m args below meth c H locs cells slots Q (F0 m pc ls (.int (nI y) :: .int (nI x) :: rest)) := by
  refine lv_isub hexec hb hdg ?_
  rw [pk_sub h]; exact k
theorem nr_imul (hexec : p.tables.exec = Jvm.exec) (hb : c.code = cc) {x y : Nat} (hdg : decode cc pc = .ok (.imul, 1))
    (k : W p l e R s m args below meth c H locs cells slots Q (F0 m (pc + 1) ls (.int (nI (x * y)) :: rest))) : W p l e R s m args below meth c H locs cells slots Q (F0 m pc ls (.int (nI y) :: .int (nI x) :: rest)) := by
  refine lv_imul hexec hb hdg ?_
  rw [pk_mul]; exact k
theorem nr_idiv (hexec : p.tables.exec = Jvm.exec) (hb : c.code = cc) {x y : Nat} (h : x < 2 ^ 31) (h0 : 0 < y) (hy : y < 2 ^ 31) (hdg : decode cc pc = .ok (.idiv, 1))
    (k : W p l e R s m args below meth c H locs cells slots Q (F0 m (pc + 1) ls (.int (nI (x / y)) :: rest))) : W p l e R s m args below meth c H locs cells slots Q (F0 m pc ls (.int (nI y) :: .int (nI x) :: rest)) := by
  refine lv_idiv hexec hb hdg (nI_ne0 h0 hy) ?_
  rw [pk_div h h0 hy]; exact k
theorem nr_ishr2 (hexec : p.tables.exec = Jvm.exec) (hb : c.code = cc) {x : Nat} (h : x < 2 ^ 31) (hdg : decode cc pc = .ok (.ishr, 1))
    (k : W p l e R s m args below meth c H locs cells slots Q (F0 m (pc + 1) ls (.int (nI (x / 4)) :: rest))) : W p l e R s m args below meth c H locs cells slots Q (F0 m pc ls (.int (nI 2) :: .int (nI x) :: rest)) := by
  refine lv_ishr hexec hb hdg ?_
  rw [pk_shrN h (nI 2 &&& 31) 2 (by decide)]; exact k
theorem nr_icmp_eq (hexec : p.tables.exec = Jvm.exec) (hb : c.code = cc) {x y : Nat} (h1 : x < 2 ^ 31) (h2 : y < 2 ^ 31) {off : Int} {tgt : Nat} (hdg : decode cc pc = .ok (.if_icmp .eq off, 3)) (ht : (pc : Int) + off = (tgt : Int))
    (kt : x = y → W p l e R s m args below meth c H locs cells slots Q (F0 m tgt ls rest)) (kf : ¬ x = y → W p l e R s m args below meth c H locs cells slots Q (F0 m (pc + 3) ls rest)) : W p l e R s m args below meth c H locs cells slots Q (F0 m pc ls (.int (nI y) :: .int (nI x) :: rest)) :=
  lv_icmp_eq hexec hb hdg ht (fun h => kt ((nI_eq h1 h2).mp h)) (fun h => kf (fun q => h ((nI_eq h1 h2).mpr q)))
theorem nr_icmp_ne (hexec : p.tables.exec = Jvm.exec) (hb : c.code = cc) {x y : Nat} (h1 : x < 2 ^ 31) (h2 : y < 2 ^ 31) {off : Int} {tgt : Nat} (hdg : decode cc pc = .ok (.if_icmp .ne off, 3)) (ht : (pc : Int) + off = (tgt : Int))
    (kt : ¬ x = y → W p l e R s m args below meth c H locs cells slots Q (F0 m tgt ls rest)) (kf : x = y → W p l e R s m args below meth c H locs cells slots Q (F0 m (pc + 3) ls rest)) : W p l e R s m args below meth c H locs cells slots Q (F0 m pc ls (.int (nI y) :: .int (nI x) :: rest)) :=
  lv_icmp_ne hexec hb hdg ht (fun h => kt (fun q => h ((nI_eq h1 h2).mpr q))) (fun h => kf ((nI_eq h1 h2).mp h))
theorem nr_icmp_lt (hexec : p.tables.exec = Jvm.exec) (hb : c.code = cc) {x y : Nat} (h1 : x < 2 ^ 31) (h2 : y < 2 ^ 31) {off : Int} {tgt : Nat} (hdg : decode cc pc = .ok (.if_icmp .lt off, 3)) (ht : (pc : Int) + off = (tgt : Int))
    (kt : x < y → W p l e R s m args below meth c H locs cells slots Q (F0 m tgt ls rest)) (kf : ¬ x < y → W p l e R s m args below meth c H locs cells slots Q (F0 m (pc + 3) ls rest)) : W p l e R s m args below meth c H locs cells slots Q (F0 m pc ls (.int (nI y) :: .int (nI x) :: rest)) :=
  lv_icmp_lt hexec hb hdg ht (fun h => kt ((nI_ltI h1 h2).mp h)) (fun h => kf (fun q => h ((nI_ltI h1 h2).mpr q)))
theorem nr_icmp_ge (hexec : p.tables.exec = Jvm.exec) (hb : c.code = cc) {x y : Nat} (h1 : x < 2 ^ 31) (h2 : y < 2 ^ 31) {off : Int} {tgt : Nat} (hdg : decode cc pc = .ok (.if_icmp .ge off, 3)) (ht : (pc : Int) + off = (tgt : Int))
    (kt : y ≤ x → W p l e R s m args below meth c H locs cells slots Q (F0 m tgt ls rest)) (kf : ¬ y ≤ x → W p l e R s m args below meth c H locs cells slots Q (F0 m (pc + 3) ls rest)) : W p l e R s m args below meth c H locs cells slots Q (F0 m pc ls (.int (nI y) :: .int (nI x) :: rest)) :=
  lv_icmp_ge hexec hb hdg ht (fun h => kt ((nI_leI h2 h1).mp h)) (fun h => kf (fun q => h ((nI_leI h2 h1).mpr q)))
theorem nr_icmp_gt (hexec : p.tables.exec = Jvm.exec) (hb : c.code = cc) {x y : Nat} (h1 : x < 2 ^ 31) (h2 : y < 2 ^ 31) {off : Int} {tgt : Nat} (hdg : decode cc pc = .ok (.if_icmp .gt off, 3)) (ht : (pc : Int) + off = (tgt : Int))
    (kt : y < x → W p l e R s m args below meth c H locs cells slots Q (F0 m tgt ls rest)) (kf : ¬ y < x → W p l e R s m args below meth c H locs cells slots Q (F0 m (pc + 3) ls rest)) : W p l e R s m args below meth c H locs cells slots Q (F0 m pc ls (.int (nI y) :: .int (nI x) :: rest)) :=
  lv_icmp_gt hexec hb hdg ht (fun h => kt ((nI_ltI h2 h1).mp h)) (fun h => kf (fun q => h ((nI_ltI h2 h1).mpr q)))
theorem nr_icmp_le (hexec : p.tables.exec = Jvm.exec) (hb : c.code = cc) {x y : Nat} (h1 : x < 2 ^ 31) (h2 : y < 2 ^ 31) {off : Int} {tgt : Nat} (hdg : decode cc pc = .ok (.if_icmp .le off, 3)) (ht : (pc : Int) + off = (tgt : Int))
    (kt : x ≤ y → W p l e R s m args below meth c H locs cells slots Q (F0 m tgt ls rest)) (kf : ¬ x ≤ y → W p l e R s m args below meth c H locs cells slots Q (F0 m (pc + 3) ls rest)) : W p l e R s m args below meth c H locs cells slots Q (F0 m pc ls (.int (nI y) :: .int (nI x) :: rest)) :=
  lv_icmp_le hexec hb hdg ht (fun h => kt ((nI_leI h1 h2).mp h)) (fun h => kf (fun q => h ((nI_leI h1 h2).mpr q)))
theorem nr_if_eq (hexec : p.tables.exec = Jvm.exec) (hb : c.code = cc) {x : Nat} (h1 : x < 2 ^ 31) {off : Int} {tgt : Nat} (hdg : decode cc pc = .ok (.ifCond .eq off, 3)) (ht : (pc : Int) + off = (tgt : Int))
    (kt : x = 0 → W p l e R s m args below meth c H locs cells slots Q (F0 m tgt ls rest)) (kf : ¬ x = 0 → W p l e R s m args below meth c H locs cells slots Q (F0 m (pc + 3) ls rest)) : W p l e R s m args below meth c H locs cells slots Q (F0 m pc ls (.int (nI x) :: rest)) :=
  lv_if_eq hexec hb hdg ht (fun h => kt ((nI_eq h1 (by decide)).mp (h.trans nI_0.symm))) (fun h => kf (fun q => h (by rw [q]; exact nI_0)))
theorem nr_if_ne (hexec : p.tables.exec = Jvm.exec) (hb : c.code = cc) {x : Nat} (h1 : x < 2 ^ 31) {off : Int} {tgt : Nat} (hdg : decode cc pc = .ok (.ifCond .ne off, 3)) (ht : (pc : Int) + off = (tgt : Int))
    (kt : ¬ x = 0 → W p l e R s m args below meth c H locs cells slots Q (F0 m tgt ls rest)) (kf : x = 0 → W p l e R s m args below meth c H locs cells slots Q (F0 m (pc + 3) ls rest)) : W p l e R s m args below meth c H locs cells slots Q (F0 m pc ls (.int (nI x) :: rest)) :=
  lv_if_ne hexec hb hdg ht (fun h => kt (fun q => h (by rw [q]; exact nI_0))) (fun h => kf ((nI_eq h1 (by decide)).mp (h.trans nI_0.symm)))
theorem nr_if_le (hexec : p.tables.exec = Jvm.exec) (hb : c.code = cc) {x : Nat} (h1 : x < 2 ^ 31) {off : Int} {tgt : Nat} (hdg : decode cc pc = .ok (.ifCond .le off, 3)) (ht : (pc : Int) + off = (tgt : Int))
    (kt : x = 0 → W p l e R s m args below meth c H locs cells slots Q (F0 m tgt ls rest)) (kf : ¬ x = 0 → W p l e R s m args below meth c H locs cells slots Q (F0 m (pc + 3) ls rest)) : W p l e R s m args below meth c H locs cells slots Q (F0 m pc ls (.int (nI x) :: rest)) :=
  lv_if_le hexec hb hdg ht (fun h => kt (by rw [← nI_0, nI_leI h1 (by decide)] at h; omega)) (fun h => kf (fun q => h (by rw [q]; decide)))
theorem gtX (hexec : p.tables.exec = Jvm.exec) (hb : c.code = cc) (hts : ∀ w ∈ lw_g, w.before args s = true) (hown : s.vm.findClass R_X = some m.cls) (hK : va_K D classes tys s) (hP : va_P D classes ws H) {fs : List Value} {idx k : Nat} {v : Value} {nm ds : String} (hl : Cond.fieldLink R_X idx "CertaintyChainer" nm ds ∈ lw_g) (he : ws[0]? = some (a, .inr (0, fs))) (hk : k < 17) (hf : (F_X k).2.1 = nm ∧ (F_X k).2.2.1 = ds ∧ (F_X k).1 = "CertaintyChainer") (hv : fs[k]? = some v) (hdg : decode cc pc = .ok (.getfield idx, 3))
    (kk : W p l e R s m args below meth c H locs cells slots Q (F0 m (pc + 3) ls (v :: rest))) : W p l e R s m args below meth c H locs cells slots Q (F0 m pc ls (.ref a :: rest)) := by
  obtain ⟨rfl, rfl, e⟩ := hf
  exact va_get (D := D) (ci := 0) (C := R_X) (T := F_X) (N := 17) (ref := "CertaintyChainer") hexec hb hts i_X hown hK hP 0 he rfl k hk (hts _ hl) (fun _ h9 => by rw [e] at h9; exact h9) hv hdg kk
theorem gtM (hexec : p.tables.exec = Jvm.exec) (hb : c.code = cc) (hts : ∀ w ∈ lw_g, w.before args s = true) (hown : s.vm.findClass R_M = some m.cls) (hK : va_K D classes tys s) (hP : va_P D classes ws H) {fs : List Value} {idx k : Nat} {v : Value} {nm ds : String} (hl : Cond.fieldLink R_M idx "CertaintyChainerModel" nm ds ∈ lw_g) (he : ws[0]? = some (a, .inr (1, fs))) (hk : k < 12) (hf : (F_M k).2.1 = nm ∧ (F_M k).2.2.1 = ds ∧ (F_M k).1 = "CertaintyChainerModel") (hv : fs[k]? = some v) (hdg : decode cc pc = .ok (.getfield idx, 3))
    (kk : W p l e R s m args below meth c H locs cells slots Q (F0 m (pc + 3) ls (v :: rest))) : W p l e R s m args below meth c H locs cells slots Q (F0 m pc ls (.ref a :: rest)) := by
  obtain ⟨rfl, rfl, e⟩ := hf
  exact va_get (D := D) (ci := 1) (C := R_M) (T := F_M) (N := 12) (ref := "CertaintyChainerModel") hexec hb hts i_M hown hK hP 0 he rfl k hk (hts _ hl) (fun _ h9 => by rw [e] at h9; exact h9) hv hdg kk
theorem ptX (hexec : p.tables.exec = Jvm.exec) (hb : c.code = cc) (hts : ∀ w ∈ lw_g, w.before args s = true) (hown : s.vm.findClass R_X = some m.cls) (hK : va_K D classes tys s) (hP : va_P D classes ws H) (hD : va_D A ws) (hS : va_S A H0 H locs) {fs : List Value} {idx k : Nat} {v : Value} {nm ds : String} {ty : FieldType} (hl : Cond.fieldLink R_X idx "CertaintyChainer" nm ds ∈ lw_g) (he : ws[0]? = some (a, .inr (0, fs))) (hk : k < 17) (hf : (F_X k).2.1 = nm ∧ (F_X k).2.2.1 = ds ∧ (F_X k).1 = "CertaintyChainer" ∧ (F_X k).2.2.2 = false) (hd : parseFieldDescriptor (F_X k).2.2.1 = some ty) (hn : narrow ty v = v) (hfit : fits ty v = true) (hlen : k < fs.length) (hdg : decode cc pc = .ok (.putfield idx, 3))
    (kk : ∀ (H1 : Heap) (locs1 : List Loc), va_P D classes (ws.set 0 (a, .inr (0, fs.set k v))) H1 → va_D A (ws.set 0 (a, .inr (0, fs.set k v))) → va_S A H0 H1 locs1 → W p l e R s m args below meth c H1 locs1 cells slots Q (F0 m (pc + 3) ls rest)) : W p l e R s m args below meth c H locs cells slots Q (F0 m pc ls (v :: .ref a :: rest)) := by
  obtain ⟨rfl, rfl, e, h4⟩ := hf
  exact va_put (D := D) (ci := 0) (C := R_X) (T := F_X) (N := 17) (ref := "CertaintyChainer") hexec hb hts i_X t_X t_X_ok n_X hown hK hP hD hS 0 he rfl k hk (hts _ hl) (fun _ h9 => by rw [e] at h9; exact h9) h4 hd hn hfit hlen hdg kk
theorem ptM (hexec : p.tables.exec = Jvm.exec) (hb : c.code = cc) (hts : ∀ w ∈ lw_g, w.before args s = true) (hown : s.vm.findClass R_M = some m.cls) (hK : va_K D classes tys s) (hP : va_P D classes ws H) (hD : va_D A ws) (hS : va_S A H0 H locs) {fs : List Value} {idx k : Nat} {v : Value} {nm ds : String} {ty : FieldType} (hl : Cond.fieldLink R_M idx "CertaintyChainerModel" nm ds ∈ lw_g) (he : ws[0]? = some (a, .inr (1, fs))) (hk : k < 12) (hf : (F_M k).2.1 = nm ∧ (F_M k).2.2.1 = ds ∧ (F_M k).1 = "CertaintyChainerModel" ∧ (F_M k).2.2.2 = false) (hd : parseFieldDescriptor (F_M k).2.2.1 = some ty) (hn : narrow ty v = v) (hfit : fits ty v = true) (hlen : k < fs.length) (hdg : decode cc pc = .ok (.putfield idx, 3))
    (kk : ∀ (H1 : Heap) (locs1 : List Loc), va_P D classes (ws.set 0 (a, .inr (1, fs.set k v))) H1 → va_D A (ws.set 0 (a, .inr (1, fs.set k v))) → va_S A H0 H1 locs1 → W p l e R s m args below meth c H1 locs1 cells slots Q (F0 m (pc + 3) ls rest)) : W p l e R s m args below meth c H locs cells slots Q (F0 m pc ls (v :: .ref a :: rest)) := by
  obtain ⟨rfl, rfl, e, h4⟩ := hf
  exact va_put (D := D) (ci := 1) (C := R_M) (T := F_M) (N := 12) (ref := "CertaintyChainerModel") hexec hb hts i_M t_M t_M_ok n_M hown hK hP hD hS 0 he rfl k hk (hts _ hl) (fun _ h9 => by rw [e] at h9; exact h9) h4 hd hn hfit hlen hdg kk
end NR
def ch_ic (x : Int32) (n : Nat) : Bool := decide (0 ≤ x.toInt ∧ x.toInt < n)
theorem ch_ic_get {x : Int32} {n : Nat} (h : ch_ic x n = true) (hn : n < 2 ^ 31) : ∃ j, j < n ∧ x = nI j := vp_in_of (vp_in_iff.mpr (of_decide_eq_true h)) hn
theorem ch_ic_nI {j n : Nat} (h : j < n) (hn : n < 2 ^ 31) : ch_ic (nI j) n = true := decide_eq_true (vp_in_iff.mp (vp_in_nI h hn))
theorem ch_ic_f {x : Int32} {n : Nat} (h : ¬ ∃ j, j < n ∧ x = nI j) (hn : n < 2 ^ 31) : ch_ic x n = false := by
  cases q : ch_ic x n with
  | false => rfl
  | true => exact absurd (ch_ic_get q hn) h
theorem ch_ic_ok {x : Int32} {n : Nat} (h1 : ¬ x < 0) (h2 : ¬ nI n ≤ x) (hn : n < 2 ^ 31) : ch_ic x n = true := by
  obtain ⟨j, hj, rfl⟩ := nI_of h1
  rw [nI_leI hn hj] at h2
  exact ch_ic_nI (by omega) hn
theorem ch_ic_neg {x : Int32} {n : Nat} (h1 : x < 0) (hn : n < 2 ^ 31) : ch_ic x n = false := ch_ic_f (fun ⟨j, hj, e⟩ => by rw [e] at h1; exact nI_pos (by omega) h1) hn
theorem ch_ic_big {x : Int32} {n : Nat} (h1 : nI n ≤ x) (hn : n < 2 ^ 31) : ch_ic x n = false := ch_ic_f (fun ⟨j, hj, e⟩ => by rw [e, nI_leI hn (by omega)] at h1; omega) hn
section CT
/-- the start of a contract over one of the two worlds -/
theorem ct_start {l : Launch} {y : MethodName} {b : ByteArray} {maxL : Nat} {ret : Option FieldType} {rm : Room} {D : va_G} {w0 : va_W} {ty : List (ClassId × FieldType)} {sz : Nat} {As : List Value} {Qc : Array Value → State → Outcome → State → Prop} {mc ms : Nat} (hy : plainName y.cls = true) (hlen : (lg_sl As).length ≤ maxL)
    (body : ∀ (p : Program) (e : Env) (s : State) (m : MethodId) (args : Array Value) (below : List Frame) (meth : Method) (c : Code) (A : Nat → Prop) (Q : State → Prop) (ls : Array Slot), p.tables.exec = Jvm.exec → c.code = b → meth.sig.returnType = ret → meth.locks = false → c.maxLocals = maxL → (∀ w ∈ lw_g, w.before args s = true) → s.vm.findClass y.cls = some m.cls → meth.name = y.name → (∀ q : Nat, s.heap.size ≤ q → A q) → A = va_A w0 sz → s.heap.size = sz → va_S A s.heap s.heap [] → va_P D classes w0 s.heap → va_D A w0 → va_K D classes ty s → lv_has ls maxL (lv_args 0 As) → Q = MQ below Qc args s mc ms A → W p l e rm s m args below meth c s.heap [] 0 0 Q (F0 m 0 ls [])) :
    Met l y (Cond.code y b maxL ret :: lw_g) rm (va_Pc As (Pw D w0 ty sz)) Qc mc ms (va_A w0 sz) := by
  refine Met.ofW (cc := b) (maxL := maxL) (ret := ret) hy rfl ?_
  intro p e s m args below meth c s₁ B hml hv
  obtain ⟨rfl, hsz, hP, hK, hD0⟩ := hv
  have hts := atoms_spec (ws := Cond.code y b maxL ret :: lw_g) B.pre
  have hown : s.vm.findClass y.cls = some m.cls := findClass_of_methodNamed B.named
  have hD := hD0.self (sz := sz)
  have hl := lv_entry As (n := maxL) hlen
  rw [lg_entry_eq]
  exact body p e s m As.toArray below meth c (va_A w0 sz) _ _ B.exec B.bytes B.returns B.notSynchronized hml (fun w h => hts w (List.mem_cons_of_mem _ h)) hown (name_of_methodNamed B.named B.method).1 (fun q h => Or.inr (by rw [← hsz]; exact h)) rfl hsz va_S.rf hP hD hK hl rfl
variable {p : Program} {l : Launch} {e : Env} {R : Room} {s : State} {m : MethodId} {args : Array Value} {below : List Frame} {meth : Method} {c : Code} {H : Heap} {locs : List Loc} {cells slots : Nat} {Q : State → Prop}
variable {cc : ByteArray} {pc : Nat} {ls : Array Slot} {D : va_G} {A : Nat → Prop} {ty : List (ClassId × FieldType)} {w0 : va_W} {sz : Nat}
theorem ct_iret {S : Type} {post : Int32 → S → Prop} {w1 : S → va_W} {v : Int32} (u : S) (hQ : Q = MQ below (va_Qi post (fun u => Bw D w0 (w1 u) ty sz) (va_A w0 sz)) args s cells slots A) (hexec : p.tables.exec = Jvm.exec) (hb : c.code = cc) (hr : meth.sig.returnType = some .int) (hlocks : meth.locks = false) (hAe : A = va_A w0 sz) (hK : va_K D classes ty s) (hP : va_P D classes (w1 u) H) (hD : va_D A (w1 u)) (hS : va_S A s.heap H locs)
    (hpost : post v u) (hdg : decode cc pc = .ok (.ireturn, 1)) : W p l e R s m args below meth c H locs cells slots Q (F0 m pc ls [.int v]) := by
  subst hAe hQ
  exact W.iret (v := v) hexec hb hr (fun t ht hW => ⟨⟨v, u, rfl, hpost, by rw [ht]; exact hP, va_K.moved hW.alike hK, hD⟩, hS.F ht⟩) hS.2.2 hdg
theorem ct_zret {S : Type} {post : Int32 → S → Prop} {w1 : S → va_W} {v : Int32} (u : S) (hQ : Q = MQ below (va_Qi post (fun u => Bw D w0 (w1 u) ty sz) (va_A w0 sz)) args s cells slots A) (hn : v = nI 0 ∨ v = nI 1) (hexec : p.tables.exec = Jvm.exec) (hb : c.code = cc) (hr : meth.sig.returnType = some .boolean) (hlocks : meth.locks = false) (hAe : A = va_A w0 sz) (hK : va_K D classes ty s) (hP : va_P D classes (w1 u) H) (hD : va_D A (w1 u)) (hS : va_S A s.heap H locs)
    (hpost : post v u) (hdg : decode cc pc = .ok (.ireturn, 1)) : W p l e R s m args below meth c H locs cells slots Q (F0 m pc ls [.int v]) := by
  subst hAe hQ
  exact W.zret (v := v) hexec hb hr (by rcases hn with h | h <;> subst h <;> decide) (fun t ht hW => ⟨⟨v, u, rfl, hpost, by rw [ht]; exact hP, va_K.moved hW.alike hK, hD⟩, hS.F ht⟩) hS.2.2 hdg
theorem ct_vret {S : Type} {post : S → Prop} {w1 : S → va_W} (u : S) (hQ : Q = MQ below (va_Qv post (fun u => Bw D w0 (w1 u) ty sz) (va_A w0 sz)) args s cells slots A) (hexec : p.tables.exec = Jvm.exec) (hb : c.code = cc) (hr : meth.sig.returnType = none) (hlocks : meth.locks = false) (hAe : A = va_A w0 sz) (hK : va_K D classes ty s) (hP : va_P D classes (w1 u) H) (hD : va_D A (w1 u)) (hS : va_S A s.heap H locs)
    (hpost : post u) (hdg : decode cc pc = .ok (.return_, 1)) : W p l e R s m args below meth c H locs cells slots Q (F0 m pc ls []) := by
  subst hAe hQ
  exact W.vret hexec hb hr (fun t ht hW => ⟨⟨u, rfl, hpost, by rw [ht]; exact hP, va_K.moved hW.alike hK, hD⟩, hS.F ht⟩) hS.2.2 hdg
theorem ct_free {A0 : Nat → Prop} {H0 : Heap} (hD : va_D A0 w0) (hS : va_S A0 H0 H locs) (hA : ∀ q, H0.size ≤ q → A0 q) : ∀ q, va_A w0 H.size q → A0 q := by
  intro q h
  rcases h with ⟨k, e, h⟩ | h
  · exact hD.2 k (q, e) h
  · exact hA q (Nat.le_trans hS.1 h)
theorem ct_blind (As : List Value) : FrameBlind (va_Pc As (Pw D w0 ty sz)) := by
  intro a U g mk q
  obtain ⟨q0, q1, qP, qK, qD⟩ := q
  exact ⟨q0, q1, qP, va_K.moved (u := U) (U := U.calling g mk a) (Vm.Alike.refl U.vm) qK, qD⟩
variable {y : MethodName} {bytes : ByteArray} {maxL nL n index : Nat} {ret : Option FieldType} {ws : List Cond} {rm : Room} {Ts : List Cond} {own C : String} {b : Addr} {As rest st0 : List Value} {A0 : Nat → Prop} {H0 : Heap}
theorem xc_iV {S : Type} {post : Int32 → S → Prop} {w1 : S → va_W} (F : CallFix p m c cc nL s args Ts own)
    (hM : Met l y ws rm (va_Pc (.ref b :: As) (Pw D w0 ty H.size)) (va_Qi post (fun u => Bw D w0 (w1 u) ty H.size) (va_A w0 H.size)) 0 0 (va_A w0 H.size)) (cw : CallW R s args own C index y bytes maxL ret ws rm 0 0 n)
    (hrecv : ∃ cell : Cell, H[b]? = some cell ∧ cell.vm.isStatics = false ∧ s.vm.findClass C = some cell.cls) (hK : va_K D classes ty s) (hP : va_P D classes w0 H) (hD : va_D A0 w0) (hS : va_S A0 H0 H locs) (hA : ∀ q, H0.size ≤ q → A0 q)
    (hn : As.length = n) (hsize : ls.size = nL) (hst : st0 = As.reverse ++ .ref b :: rest) (hW : (rest.map fun v => v.category).sum ≤ 8) (hdg : decode cc pc = .ok (.invokevirtual index, 3)) (hc : cells ≤ R.cells ∧ slots ≤ R.slots)
    (kk : ∀ (r : Int32) (u : S) (H1 : Heap) (locs1 : List Loc), post r u → va_P D classes (w1 u) H1 → va_D A0 (w1 u) → va_S A0 H0 H1 locs1 → W p l e R s m args below meth c H1 locs1 cells slots Q (F0 m (pc + 3) ls (.int r :: rest))) : W p l e R s m args below meth c H locs cells slots Q (F0 m pc ls st0) := by
  have hFc := ct_free hD hS hA
  refine va_calli (va_runV (As := As) (rest := rest) F hM cw ⟨ct_blind _, hrecv, fun U hU hW => ⟨rfl, by rw [hU], by rw [hU]; exact hP, va_K.moved hW.alike hK, hD.weaken (fun _ _ _ _ => trivial)⟩⟩ rfl hn hsize hst (lv_room hW) hdg hc) hS (fun q _ h => hFc q h) hFc (fun r u t H1 locs1 ht hvm hw hB hz1 hk1 hS1 => ?_)
  exact kk r u H1 locs1 hw (by rw [← ht]; exact hB.1) (hB.2.2.weaken (fun k q _ h => hFc q.1 h)) hS1
theorem xc_vV {S : Type} {post : S → Prop} {w1 : S → va_W} (F : CallFix p m c cc nL s args Ts own)
    (hM : Met l y ws rm (va_Pc (.ref b :: As) (Pw D w0 ty H.size)) (va_Qv post (fun u => Bw D w0 (w1 u) ty H.size) (va_A w0 H.size)) 0 0 (va_A w0 H.size)) (cw : CallW R s args own C index y bytes maxL ret ws rm 0 0 n)
    (hrecv : ∃ cell : Cell, H[b]? = some cell ∧ cell.vm.isStatics = false ∧ s.vm.findClass C = some cell.cls) (hK : va_K D classes ty s) (hP : va_P D classes w0 H) (hD : va_D A0 w0) (hS : va_S A0 H0 H locs) (hA : ∀ q, H0.size ≤ q → A0 q)
    (hn : As.length = n) (hsize : ls.size = nL) (hst : st0 = As.reverse ++ .ref b :: rest) (hW : (rest.map fun v => v.category).sum ≤ 8) (hdg : decode cc pc = .ok (.invokevirtual index, 3)) (hc : cells ≤ R.cells ∧ slots ≤ R.slots)
    (kk : ∀ (u : S) (H1 : Heap) (locs1 : List Loc), post u → va_P D classes (w1 u) H1 → va_D A0 (w1 u) → va_S A0 H0 H1 locs1 → W p l e R s m args below meth c H1 locs1 cells slots Q (F0 m (pc + 3) ls rest)) : W p l e R s m args below meth c H locs cells slots Q (F0 m pc ls st0) := by
  have hFc := ct_free hD hS hA
  refine va_callv (va_runV (As := As) (rest := rest) F hM cw ⟨ct_blind _, hrecv, fun U hU hW => ⟨rfl, by rw [hU], by rw [hU]; exact hP, va_K.moved hW.alike hK, hD.weaken (fun _ _ _ _ => trivial)⟩⟩ rfl hn hsize hst (lv_room hW) hdg hc) hS (fun q _ h => hFc q h) hFc (fun u t H1 locs1 ht hvm hw hB hz1 hk1 hS1 => ?_)
  exact kk u H1 locs1 hw (by rw [← ht]; exact hB.1) (hB.2.2.weaken (fun k q _ h => hFc q.1 h)) hS1
/-- a static method that looks at no cell -/
theorem xc_iS {post : Int32 → Prop} (F : CallFix p m c cc nL s args Ts own)
    (hM : Met l y ws rm (va_Pc As (fun _ => True)) (va_Qi (fun r (_ : Unit) => post r) (fun _ _ => True) (fun _ => False)) 0 0 (fun _ => False)) (cw : CallB R s args own index y bytes maxL ret ws rm 0 0 n ∧ (Cond.static y).before args s = true)
    (hP : va_P D classes w0 H) (hS : va_S A0 H0 H locs)
    (hn : As.length = n) (hsize : ls.size = nL) (hst : st0 = As.reverse ++ rest) (hW : (rest.map fun v => v.category).sum ≤ 8) (hdg : decode cc pc = .ok (.invokestatic index, 3)) (hc : cells ≤ R.cells ∧ slots ≤ R.slots)
    (kk : ∀ (r : Int32) (H1 : Heap) (locs1 : List Loc), post r → va_P D classes w0 H1 → va_S A0 H0 H1 locs1 → W p l e R s m args below meth c H1 locs1 cells slots Q (F0 m (pc + 3) ls (.int r :: rest))) : W p l e R s m args below meth c H locs cells slots Q (F0 m pc ls st0) := by
  refine va_calli (va_runS (As := As) (rest := rest) F hM cw ⟨fun a U g mk q => ⟨q.1, trivial⟩, fun U hU hW => ⟨rfl, trivial⟩⟩ rfl hn hsize hst (lv_room hW) hdg hc) hS (fun q _ h => h.elim) (fun q h => h.elim) (fun r u t H1 locs1 ht hvm hw hB hz1 hk1 hS1 => ?_)
  exact kk r H1 locs1 hw (hP.kept (fun k q hq => hk1 q.1 (hP k q hq).lt (fun h => h))) hS1
end CT
theorem gd_w {ws : List Cond} {y : MethodName} {b : ByteArray} {n : Nat} {ret : Option FieldType} (h : ∀ w ∈ ws, w ∈ lw_g) (h5 : Cond.code y b n ret ∈ lw_g) : GoodIn lw_g (ws ++ (Cond.code y b n ret :: lw_g)) := by
  intro w hw
  have : w ∈ lw_g := by
    rcases List.mem_append.mp hw with q | q
    · exact h w q
    · rcases List.mem_cons.mp q with q | q
      · rw [q]; exact h5
      · exact q
  exact ⟨this, good_of_word (lw_good w this)⟩
theorem gd_v {own C : String} {idx : Nat} {y : MethodName} {b : ByteArray} {n : Nat} {ret : Option FieldType} (h1 : Cond.methodLink own idx y ∈ lw_g) (h2 : Cond.instanceMethod y ∈ lw_g) (h3 : Cond.selects C y y ∈ lw_g) (h4 : Cond.initialized C ∈ lw_g) (h5 : Cond.code y b n ret ∈ lw_g) : GoodIn lw_g (wsV own idx C y (Cond.code y b n ret :: lw_g)) := by
  refine gd_w (fun w hw => ?_) h5
  simp only [List.mem_cons, List.not_mem_nil, or_false] at hw
  rcases hw with e | e | e | e <;> subst e <;> assumption
theorem gd_s {own : String} {idx : Nat} {y : MethodName} {b : ByteArray} {n : Nat} {ret : Option FieldType} (h1 : Cond.methodLink own idx y ∈ lw_g) (h2 : Cond.static y ∈ lw_g) (h4 : Cond.initialized own ∈ lw_g) (h5 : Cond.code y b n ret ∈ lw_g) : GoodIn lw_g (wsS own idx y (Cond.code y b n ret :: lw_g)) := by
  refine gd_w (fun w hw => ?_) h5
  simp only [List.mem_cons, List.not_mem_nil, or_false] at hw
  rcases hw with e | e | e <;> subst e <;> assumption
end
section
/-! ===== the class's inner methods: isClaim, isRule, worth, makeOffer, count, best ===== -/
theorem nr_subsub (a b c : Int32) : a - b - c = a - (b + c) := by
  rw [Int32.sub_eq_add_neg a (b + c), Int32.neg_add, Int32.sub_eq_add_neg (a - b) c, Int32.sub_eq_add_neg a b, Int32.sub_eq_add_neg (-b) c, Int32.add_assoc]
theorem nr_nm1 {g : Nat} (h : g < 2 ^ 31) : ¬ nI g = (-1) := fun q => nI_pos h (by rw [q]; decide)
/-- best's loop: what is found among f .. k - 1 -/
def ch_bs (sl of : Nat → Nat) (f k : Nat) (fd : Int32) : Prop := (fd = (-1) ∧ ∀ d, f ≤ d → d < k → sl d ≠ 0) ∨ ∃ g, fd = nI g ∧ f ≤ g ∧ g < k ∧ sl g = 0 ∧ ∀ d, f ≤ d → d < k → sl d = 0 → of d ≤ of g
theorem ch_bs_skip {sl of : Nat → Nat} {f k : Nat} {fd : Int32} (h : ch_bs sl of f k fd) (hs : ¬ sl k = 0) : ch_bs sl of f (k + 1) fd := by
  rcases h with ⟨e, h⟩ | ⟨g, e, h1, h2, h3, h4⟩
  · refine Or.inl ⟨e, fun d a b => ?_⟩
    by_cases z : d = k
    · rw [z]; exact hs
    · exact h d a (by omega)
  · refine Or.inr ⟨g, e, h1, by omega, h3, fun d a b q => ?_⟩
    by_cases z : d = k
    · rw [z] at q; exact absurd q hs
    · exact h4 d a (by omega) q
theorem ch_bs_keep {sl of : Nat → Nat} {f k g : Nat} (h1 : f ≤ g) (h2 : g < k) (h3 : sl g = 0) (h4 : ∀ d, f ≤ d → d < k → sl d = 0 → of d ≤ of g) (hs : of k ≤ of g) : ch_bs sl of f (k + 1) (nI g) := by
  refine Or.inr ⟨g, rfl, h1, by omega, h3, fun d a b q => ?_⟩
  by_cases z : d = k
  · rw [z]; exact hs
  · exact h4 d a (by omega) q
theorem ch_bs_new {sl of : Nat → Nat} {f k : Nat} (h1 : f ≤ k) (h3 : sl k = 0) (h4 : ∀ d, f ≤ d → d < k → sl d = 0 → of d ≤ of k) : ch_bs sl of f (k + 1) (nI k) := by
  refine Or.inr ⟨k, rfl, h1, by omega, h3, fun d a b q => ?_⟩
  by_cases z : d = k
  · rw [z]; exact Nat.le_refl _
  · exact h4 d a (by omega) q
def bX (hd st sz pt ng dp dn se va of sl kp : Nat → Nat) (ds cn cu : Nat) : Prop := ch_bd 15 hd ∧ ch_bd 100 st ∧ ch_bd 3 sz ∧ ch_bd 15 pt ∧ ch_bd 1 ng ∧ ch_bd 15 dp ∧ ch_bd 1 dn ∧ ch_bd 100 se ∧ ch_bd 100 va ∧ ch_bd 100 of ∧ ch_bd 1 sl ∧ ch_bd 100 kp ∧ ds ≤ 3 ∧ cn ≤ 20 ∧ cu ≤ 1
def bM (se dp dn hd st sz pt ng va kp : Nat → Nat) (ds cn : Nat) : Prop := ch_bd 100 se ∧ ch_bd 15 dp ∧ ch_bd 1 dn ∧ ch_bd 15 hd ∧ ch_bd 100 st ∧ ch_bd 3 sz ∧ ch_bd 15 pt ∧ ch_bd 1 ng ∧ ch_bd 100 va ∧ ch_bd 100 kp ∧ ds ≤ 3 ∧ cn ≤ 20
abbrev rm_X_isClaim : Room := { frames := 0, cells := 0, slots := 0, locals := 0 }
set_option maxHeartbeats 4000000 in
set_option maxRecDepth 100000 in
/-- isClaim(x): 1 where x is 0..15 -/
theorem c_X_isClaim (l : Launch) (x : Int32) : Met l y_X_isClaim w_X_isClaim rm_X_isClaim (va_Pc [.int x] (fun _ => True)) (va_Qi (fun r (_ : Unit) => (ch_ic x 16 = true ∧ r = nI 1) ∨ (ch_ic x 16 = false ∧ r = nI 0)) (fun _ _ => True) (fun _ => False)) 0 0 (fun _ => False) := by
  refine Met.ofW (cc := b_X_isClaim) (maxL := 1) (ret := (some .boolean)) (by decide) rfl ?_
  intro p e s m args below meth c s₁ B hml hv
  obtain ⟨rfl, -⟩ := hv
  have hx := B.exec
  have hb := B.bytes
  have hr := B.returns
  have hlocks := B.notSynchronized
  have hl := lv_entry ([.int x]) (n := 1) (Nat.le_of_ble_eq_true rfl)
  rw [lg_entry_eq]
  generalize (lg_sl ([.int x]) ++ List.replicate (1 - (lg_sl ([.int x])).length) Slot.unset).toArray = ls at hl ⊢
  have hl : lv_has ls 1 [(0, .int x)] := hl
  refine lv_iload_n hx hb d_X_isClaim_0 rfl (lv_at hl 0 rfl) ?_
  refine lv_if_lt (tgt := 14) hx hb d_X_isClaim_1 (by decide) (fun c1 => ?_) (fun c1 => ?_)
  · refine lv_iconst (v := nI 0) hx hb d_X_isClaim_14 (by decide) ?_
    exact W.zret (v := nI 0) hx hb hr (by decide) (fun t ht hW => ⟨⟨_, (), rfl, Or.inr ⟨ch_ic_neg c1 (by decide), rfl⟩, trivial⟩, by rw [ht]; exact Nat.le_refl _, fun q _ _ => by rw [ht]⟩) (fun q h => by cases h) d_X_isClaim_15
  · refine lv_iload_n hx hb d_X_isClaim_4 rfl (lv_at hl 0 rfl) ?_
    refine lv_bipush (v := nI 16) hx hb d_X_isClaim_5 (by decide) ?_
    refine lv_icmp_ge (tgt := 14) hx hb d_X_isClaim_7 (by decide) (fun c7 => ?_) (fun c7 => ?_)
    · refine lv_iconst (v := nI 0) hx hb d_X_isClaim_14 (by decide) ?_
      exact W.zret (v := nI 0) hx hb hr (by decide) (fun t ht hW => ⟨⟨_, (), rfl, Or.inr ⟨ch_ic_big c7 (by decide), rfl⟩, trivial⟩, by rw [ht]; exact Nat.le_refl _, fun q _ _ => by rw [ht]⟩) (fun q h => by cases h) d_X_isClaim_15
    · refine lv_iconst (v := nI 1) hx hb d_X_isClaim_10 (by decide) ?_
      refine lv_goto (tgt := 15) hx hb d_X_isClaim_11 (by decide) ?_
      exact W.zret (v := nI 1) hx hb hr (by decide) (fun t ht hW => ⟨⟨_, (), rfl, Or.inl ⟨ch_ic_ok c1 c7 (by decide), rfl⟩, trivial⟩, by rw [ht]; exact Nat.le_refl _, fun q _ _ => by rw [ht]⟩) (fun q h => by cases h) d_X_isClaim_15
abbrev rm_X_isRule : Room := { frames := 0, cells := 0, slots := 0, locals := 0 }
set_option maxHeartbeats 4000000 in
set_option maxRecDepth 100000 in
/-- isRule(x): 1 where x is a rule's number -/
theorem c_X_isRule (l : Launch) (D : va_G) (h0 : Nat) (ad : Nat → Nat) (ca : Nat → ClassId) (hd : Nat → Nat) (st : Nat → Nat) (sz : Nat → Nat) (pt : Nat → Nat) (ng : Nat → Nat) (dp : Nat → Nat) (dn : Nat → Nat) (se : Nat → Nat) (va : Nat → Nat) (of : Nat → Nat) (sl : Nat → Nat) (wt : Nat → Int32) (kp : Nat → Nat) (ds : Nat) (cn : Nat) (sk : Int32) (cu : Nat) (hz : Nat) (B : bX hd st sz pt ng dp dn se va of sl kp ds cn cu) (x : Int32)  : Met l y_X_isRule w_X_isRule rm_X_isRule (va_Pc [.ref h0, .int x] (Pw D (wX h0 ad ca hd st sz pt ng dp dn se va of sl wt kp ds cn sk cu) (yX ca) hz)) (va_Qi (fun (v : Int32) (u : Unit) => (ch_ic x cn = true ∧ v = nI 1) ∨ (ch_ic x cn = false ∧ v = nI 0)) (fun (u : Unit) => Bw D (wX h0 ad ca hd st sz pt ng dp dn se va of sl wt kp ds cn sk cu) (wX h0 ad ca hd st sz pt ng dp dn se va of sl wt kp ds cn sk cu) (yX ca) hz) (va_A (wX h0 ad ca hd st sz pt ng dp dn se va of sl wt kp ds cn sk cu) hz)) 0 0 (va_A (wX h0 ad ca hd st sz pt ng dp dn se va of sl wt kp ds cn sk cu) hz) := by
  obtain ⟨b_hd, b_st, b_sz, b_pt, b_ng, b_dp, b_dn, b_se, b_va, b_of, b_sl, b_kp, b_ds, b_cn, b_cu⟩ := B
  refine ct_start (by decide) (Nat.le_of_ble_eq_true rfl) ?_
  intro p e s m args below meth c A Q ls hx hb hr hlocks hml hts hown hnm hA hAe hsz hS hP hD hK hl hQ
  have hown : s.vm.findClass R_X = some m.cls := hown
  have hl : lv_has ls 2 [(0, .ref h0), (1, .int x)] := hl
  have hP : va_P D classes (wX h0 ad ca hd st sz pt ng dp dn se va of sl wt kp ds cn sk cu) s.heap := hP
  obtain ⟨H, hH⟩ : ∃ H, H = s.heap := ⟨_, rfl⟩
  obtain ⟨locs, hlc⟩ : ∃ locs : List Loc, locs = [] := ⟨_, rfl⟩
  have hS : va_S A s.heap H locs := by rw [hH, hlc]; exact hS
  have hP : va_P D classes (wX h0 ad ca hd st sz pt ng dp dn se va of sl wt kp ds cn sk cu) H := by rw [hH]; exact hP
  have hgo : W p l e rm_X_isRule s m args below meth c H locs 0 0 Q (F0 m 0 ls []) := ?_
  · rw [hH, hlc] at hgo; exact hgo
  clear hH hlc
  refine lv_iload_n hx hb d_X_isRule_0 rfl (lv_at hl 1 rfl) ?_
  refine lv_if_lt (tgt := 16) hx hb  d_X_isRule_1 (by decide) (fun c1 => ?_) (fun c1 => ?_)
  · refine lv_iconst (v := nI 0) hx hb d_X_isRule_16 (by decide) ?_
    exact ct_zret () hQ (by first | exact Or.inl rfl | exact Or.inr rfl | assumption) hx hb hr hlocks hAe hK hP hD hS (Or.inr ⟨ch_ic_neg c1 (nr_31 b_cn (by decide)), rfl⟩) d_X_isRule_17
  · refine lv_iload_n hx hb d_X_isRule_4 rfl (lv_at hl 1 rfl) ?_
    refine lv_aload_n hx hb d_X_isRule_5 rfl (lv_at hl 0 rfl) ?_
    refine gtX hx hb hts hown hK hP fl_X_61 rfl (k := 14) (by decide) ⟨rfl, rfl, rfl⟩ rfl d_X_isRule_6 ?_
    refine lv_icmp_ge (tgt := 16) hx hb  d_X_isRule_9 (by decide) (fun c9 => ?_) (fun c9 => ?_)
    · refine lv_iconst (v := nI 0) hx hb d_X_isRule_16 (by decide) ?_
      exact ct_zret () hQ (by first | exact Or.inl rfl | exact Or.inr rfl | assumption) hx hb hr hlocks hAe hK hP hD hS (Or.inr ⟨ch_ic_big c9 (nr_31 b_cn (by decide)), rfl⟩) d_X_isRule_17
    · refine lv_iconst (v := nI 1) hx hb d_X_isRule_12 (by decide) ?_
      refine lv_goto (tgt := 17) hx hb d_X_isRule_13 (by decide) ?_
      exact ct_zret () hQ (by first | exact Or.inl rfl | exact Or.inr rfl | assumption) hx hb hr hlocks hAe hK hP hD hS (Or.inl ⟨ch_ic_ok c1 c9 (nr_31 b_cn (by decide)), rfl⟩) d_X_isRule_17

abbrev rm_X_worth : Room := { frames := 0, cells := 0, slots := 0, locals := 0 }
set_option maxHeartbeats 4000000 in
set_option maxRecDepth 100000 in
/-- worth(r) -/
theorem c_X_worth (l : Launch) (D : va_G) (h0 : Nat) (ad : Nat → Nat) (ca : Nat → ClassId) (hd : Nat → Nat) (st : Nat → Nat) (sz : Nat → Nat) (pt : Nat → Nat) (ng : Nat → Nat) (dp : Nat → Nat) (dn : Nat → Nat) (se : Nat → Nat) (va : Nat → Nat) (of : Nat → Nat) (sl : Nat → Nat) (wt : Nat → Int32) (kp : Nat → Nat) (ds : Nat) (cn : Nat) (sk : Int32) (cu : Nat) (hz : Nat) (B : bX hd st sz pt ng dp dn se va of sl kp ds cn cu) (r : Nat) (hr9 : r < 20) : Met l y_X_worth w_X_worth rm_X_worth (va_Pc [.ref h0, .int (nI r)] (Pw D (wX h0 ad ca hd st sz pt ng dp dn se va of sl wt kp ds cn sk cu) (yX ca) hz)) (va_Qi (fun (v : Int32) (u : Unit) => v = nI (ch_wor st sz pt ng va r)) (fun (u : Unit) => Bw D (wX h0 ad ca hd st sz pt ng dp dn se va of sl wt kp ds cn sk cu) (wX h0 ad ca hd st sz pt ng dp dn se va of sl wt kp ds cn sk cu) (yX ca) hz) (va_A (wX h0 ad ca hd st sz pt ng dp dn se va of sl wt kp ds cn sk cu) hz)) 0 0 (va_A (wX h0 ad ca hd st sz pt ng dp dn se va of sl wt kp ds cn sk cu) hz) := by
  obtain ⟨b_hd, b_st, b_sz, b_pt, b_ng, b_dp, b_dn, b_se, b_va, b_of, b_sl, b_kp, b_ds, b_cn, b_cu⟩ := B
  refine ct_start (by decide) (Nat.le_of_ble_eq_true rfl) ?_
  intro p e s m args below meth c A Q ls hx hb hr hlocks hml hts hown hnm hA hAe hsz hS hP hD hK hl hQ
  have hown : s.vm.findClass R_X = some m.cls := hown
  have hl : lv_has ls 5 [(0, .ref h0), (1, .int (nI r))] := hl
  have hP : va_P D classes (wX h0 ad ca hd st sz pt ng dp dn se va of sl wt kp ds cn sk cu) s.heap := hP
  obtain ⟨H, hH⟩ : ∃ H, H = s.heap := ⟨_, rfl⟩
  obtain ⟨locs, hlc⟩ : ∃ locs : List Loc, locs = [] := ⟨_, rfl⟩
  have hS : va_S A s.heap H locs := by rw [hH, hlc]; exact hS
  have hP : va_P D classes (wX h0 ad ca hd st sz pt ng dp dn se va of sl wt kp ds cn sk cu) H := by rw [hH]; exact hP
  have hgo : W p l e rm_X_worth s m args below meth c H locs 0 0 Q (F0 m 0 ls []) := ?_
  · rw [hH, hlc] at hgo; exact hgo
  clear hH hlc
  refine lv_bipush (v := nI 100) hx hb d_X_worth_0 (by decide) ?_
  refine lv_istore_n (lv' := [(2, .int (nI 100)), (0, .ref h0), (1, .int (nI r))]) hx hb d_X_worth_2 rfl hl (by decide) rfl (fun ls hl => ?_)
  refine lv_iconst (v := nI 0) hx hb d_X_worth_3 (by decide) ?_
  refine lv_istore_n (lv' := [(3, .int (nI 0)), (2, .int (nI 100)), (0, .ref h0), (1, .int (nI r))]) hx hb d_X_worth_4 rfl hl (by decide) rfl (fun ls hl => ?_)
  have lp5 : ∀ (n : Nat) (k : Nat) (w : Nat) (H : Heap) (locs : List Loc) (ls : Array Slot), sz r + 1 ≤ k + n → (k ≤ sz r) → (w = ch_wl pt ng va (3 * r) k) → va_P D classes (wX h0 ad ca hd st sz pt ng dp dn se va of sl wt kp ds cn sk cu) H → va_D A (wX h0 ad ca hd st sz pt ng dp dn se va of sl wt kp ds cn sk cu) → va_S A s.heap H locs → lv_has ls 5 [(0, .ref h0), (1, .int (nI r)), (2, .int (nI w)), (3, .int (nI k))] → W p l e rm_X_worth s m args below meth c H locs 0 0 Q (F0 m 5 ls []) := by
    intro n
    induction n with
    | zero =>
      intro k w H locs ls hn5 hk hw
      exact absurd hn5 (by omega)
    | succ n ih5 =>
      intro k w H locs ls hn5 hk hw hP hD hS hl
      refine lv_iload_n hx hb d_X_worth_5 rfl (lv_at hl 3 rfl) ?_
      refine lv_aload_n hx hb d_X_worth_6 rfl (lv_at hl 0 rfl) ?_
      refine gtX hx hb hts hown hK hP fl_X_16 rfl (k := 2) (by decide) ⟨rfl, rfl, rfl⟩ rfl d_X_worth_7 ?_
      refine lv_iload_n hx hb d_X_worth_10 rfl (lv_at hl 1 rfl) ?_
      refine nr_iald hx hb hK hP 3 2 rfl rfl (Nat.lt_of_le_of_lt (Nat.le_of_lt_succ hr9) (by decide)) (by decide) d_X_worth_11 ?_
      refine nr_icmp_ge (tgt := 76) hx hb (nr_31 (B := 3) (Nat.le_trans hk (b_sz _)) (by decide)) (nr_31 (B := 3) (b_sz _) (by decide)) d_X_worth_12 (by decide) (fun c12 => ?_) (fun c12 => ?_)
      · refine lv_iload_n hx hb d_X_worth_76 rfl (lv_at hl 2 rfl) ?_
        refine lv_aload_n hx hb d_X_worth_77 rfl (lv_at hl 0 rfl) ?_
        refine gtX hx hb hts hown hK hP fl_X_13 rfl (k := 1) (by decide) ⟨rfl, rfl, rfl⟩ rfl d_X_worth_78 ?_
        refine lv_iload_n hx hb d_X_worth_81 rfl (lv_at hl 1 rfl) ?_
        refine nr_iald hx hb hK hP 2 1 rfl rfl (Nat.lt_of_le_of_lt (Nat.le_of_lt_succ hr9) (by decide)) (by decide) d_X_worth_82 ?_
        refine nr_imul hx hb d_X_worth_83 ?_
        refine lv_bipush (v := nI 100) hx hb d_X_worth_84 (by decide) ?_
        refine nr_idiv hx hb (nr_31 (B := 10000) (Nat.mul_le_mul (Nat.le_trans (Nat.le_of_eq hw) (ch_wl_100 _ _ _ _ _)) (b_st _)) (by decide)) (by decide) (by decide) d_X_worth_86 ?_
        exact ct_iret () hQ hx hb hr hlocks hAe hK hP hD hS (by rw [hw, show k = sz r by omega]; rfl) d_X_worth_87
      · have z12 := b_sz r
        refine lv_aload_n hx hb d_X_worth_15 rfl (lv_at hl 0 rfl) ?_
        refine gtX hx hb hts hown hK hP fl_X_35 rfl (k := 8) (by decide) ⟨rfl, rfl, rfl⟩ rfl d_X_worth_16 ?_
        refine lv_aload_n hx hb d_X_worth_19 rfl (lv_at hl 0 rfl) ?_
        refine gtX hx hb hts hown hK hP fl_X_19 rfl (k := 3) (by decide) ⟨rfl, rfl, rfl⟩ rfl d_X_worth_20 ?_
        refine lv_iconst (v := nI 3) hx hb d_X_worth_23 (by decide) ?_
        refine lv_iload_n hx hb d_X_worth_24 rfl (lv_at hl 1 rfl) ?_
        refine nr_imul hx hb d_X_worth_25 ?_
        refine lv_iload_n hx hb d_X_worth_26 rfl (lv_at hl 3 rfl) ?_
        refine nr_iadd hx hb d_X_worth_27 ?_
        refine nr_iald hx hb hK hP 4 3 rfl rfl (by omega) (by decide) d_X_worth_28 ?_
        refine nr_iald hx hb hK hP 9 8 rfl rfl (Nat.lt_of_le_of_lt (b_pt _) (by decide)) (by decide) d_X_worth_29 ?_
        refine lv_istore (lv' := [(4, .int (nI (va (pt ((3 * r) + k))))), (0, .ref h0), (1, .int (nI r)), (2, .int (nI w)), (3, .int (nI k))]) hx hb d_X_worth_30 hl (by decide) rfl (fun ls hl => ?_)
        refine lv_aload_n hx hb d_X_worth_32 rfl (lv_at hl 1 rfl) ?_
        refine gtX hx hb hts hown hK hP fl_X_22 rfl (k := 4) (by decide) ⟨rfl, rfl, rfl⟩ rfl d_X_worth_33 ?_
        refine lv_iconst (v := nI 3) hx hb d_X_worth_36 (by decide) ?_
        refine lv_iload_n hx hb d_X_worth_37 rfl (lv_at hl 2 rfl) ?_
        refine nr_imul hx hb d_X_worth_38 ?_
        refine lv_iload_n hx hb d_X_worth_39 rfl (lv_at hl 4 rfl) ?_
        refine nr_iadd hx hb d_X_worth_40 ?_
        refine nr_zald hx hb hK hP 5 4 rfl rfl (by omega) (by decide) d_X_worth_41 ?_
        refine nr_if_eq (tgt := 53) hx hb (nr_31 (B := 1) (b_ng _) (by decide)) d_X_worth_42 (by decide) (fun c42 => ?_) (fun c42 => ?_)
        · refine lv_iload hx hb d_X_worth_53 (lv_at hl 0 rfl) ?_
          refine lv_istore (lv' := [(4, .int (nI (va (pt ((3 * r) + k))))), (0, .ref h0), (1, .int (nI r)), (2, .int (nI w)), (3, .int (nI k))]) hx hb d_X_worth_55 hl (by decide) rfl (fun ls hl => ?_)
          refine lv_iload hx hb d_X_worth_57 (lv_at hl 0 rfl) ?_
          refine lv_iload_n hx hb d_X_worth_59 rfl (lv_at hl 3 rfl) ?_
          refine nr_icmp_ge (tgt := 68) hx hb (nr_31 (B := 100) (b_va _) (by decide)) (nr_31 (B := 100) (Nat.le_trans (Nat.le_of_eq hw) (ch_wl_100 _ _ _ _ _)) (by decide)) d_X_worth_60 (by decide) (fun c60 => ?_) (fun c60 => ?_)
          · refine lv_iload_n hx hb d_X_worth_68 rfl (lv_at hl 3 rfl) ?_
            refine lv_istore_n (lv' := [(2, .int (nI w)), (4, .int (nI (va (pt ((3 * r) + k))))), (0, .ref h0), (1, .int (nI r)), (3, .int (nI k))]) hx hb d_X_worth_69 rfl hl (by decide) rfl (fun ls hl => ?_)
            refine lv_iinc (v := nI (k + 1)) (lv' := [(3, .int (nI (k + 1))), (2, .int (nI w)), (4, .int (nI (va (pt ((3 * r) + k))))), (0, .ref h0), (1, .int (nI r))]) hx hb d_X_worth_70 hl (k := 4) rfl (nI_1 _) (by decide) rfl (fun ls hl => ?_)
            refine lv_goto (tgt := 5) hx hb d_X_worth_73 (by decide) ?_
            exact ih5 (k + 1) w _ _ _ (by omega) (by omega) (by rw [ch_wl, ← hw]; unfold ch_pv; rw [if_pos c42]; split <;> omega) hP hD hS (lv_sub hl [3, 4, 1, 0] rfl)
          · refine lv_iload hx hb d_X_worth_63 (lv_at hl 0 rfl) ?_
            refine lv_goto (tgt := 69) hx hb d_X_worth_65 (by decide) ?_
            refine lv_istore_n (lv' := [(2, .int (nI (va (pt ((3 * r) + k))))), (4, .int (nI (va (pt ((3 * r) + k))))), (0, .ref h0), (1, .int (nI r)), (3, .int (nI k))]) hx hb d_X_worth_69 rfl hl (by decide) rfl (fun ls hl => ?_)
            refine lv_iinc (v := nI (k + 1)) (lv' := [(3, .int (nI (k + 1))), (2, .int (nI (va (pt ((3 * r) + k))))), (4, .int (nI (va (pt ((3 * r) + k))))), (0, .ref h0), (1, .int (nI r))]) hx hb d_X_worth_70 hl (k := 4) rfl (nI_1 _) (by decide) rfl (fun ls hl => ?_)
            refine lv_goto (tgt := 5) hx hb d_X_worth_73 (by decide) ?_
            exact ih5 (k + 1) (va (pt ((3 * r) + k))) _ _ _ (by omega) (by omega) (by rw [ch_wl, ← hw]; unfold ch_pv; rw [if_pos c42]; split <;> omega) hP hD hS (lv_sub hl [3, 4, 1, 0] rfl)
        · refine lv_bipush (v := nI 100) hx hb d_X_worth_45 (by decide) ?_
          refine lv_iload hx hb d_X_worth_47 (lv_at hl 0 rfl) ?_
          refine nr_isub hx hb (b_va _) d_X_worth_49 ?_
          refine lv_goto (tgt := 55) hx hb d_X_worth_50 (by decide) ?_
          refine lv_istore (lv' := [(4, .int (nI (100 - (va (pt ((3 * r) + k)))))), (0, .ref h0), (1, .int (nI r)), (2, .int (nI w)), (3, .int (nI k))]) hx hb d_X_worth_55 hl (by decide) rfl (fun ls hl => ?_)
          refine lv_iload hx hb d_X_worth_57 (lv_at hl 0 rfl) ?_
          refine lv_iload_n hx hb d_X_worth_59 rfl (lv_at hl 3 rfl) ?_
          refine nr_icmp_ge (tgt := 68) hx hb (nr_31 (B := 100) (Nat.le_trans (Nat.sub_le _ _) (Nat.le_refl _)) (by decide)) (nr_31 (B := 100) (Nat.le_trans (Nat.le_of_eq hw) (ch_wl_100 _ _ _ _ _)) (by decide)) d_X_worth_60 (by decide) (fun c60 => ?_) (fun c60 => ?_)
          · refine lv_iload_n hx hb d_X_worth_68 rfl (lv_at hl 3 rfl) ?_
            refine lv_istore_n (lv' := [(2, .int (nI w)), (4, .int (nI (100 - (va (pt ((3 * r) + k)))))), (0, .ref h0), (1, .int (nI r)), (3, .int (nI k))]) hx hb d_X_worth_69 rfl hl (by decide) rfl (fun ls hl => ?_)
            refine lv_iinc (v := nI (k + 1)) (lv' := [(3, .int (nI (k + 1))), (2, .int (nI w)), (4, .int (nI (100 - (va (pt ((3 * r) + k)))))), (0, .ref h0), (1, .int (nI r))]) hx hb d_X_worth_70 hl (k := 4) rfl (nI_1 _) (by decide) rfl (fun ls hl => ?_)
            refine lv_goto (tgt := 5) hx hb d_X_worth_73 (by decide) ?_
            exact ih5 (k + 1) w _ _ _ (by omega) (by omega) (by rw [ch_wl, ← hw]; unfold ch_pv; rw [if_neg c42]; split <;> omega) hP hD hS (lv_sub hl [3, 4, 1, 0] rfl)
          · refine lv_iload hx hb d_X_worth_63 (lv_at hl 0 rfl) ?_
            refine lv_goto (tgt := 69) hx hb d_X_worth_65 (by decide) ?_
            refine lv_istore_n (lv' := [(2, .int (nI (100 - (va (pt ((3 * r) + k)))))), (4, .int (nI (100 - (va (pt ((3 * r) + k)))))), (0, .ref h0), (1, .int (nI r)), (3, .int (nI k))]) hx hb d_X_worth_69 rfl hl (by decide) rfl (fun ls hl => ?_)
            refine lv_iinc (v := nI (k + 1)) (lv' := [(3, .int (nI (k + 1))), (2, .int (nI (100 - (va (pt ((3 * r) + k)))))), (4, .int (nI (100 - (va (pt ((3 * r) + k)))))), (0, .ref h0), (1, .int (nI r))]) hx hb d_X_worth_70 hl (k := 4) rfl (nI_1 _) (by decide) rfl (fun ls hl => ?_)
            refine lv_goto (tgt := 5) hx hb d_X_worth_73 (by decide) ?_
            exact ih5 (k + 1) (100 - (va (pt ((3 * r) + k)))) _ _ _ (by omega) (by omega) (by rw [ch_wl, ← hw]; unfold ch_pv; rw [if_neg c42]; split <;> omega) hP hD hS (lv_sub hl [3, 4, 1, 0] rfl)
  exact lp5 (sz r + 1) 0 100 _ _ _ (by omega) (Nat.zero_le _) rfl hP hD hS (lv_sub hl [2, 3, 1, 0] rfl)

abbrev rm_X_makeOffer : Room := { frames := 1, cells := 0, slots := 0, locals := 24 }
set_option maxHeartbeats 4000000 in
set_option maxRecDepth 100000 in
/-- makeOffer(r) -/
theorem c_X_makeOffer (l : Launch) (D : va_G) (h0 : Nat) (ad : Nat → Nat) (ca : Nat → ClassId) (hd : Nat → Nat) (st : Nat → Nat) (sz : Nat → Nat) (pt : Nat → Nat) (ng : Nat → Nat) (dp : Nat → Nat) (dn : Nat → Nat) (se : Nat → Nat) (va : Nat → Nat) (of : Nat → Nat) (sl : Nat → Nat) (wt : Nat → Int32) (kp : Nat → Nat) (ds : Nat) (cn : Nat) (sk : Int32) (cu : Nat) (hz : Nat) (B : bX hd st sz pt ng dp dn se va of sl kp ds cn cu) (r : Nat) (hr9 : r < 20) : Met l y_X_makeOffer w_X_makeOffer rm_X_makeOffer (va_Pc [.ref h0, .int (nI r)] (Pw D (wX h0 ad ca hd st sz pt ng dp dn se va of sl wt kp ds cn sk cu) (yX ca) hz)) (va_Qv (fun (u : Unit) => True) (fun (u : Unit) => Bw D (wX h0 ad ca hd st sz pt ng dp dn se va of sl wt kp ds cn sk cu) (wX h0 ad ca hd st sz pt ng dp dn se va (ch_mk (ch_wor st sz pt ng va r) hd r sk sl of) sl wt kp ds cn sk cu) (yX ca) hz) (va_A (wX h0 ad ca hd st sz pt ng dp dn se va of sl wt kp ds cn sk cu) hz)) 0 0 (va_A (wX h0 ad ca hd st sz pt ng dp dn se va of sl wt kp ds cn sk cu) hz) := by
  obtain ⟨b_hd, b_st, b_sz, b_pt, b_ng, b_dp, b_dn, b_se, b_va, b_of, b_sl, b_kp, b_ds, b_cn, b_cu⟩ := B
  refine ct_start (by decide) (Nat.le_of_ble_eq_true rfl) ?_
  intro p e s m args below meth c A Q ls hx hb hr hlocks hml hts hown hnm hA hAe hsz hS hP hD hK hl hQ
  have hown : s.vm.findClass R_X = some m.cls := hown
  have hl : lv_has ls 4 [(0, .ref h0), (1, .int (nI r))] := hl
  have hP : va_P D classes (wX h0 ad ca hd st sz pt ng dp dn se va of sl wt kp ds cn sk cu) s.heap := hP
  obtain ⟨H, hH⟩ : ∃ H, H = s.heap := ⟨_, rfl⟩
  obtain ⟨locs, hlc⟩ : ∃ locs : List Loc, locs = [] := ⟨_, rfl⟩
  have hS : va_S A s.heap H locs := by rw [hH, hlc]; exact hS
  have hP : va_P D classes (wX h0 ad ca hd st sz pt ng dp dn se va of sl wt kp ds cn sk cu) H := by rw [hH]; exact hP
  have hgo : W p l e rm_X_makeOffer s m args below meth c H locs 0 0 Q (F0 m 0 ls []) := ?_
  · rw [hH, hlc] at hgo; exact hgo
  clear hH hlc
  refine lv_aload_n hx hb d_X_makeOffer_0 rfl (lv_at hl 0 rfl) ?_
  refine gtX hx hb hts hown hK hP fl_X_7 rfl (k := 0) (by decide) ⟨rfl, rfl, rfl⟩ rfl d_X_makeOffer_1 ?_
  refine lv_iload_n hx hb d_X_makeOffer_4 rfl (lv_at hl 1 rfl) ?_
  refine nr_iald hx hb hK hP 1 0 rfl rfl (Nat.lt_of_le_of_lt (Nat.le_of_lt_succ hr9) (by decide)) (by decide) d_X_makeOffer_5 ?_
  refine lv_istore_n (lv' := [(2, .int (nI (hd r))), (0, .ref h0), (1, .int (nI r))]) hx hb d_X_makeOffer_6 rfl hl (by decide) rfl (fun ls hl => ?_)
  refine lv_iload_n hx hb d_X_makeOffer_7 rfl (lv_at hl 2 rfl) ?_
  refine lv_aload_n hx hb d_X_makeOffer_8 rfl (lv_at hl 1 rfl) ?_
  refine gtX hx hb hts hown hK hP fl_X_50 rfl (k := 15) (by decide) ⟨rfl, rfl, rfl⟩ rfl d_X_makeOffer_9 ?_
  refine lv_icmp_eq (tgt := 24) hx hb  d_X_makeOffer_12 (by decide) (fun c12 => ?_) (fun c12 => ?_)
  · rw [← (show ch_mk (ch_wor st sz pt ng va r) hd r sk sl of = of by rw [ch_mk, if_pos (Or.inl c12)])] at hP hD
    exact ct_vret () hQ hx hb hr hlocks hAe hK hP hD hS trivial d_X_makeOffer_24
  · refine lv_aload_n hx hb d_X_makeOffer_15 rfl (lv_at hl 1 rfl) ?_
    refine gtX hx hb hts hown hK hP fl_X_41 rfl (k := 10) (by decide) ⟨rfl, rfl, rfl⟩ rfl d_X_makeOffer_16 ?_
    refine lv_iload_n hx hb d_X_makeOffer_19 rfl (lv_at hl 0 rfl) ?_
    refine nr_zald hx hb hK hP 11 10 rfl rfl (Nat.lt_of_le_of_lt (b_hd _) (by decide)) (by decide) d_X_makeOffer_20 ?_
    refine nr_if_eq (tgt := 25) hx hb (nr_31 (B := 1) (b_sl _) (by decide)) d_X_makeOffer_21 (by decide) (fun c21 => ?_) (fun c21 => ?_)
    · refine lv_aload_n hx hb d_X_makeOffer_25 rfl (lv_at hl 1 rfl) ?_
      refine lv_iload_n hx hb d_X_makeOffer_26 rfl (lv_at hl 2 rfl) ?_
      refine xc_iV (C := R_X) (rest := []) ⟨hx, hb, hml, hown, hts⟩ (c_X_worth l D h0 ad ca hd st sz pt ng dp dn se va of sl wt kp ds cn sk cu H.size ⟨b_hd, b_st, b_sz, b_pt, b_ng, b_dp, b_dn, b_se, b_va, b_of, b_sl, b_kp, b_ds, b_cn, b_cu⟩ r hr9) (cwV 1 hts (gd_v ml_X_81 im_X_worth se_X_worth ini_X cd_X_worth) rfl rfl rfl (by decide +kernel) ⟨Nat.le_of_ble_eq_true rfl, Nat.le_of_ble_eq_true rfl⟩) (va_recv hK hP (ci := 0) (q0 := 0) rfl rfl) hK hP hD hS hA rfl hl.1 rfl (Nat.le_of_ble_eq_true rfl) d_X_makeOffer_27 ⟨Nat.le_of_ble_eq_true rfl, Nat.le_of_ble_eq_true rfl⟩ (fun r27 u27 H locs hp27 hP hD hS => ?_)
      have hP : va_P D classes (wX h0 ad ca hd st sz pt ng dp dn se va of sl wt kp ds cn sk cu) H := hP
      have hD : va_D A (wX h0 ad ca hd st sz pt ng dp dn se va of sl wt kp ds cn sk cu) := hD
      obtain rfl := hp27
      refine lv_istore_n (lv' := [(3, .int (nI (ch_wor st sz pt ng va r))), (2, .int (nI (hd r))), (0, .ref h0), (1, .int (nI r))]) hx hb d_X_makeOffer_30 rfl hl (by decide) rfl (fun ls hl => ?_)
      refine lv_iload_n hx hb d_X_makeOffer_31 rfl (lv_at hl 0 rfl) ?_
      refine lv_aload_n hx hb d_X_makeOffer_32 rfl (lv_at hl 2 rfl) ?_
      refine gtX hx hb hts hown hK hP fl_X_38 rfl (k := 9) (by decide) ⟨rfl, rfl, rfl⟩ rfl d_X_makeOffer_33 ?_
      refine lv_iload_n hx hb d_X_makeOffer_36 rfl (lv_at hl 1 rfl) ?_
      refine nr_iald hx hb hK hP 10 9 rfl rfl (Nat.lt_of_le_of_lt (b_hd _) (by decide)) (by decide) d_X_makeOffer_37 ?_
      refine nr_icmp_le (tgt := 48) hx hb (nr_31 (B := 100) (ch_wor_100 (b_st _)) (by decide)) (nr_31 (B := 100) (b_of _) (by decide)) d_X_makeOffer_38 (by decide) (fun c38 => ?_) (fun c38 => ?_)
      · rw [← (show ch_mk (ch_wor st sz pt ng va r) hd r sk sl of = of by rw [ch_mk, if_neg (fun z9 => z9.elim c12 (fun y9 => y9 c21)), if_neg (by omega)])] at hP hD
        exact ct_vret () hQ hx hb hr hlocks hAe hK hP hD hS trivial d_X_makeOffer_48
      · refine lv_aload_n hx hb d_X_makeOffer_41 rfl (lv_at hl 2 rfl) ?_
        refine gtX hx hb hts hown hK hP fl_X_38 rfl (k := 9) (by decide) ⟨rfl, rfl, rfl⟩ rfl d_X_makeOffer_42 ?_
        refine lv_iload_n hx hb d_X_makeOffer_45 rfl (lv_at hl 1 rfl) ?_
        refine lv_iload_n hx hb d_X_makeOffer_46 rfl (lv_at hl 0 rfl) ?_
        refine nr_iast hx hb hK hP hD hS 10 9 rfl rfl (Nat.lt_of_le_of_lt (b_hd _) (by decide)) (by decide) d_X_makeOffer_47 (fun H locs hP hD hS => ?_)
        have hP : va_P D classes (wX h0 ad ca hd st sz pt ng dp dn se va (ch_up of (hd r) (ch_wor st sz pt ng va r)) sl wt kp ds cn sk cu) H := hP
        have hD : va_D A (wX h0 ad ca hd st sz pt ng dp dn se va (ch_up of (hd r) (ch_wor st sz pt ng va r)) sl wt kp ds cn sk cu) := hD
        rw [← (show ch_mk (ch_wor st sz pt ng va r) hd r sk sl of = ch_up of (hd r) (ch_wor st sz pt ng va r) by rw [ch_mk, if_neg (fun z9 => z9.elim c12 (fun y9 => y9 c21)), if_pos (by omega)])] at hP hD
        exact ct_vret () hQ hx hb hr hlocks hAe hK hP hD hS trivial d_X_makeOffer_48
    · rw [← (show ch_mk (ch_wor st sz pt ng va r) hd r sk sl of = of by rw [ch_mk, if_pos (Or.inr c21)])] at hP hD
      exact ct_vret () hQ hx hb hr hlocks hAe hK hP hD hS trivial d_X_makeOffer_24

abbrev rm_X_count : Room := { frames := 2, cells := 0, slots := 0, locals := 47 }
set_option maxHeartbeats 4000000 in
set_option maxRecDepth 100000 in
/-- count(r, c) -/
theorem c_X_count (l : Launch) (D : va_G) (h0 : Nat) (ad : Nat → Nat) (ca : Nat → ClassId) (hd : Nat → Nat) (st : Nat → Nat) (sz : Nat → Nat) (pt : Nat → Nat) (ng : Nat → Nat) (dp : Nat → Nat) (dn : Nat → Nat) (se : Nat → Nat) (va : Nat → Nat) (of : Nat → Nat) (sl : Nat → Nat) (wt : Nat → Int32) (kp : Nat → Nat) (ds : Nat) (cn : Nat) (sk : Int32) (cu : Nat) (hz : Nat) (B : bX hd st sz pt ng dp dn se va of sl kp ds cn cu) (r : Nat) (c0 : Nat) (hr9 : r < 20) (hc9 : c0 < 16) : Met l y_X_count w_X_count rm_X_count (va_Pc [.ref h0, .int (nI r), .int (nI c0)] (Pw D (wX h0 ad ca hd st sz pt ng dp dn se va of sl wt kp ds cn sk cu) (yX ca) hz)) (va_Qv (fun (u : Unit) => True) (fun (u : Unit) => Bw D (wX h0 ad ca hd st sz pt ng dp dn se va of sl wt kp ds cn sk cu) (wX h0 ad ca hd st sz pt ng dp dn se va (if 0 < wt r ∧ wt r - nI (ch_ct pt (3 * r) c0 (sz r)) = 0 then ch_mk (ch_wor st sz pt ng va r) hd r sk sl of else of) sl (upd wt r (wt r - nI (ch_ct pt (3 * r) c0 (sz r)))) kp ds cn sk cu) (yX ca) hz) (va_A (wX h0 ad ca hd st sz pt ng dp dn se va of sl wt kp ds cn sk cu) hz)) 0 0 (va_A (wX h0 ad ca hd st sz pt ng dp dn se va of sl wt kp ds cn sk cu) hz) := by
  obtain ⟨b_hd, b_st, b_sz, b_pt, b_ng, b_dp, b_dn, b_se, b_va, b_of, b_sl, b_kp, b_ds, b_cn, b_cu⟩ := B
  refine ct_start (by decide) (Nat.le_of_ble_eq_true rfl) ?_
  intro p e s m args below meth c A Q ls hx hb hr hlocks hml hts hown hnm hA hAe hsz hS hP hD hK hl hQ
  have hown : s.vm.findClass R_X = some m.cls := hown
  have hl : lv_has ls 5 [(0, .ref h0), (1, .int (nI r)), (2, .int (nI c0))] := hl
  have hP : va_P D classes (wX h0 ad ca hd st sz pt ng dp dn se va of sl wt kp ds cn sk cu) s.heap := hP
  obtain ⟨H, hH⟩ : ∃ H, H = s.heap := ⟨_, rfl⟩
  obtain ⟨locs, hlc⟩ : ∃ locs : List Loc, locs = [] := ⟨_, rfl⟩
  have hS : va_S A s.heap H locs := by rw [hH, hlc]; exact hS
  have hP : va_P D classes (wX h0 ad ca hd st sz pt ng dp dn se va of sl wt kp ds cn sk cu) H := by rw [hH]; exact hP
  have hgo : W p l e rm_X_count s m args below meth c H locs 0 0 Q (F0 m 0 ls []) := ?_
  · rw [hH, hlc] at hgo; exact hgo
  clear hH hlc
  refine lv_aload_n hx hb d_X_count_0 rfl (lv_at hl 0 rfl) ?_
  refine gtX hx hb hts hown hK hP fl_X_44 rfl (k := 11) (by decide) ⟨rfl, rfl, rfl⟩ rfl d_X_count_1 ?_
  refine lv_iload_n hx hb d_X_count_4 rfl (lv_at hl 1 rfl) ?_
  refine nr_wald hx hb hK hP 12 11 rfl rfl (Nat.lt_of_le_of_lt (Nat.le_of_lt_succ hr9) (by decide)) (by decide) d_X_count_5 ?_
  refine lv_istore_n (lv' := [(3, .int (wt r)), (0, .ref h0), (1, .int (nI r)), (2, .int (nI c0))]) hx hb d_X_count_6 rfl hl (by decide) rfl (fun ls hl => ?_)
  refine lv_iconst (v := nI 0) hx hb d_X_count_7 (by decide) ?_
  refine lv_istore (lv' := [(4, .int (nI 0)), (3, .int (wt r)), (0, .ref h0), (1, .int (nI r)), (2, .int (nI c0))]) hx hb d_X_count_8 hl (by decide) rfl (fun ls hl => ?_)
  have lp10 : ∀ (n : Nat) (k : Nat) (wk : Nat → Int32) (H : Heap) (locs : List Loc) (ls : Array Slot), sz r + 1 ≤ k + n → (k ≤ sz r) → (wk r = wt r - nI (ch_ct pt (3 * r) c0 k)) → (∀ j, j ≠ r → wk j = wt j) → va_P D classes (wX h0 ad ca hd st sz pt ng dp dn se va of sl wk kp ds cn sk cu) H → va_D A (wX h0 ad ca hd st sz pt ng dp dn se va of sl wk kp ds cn sk cu) → va_S A s.heap H locs → lv_has ls 5 [(0, .ref h0), (1, .int (nI r)), (2, .int (nI c0)), (3, .int (wt r)), (4, .int (nI k))] → W p l e rm_X_count s m args below meth c H locs 0 0 Q (F0 m 10 ls []) := by
    intro n
    induction n with
    | zero =>
      intro k wk H locs ls hn10 hk hw hw2
      exact absurd hn10 (by omega)
    | succ n ih10 =>
      intro k wk H locs ls hn10 hk hw hw2 hP hD hS hl
      refine lv_iload hx hb d_X_count_10 (lv_at hl 4 rfl) ?_
      refine lv_aload_n hx hb d_X_count_12 rfl (lv_at hl 0 rfl) ?_
      refine gtX hx hb hts hown hK hP fl_X_16 rfl (k := 2) (by decide) ⟨rfl, rfl, rfl⟩ rfl d_X_count_13 ?_
      refine lv_iload_n hx hb d_X_count_16 rfl (lv_at hl 1 rfl) ?_
      refine nr_iald hx hb hK hP 3 2 rfl rfl (Nat.lt_of_le_of_lt (Nat.le_of_lt_succ hr9) (by decide)) (by decide) d_X_count_17 ?_
      refine nr_icmp_ge (tgt := 52) hx hb (nr_31 (B := 3) (Nat.le_trans hk (b_sz _)) (by decide)) (nr_31 (B := 3) (b_sz _) (by decide)) d_X_count_18 (by decide) (fun c18 => ?_) (fun c18 => ?_)
      · have ewk : wk = upd wt r (wt r - nI (ch_ct pt (3 * r) c0 (sz r))) := by
          funext j
          by_cases e9 : j = r
          · rw [e9, pk_us, hw, show k = sz r by omega]
          · rw [pk_un e9]; exact hw2 j e9
        subst ewk
        have hP : va_P D classes (wX h0 ad ca hd st sz pt ng dp dn se va of sl (upd wt r (wt r - nI (ch_ct pt (3 * r) c0 (sz r)))) kp ds cn sk cu) H := hP
        have hD : va_D A (wX h0 ad ca hd st sz pt ng dp dn se va of sl (upd wt r (wt r - nI (ch_ct pt (3 * r) c0 (sz r)))) kp ds cn sk cu) := hD
        refine lv_iload_n hx hb d_X_count_52 rfl (lv_at hl 3 rfl) ?_
        refine lv_if_le (tgt := 70) hx hb  d_X_count_53 (by decide) (fun c53 => ?_) (fun c53 => ?_)
        · rw [← (show (if 0 < wt r ∧ wt r - nI (ch_ct pt (3 * r) c0 (sz r)) = 0 then ch_mk (ch_wor st sz pt ng va r) hd r sk sl of else of) = of from if_neg (fun z9 => absurd c53 (Int32.not_le.mpr z9.1)))] at hP hD
          exact ct_vret () hQ hx hb hr hlocks hAe hK hP hD hS trivial d_X_count_70
        · refine lv_aload_n hx hb d_X_count_56 rfl (lv_at hl 0 rfl) ?_
          refine gtX hx hb hts hown hK hP fl_X_44 rfl (k := 11) (by decide) ⟨rfl, rfl, rfl⟩ rfl d_X_count_57 ?_
          refine lv_iload_n hx hb d_X_count_60 rfl (lv_at hl 1 rfl) ?_
          refine nr_wald hx hb hK hP 12 11 rfl rfl (Nat.lt_of_le_of_lt (Nat.le_of_lt_succ hr9) (by decide)) (by decide) d_X_count_61 ?_
          refine lv_if_ne (tgt := 70) hx hb  d_X_count_62 (by decide) (fun c62 => ?_) (fun c62 => ?_)
          · rw [← (show (if 0 < wt r ∧ wt r - nI (ch_ct pt (3 * r) c0 (sz r)) = 0 then ch_mk (ch_wor st sz pt ng va r) hd r sk sl of else of) = of from if_neg (fun z9 => c62 (by rw [pk_us]; exact z9.2)))] at hP hD
            exact ct_vret () hQ hx hb hr hlocks hAe hK hP hD hS trivial d_X_count_70
          · refine lv_aload_n hx hb d_X_count_65 rfl (lv_at hl 0 rfl) ?_
            refine lv_iload_n hx hb d_X_count_66 rfl (lv_at hl 1 rfl) ?_
            refine xc_vV (C := R_X) (rest := []) ⟨hx, hb, hml, hown, hts⟩ (c_X_makeOffer l D h0 ad ca hd st sz pt ng dp dn se va of sl (upd wt r (wt r - nI (ch_ct pt (3 * r) c0 (sz r)))) kp ds cn sk cu H.size ⟨b_hd, b_st, b_sz, b_pt, b_ng, b_dp, b_dn, b_se, b_va, b_of, b_sl, b_kp, b_ds, b_cn, b_cu⟩ r hr9) (cwV 1 hts (gd_v ml_X_92 im_X_makeOffer se_X_makeOffer ini_X cd_X_makeOffer) rfl rfl rfl (by decide +kernel) ⟨Nat.le_of_ble_eq_true rfl, Nat.le_of_ble_eq_true rfl⟩) (va_recv hK hP (ci := 0) (q0 := 0) rfl rfl) hK hP hD hS hA rfl hl.1 rfl (Nat.le_of_ble_eq_true rfl) d_X_count_67 ⟨Nat.le_of_ble_eq_true rfl, Nat.le_of_ble_eq_true rfl⟩ (fun u67 H locs hp67 hP hD hS => ?_)
            have hP : va_P D classes (wX h0 ad ca hd st sz pt ng dp dn se va (ch_mk (ch_wor st sz pt ng va r) hd r sk sl of) sl (upd wt r (wt r - nI (ch_ct pt (3 * r) c0 (sz r)))) kp ds cn sk cu) H := hP
            have hD : va_D A (wX h0 ad ca hd st sz pt ng dp dn se va (ch_mk (ch_wor st sz pt ng va r) hd r sk sl of) sl (upd wt r (wt r - nI (ch_ct pt (3 * r) c0 (sz r)))) kp ds cn sk cu) := hD
            rw [← (show (if 0 < wt r ∧ wt r - nI (ch_ct pt (3 * r) c0 (sz r)) = 0 then ch_mk (ch_wor st sz pt ng va r) hd r sk sl of else of) = ch_mk (ch_wor st sz pt ng va r) hd r sk sl of from if_pos ⟨Int32.not_le.mp c53, by rw [pk_us] at c62; exact c62⟩)] at hP hD
            exact ct_vret () hQ hx hb hr hlocks hAe hK hP hD hS trivial d_X_count_70
      · have z18 := b_sz r
        refine lv_aload_n hx hb d_X_count_21 rfl (lv_at hl 0 rfl) ?_
        refine gtX hx hb hts hown hK hP fl_X_19 rfl (k := 3) (by decide) ⟨rfl, rfl, rfl⟩ rfl d_X_count_22 ?_
        refine lv_iconst (v := nI 3) hx hb d_X_count_25 (by decide) ?_
        refine lv_iload_n hx hb d_X_count_26 rfl (lv_at hl 1 rfl) ?_
        refine nr_imul hx hb d_X_count_27 ?_
        refine lv_iload hx hb d_X_count_28 (lv_at hl 4 rfl) ?_
        refine nr_iadd hx hb d_X_count_30 ?_
        refine nr_iald hx hb hK hP 4 3 rfl rfl (by omega) (by decide) d_X_count_31 ?_
        refine lv_iload_n hx hb d_X_count_32 rfl (lv_at hl 2 rfl) ?_
        refine nr_icmp_ne (tgt := 46) hx hb (nr_31 (B := 15) (b_pt _) (by decide)) (nr_31 (B := 15) (Nat.le_of_lt_succ hc9) (by decide)) d_X_count_33 (by decide) (fun c33 => ?_) (fun c33 => ?_)
        · refine lv_iinc (v := nI (k + 1)) (lv' := [(4, .int (nI (k + 1))), (0, .ref h0), (1, .int (nI r)), (2, .int (nI c0)), (3, .int (wt r))]) hx hb d_X_count_46 hl (k := 4) rfl (nI_1 _) (by decide) rfl (fun ls hl => ?_)
          refine lv_goto (tgt := 10) hx hb d_X_count_49 (by decide) ?_
          exact ih10 (k + 1) wk _ _ _ (by omega) (by omega) (by rw [ch_ct, if_neg c33, Nat.add_zero]; exact hw) hw2 hP hD hS (lv_sub hl [1, 2, 3, 4, 0] rfl)
        · refine lv_aload_n hx hb d_X_count_36 rfl (lv_at hl 0 rfl) ?_
          refine gtX hx hb hts hown hK hP fl_X_44 rfl (k := 11) (by decide) ⟨rfl, rfl, rfl⟩ rfl d_X_count_37 ?_
          refine lv_iload_n hx hb d_X_count_40 rfl (lv_at hl 1 rfl) ?_
          refine lv_dup2_11 hx hb d_X_count_41 rfl rfl ?_
          refine nr_wald hx hb hK hP 12 11 rfl rfl (Nat.lt_of_le_of_lt (Nat.le_of_lt_succ hr9) (by decide)) (by decide) d_X_count_42 ?_
          refine lv_iconst (v := nI 1) hx hb d_X_count_43 (by decide) ?_
          refine lv_isub hx hb d_X_count_44 ?_
          refine nr_wast hx hb hK hP hD hS 12 11 rfl rfl (Nat.lt_of_le_of_lt (Nat.le_of_lt_succ hr9) (by decide)) (by decide) d_X_count_45 (fun H locs hP hD hS => ?_)
          have hP : va_P D classes (wX h0 ad ca hd st sz pt ng dp dn se va of sl (upd wk r ((wk r) - (nI 1))) kp ds cn sk cu) H := hP
          have hD : va_D A (wX h0 ad ca hd st sz pt ng dp dn se va of sl (upd wk r ((wk r) - (nI 1))) kp ds cn sk cu) := hD
          refine lv_iinc (v := nI (k + 1)) (lv' := [(4, .int (nI (k + 1))), (0, .ref h0), (1, .int (nI r)), (2, .int (nI c0)), (3, .int (wt r))]) hx hb d_X_count_46 hl (k := 4) rfl (nI_1 _) (by decide) rfl (fun ls hl => ?_)
          refine lv_goto (tgt := 10) hx hb d_X_count_49 (by decide) ?_
          exact ih10 (k + 1) (upd wk r ((wk r) - (nI 1))) _ _ _ (by omega) (by omega) (by rw [pk_us, ch_ct, if_pos c33, hw, ← nI_add]; exact nr_subsub _ _ _) (fun j hj => by rw [pk_un hj]; exact hw2 j hj) hP hD hS (lv_sub hl [1, 2, 3, 4, 0] rfl)
  exact lp10 (sz r + 1) 0 wt _ _ _ (by omega) (Nat.zero_le _) (by rw [ch_ct, nI_0, Int32.sub_zero]) (fun _ _ => rfl) hP hD hS (lv_sub hl [2, 3, 4, 1, 0] rfl)

abbrev rm_X_best : Room := { frames := 0, cells := 0, slots := 0, locals := 0 }
set_option maxHeartbeats 4000000 in
set_option maxRecDepth 100000 in
/-- best(f): the claim of f..f+3 that is not settled with the greatest offer -/
theorem c_X_best (l : Launch) (D : va_G) (h0 : Nat) (ad : Nat → Nat) (ca : Nat → ClassId) (hd : Nat → Nat) (st : Nat → Nat) (sz : Nat → Nat) (pt : Nat → Nat) (ng : Nat → Nat) (dp : Nat → Nat) (dn : Nat → Nat) (se : Nat → Nat) (va : Nat → Nat) (of : Nat → Nat) (sl : Nat → Nat) (wt : Nat → Int32) (kp : Nat → Nat) (ds : Nat) (cn : Nat) (sk : Int32) (cu : Nat) (hz : Nat) (B : bX hd st sz pt ng dp dn se va of sl kp ds cn cu) (f : Nat) (hf9 : f + 4 ≤ 16) : Met l y_X_best w_X_best rm_X_best (va_Pc [.ref h0, .int (nI f)] (Pw D (wX h0 ad ca hd st sz pt ng dp dn se va of sl wt kp ds cn sk cu) (yX ca) hz)) (va_Qi (fun (v : Int32) (u : Nat) => v = nI u ∧ f ≤ u ∧ u < f + 4 ∧ ((∃ d, f ≤ d ∧ d < f + 4 ∧ sl d = 0) → sl u = 0 ∧ ∀ d, f ≤ d → d < f + 4 → sl d = 0 → of d ≤ of u)) (fun (u : Nat) => Bw D (wX h0 ad ca hd st sz pt ng dp dn se va of sl wt kp ds cn sk cu) (wX h0 ad ca hd st sz pt ng dp dn se va of sl wt kp ds cn sk cu) (yX ca) hz) (va_A (wX h0 ad ca hd st sz pt ng dp dn se va of sl wt kp ds cn sk cu) hz)) 0 0 (va_A (wX h0 ad ca hd st sz pt ng dp dn se va of sl wt kp ds cn sk cu) hz) := by
  obtain ⟨b_hd, b_st, b_sz, b_pt, b_ng, b_dp, b_dn, b_se, b_va, b_of, b_sl, b_kp, b_ds, b_cn, b_cu⟩ := B
  refine ct_start (by decide) (Nat.le_of_ble_eq_true rfl) ?_
  intro p e s m args below meth c A Q ls hx hb hr hlocks hml hts hown hnm hA hAe hsz hS hP hD hK hl hQ
  have hown : s.vm.findClass R_X = some m.cls := hown
  have hl : lv_has ls 4 [(0, .ref h0), (1, .int (nI f))] := hl
  have hP : va_P D classes (wX h0 ad ca hd st sz pt ng dp dn se va of sl wt kp ds cn sk cu) s.heap := hP
  obtain ⟨H, hH⟩ : ∃ H, H = s.heap := ⟨_, rfl⟩
  obtain ⟨locs, hlc⟩ : ∃ locs : List Loc, locs = [] := ⟨_, rfl⟩
  have hS : va_S A s.heap H locs := by rw [hH, hlc]; exact hS
  have hP : va_P D classes (wX h0 ad ca hd st sz pt ng dp dn se va of sl wt kp ds cn sk cu) H := by rw [hH]; exact hP
  have hgo : W p l e rm_X_best s m args below meth c H locs 0 0 Q (F0 m 0 ls []) := ?_
  · rw [hH, hlc] at hgo; exact hgo
  clear hH hlc
  refine lv_iconst (v := (-1)) hx hb d_X_best_0 (by decide) ?_
  refine lv_istore_n (lv' := [(2, .int (-1)), (0, .ref h0), (1, .int (nI f))]) hx hb d_X_best_1 rfl hl (by decide) rfl (fun ls hl => ?_)
  refine lv_iload_n hx hb d_X_best_2 rfl (lv_at hl 2 rfl) ?_
  refine lv_istore_n (lv' := [(3, .int (nI f)), (2, .int (-1)), (0, .ref h0), (1, .int (nI f))]) hx hb d_X_best_3 rfl hl (by decide) rfl (fun ls hl => ?_)
  have lp4 : ∀ (n : Nat) (k : Nat) (fd : Int32) (H : Heap) (locs : List Loc) (ls : Array Slot), f + 4 + 1 ≤ k + n → (f ≤ k) → (k ≤ f + 4) → (ch_bs sl of f k fd) → va_P D classes (wX h0 ad ca hd st sz pt ng dp dn se va of sl wt kp ds cn sk cu) H → va_D A (wX h0 ad ca hd st sz pt ng dp dn se va of sl wt kp ds cn sk cu) → va_S A s.heap H locs → lv_has ls 4 [(0, .ref h0), (1, .int (nI f)), (2, .int fd), (3, .int (nI k))] → W p l e rm_X_best s m args below meth c H locs 0 0 Q (F0 m 4 ls []) := by
    intro n
    induction n with
    | zero =>
      intro k fd H locs ls hn4 hk1 hk hfd
      exact absurd hn4 (by omega)
    | succ n ih4 =>
      intro k fd H locs ls hn4 hk1 hk hfd hP hD hS hl
      rcases hfd with ⟨rfl, hfa⟩ | ⟨g, rfl, hg1, hg2, hg3, hg4⟩
      · refine lv_iload_n hx hb d_X_best_4 rfl (lv_at hl 3 rfl) ?_
        refine lv_iload_n hx hb d_X_best_5 rfl (lv_at hl 1 rfl) ?_
        refine lv_iconst (v := nI 4) hx hb d_X_best_6 (by decide) ?_
        refine nr_iadd hx hb d_X_best_7 ?_
        refine nr_icmp_ge (tgt := 48) hx hb (nr_31 (B := 16) (Nat.le_trans hk hf9) (by decide)) (nr_31 (B := 16) (Nat.add_le_add (Nat.le_of_add_le_add_right hf9) (Nat.le_refl _)) (by decide)) d_X_best_8 (by decide) (fun c8 => ?_) (fun c8 => ?_)
        · refine lv_iload_n hx hb d_X_best_48 rfl (lv_at hl 2 rfl) ?_
          refine lv_iconst (v := (-1)) hx hb d_X_best_49 (by decide) ?_
          refine lv_icmp_ne (tgt := 57) hx hb  d_X_best_50 (by decide) (fun c50 => ?_) (fun c50 => ?_)
          · exact absurd rfl c50
          · refine lv_iload_n hx hb d_X_best_53 rfl (lv_at hl 1 rfl) ?_
            refine lv_goto (tgt := 58) hx hb d_X_best_54 (by decide) ?_
            exact ct_iret f hQ hx hb hr hlocks hAe hK hP hD hS ⟨rfl, Nat.le_refl _, by omega, fun ⟨d, a, b, q⟩ => absurd q (hfa d a (by omega))⟩ d_X_best_58
        · refine lv_aload_n hx hb d_X_best_11 rfl (lv_at hl 0 rfl) ?_
          refine gtX hx hb hts hown hK hP fl_X_41 rfl (k := 10) (by decide) ⟨rfl, rfl, rfl⟩ rfl d_X_best_12 ?_
          refine lv_iload_n hx hb d_X_best_15 rfl (lv_at hl 3 rfl) ?_
          refine nr_zald hx hb hK hP 11 10 rfl rfl (by omega) (by decide) d_X_best_16 ?_
          refine nr_if_ne (tgt := 42) hx hb (nr_31 (B := 1) (b_sl _) (by decide)) d_X_best_17 (by decide) (fun c17 => ?_) (fun c17 => ?_)
          · refine lv_iinc (v := nI (k + 1)) (lv' := [(3, .int (nI (k + 1))), (0, .ref h0), (1, .int (nI f)), (2, .int (-1))]) hx hb d_X_best_42 hl (k := 3) rfl (nI_1 _) (by decide) rfl (fun ls hl => ?_)
            refine lv_goto (tgt := 4) hx hb d_X_best_45 (by decide) ?_
            exact ih4 (k + 1) (-1) _ _ _ (by omega) (by omega) (by omega) (ch_bs_skip (Or.inl ⟨rfl, hfa⟩) c17) hP hD hS (lv_sub hl [1, 2, 3, 0] rfl)
          · refine lv_iload_n hx hb d_X_best_20 rfl (lv_at hl 2 rfl) ?_
            refine lv_iconst (v := (-1)) hx hb d_X_best_21 (by decide) ?_
            refine lv_icmp_eq (tgt := 40) hx hb  d_X_best_22 (by decide) (fun c22 => ?_) (fun c22 => ?_)
            · refine lv_iload_n hx hb d_X_best_40 rfl (lv_at hl 3 rfl) ?_
              refine lv_istore_n (lv' := [(2, .int (nI k)), (0, .ref h0), (1, .int (nI f)), (3, .int (nI k))]) hx hb d_X_best_41 rfl hl (by decide) rfl (fun ls hl => ?_)
              refine lv_iinc (v := nI (k + 1)) (lv' := [(3, .int (nI (k + 1))), (2, .int (nI k)), (0, .ref h0), (1, .int (nI f))]) hx hb d_X_best_42 hl (k := 3) rfl (nI_1 _) (by decide) rfl (fun ls hl => ?_)
              refine lv_goto (tgt := 4) hx hb d_X_best_45 (by decide) ?_
              exact ih4 (k + 1) (nI k) _ _ _ (by omega) (by omega) (by omega) (ch_bs_new hk1 c17 (fun d a b q => absurd q (hfa d a b))) hP hD hS (lv_sub hl [2, 3, 1, 0] rfl)
            · exact absurd rfl c22
      · refine lv_iload_n hx hb d_X_best_4 rfl (lv_at hl 3 rfl) ?_
        refine lv_iload_n hx hb d_X_best_5 rfl (lv_at hl 1 rfl) ?_
        refine lv_iconst (v := nI 4) hx hb d_X_best_6 (by decide) ?_
        refine nr_iadd hx hb d_X_best_7 ?_
        refine nr_icmp_ge (tgt := 48) hx hb (nr_31 (B := 16) (Nat.le_trans hk hf9) (by decide)) (nr_31 (B := 16) (Nat.add_le_add (Nat.le_of_add_le_add_right hf9) (Nat.le_refl _)) (by decide)) d_X_best_8 (by decide) (fun c8 => ?_) (fun c8 => ?_)
        · refine lv_iload_n hx hb d_X_best_48 rfl (lv_at hl 2 rfl) ?_
          refine lv_iconst (v := (-1)) hx hb d_X_best_49 (by decide) ?_
          refine lv_icmp_ne (tgt := 57) hx hb  d_X_best_50 (by decide) (fun c50 => ?_) (fun c50 => ?_)
          · refine lv_iload_n hx hb d_X_best_57 rfl (lv_at hl 2 rfl) ?_
            exact ct_iret g hQ hx hb hr hlocks hAe hK hP hD hS ⟨rfl, hg1, by omega, fun _ => ⟨hg3, fun d a b q => hg4 d a (by omega) q⟩⟩ d_X_best_58
          · exact absurd c50 (nr_nm1 (by omega))
        · refine lv_aload_n hx hb d_X_best_11 rfl (lv_at hl 0 rfl) ?_
          refine gtX hx hb hts hown hK hP fl_X_41 rfl (k := 10) (by decide) ⟨rfl, rfl, rfl⟩ rfl d_X_best_12 ?_
          refine lv_iload_n hx hb d_X_best_15 rfl (lv_at hl 3 rfl) ?_
          refine nr_zald hx hb hK hP 11 10 rfl rfl (by omega) (by decide) d_X_best_16 ?_
          refine nr_if_ne (tgt := 42) hx hb (nr_31 (B := 1) (b_sl _) (by decide)) d_X_best_17 (by decide) (fun c17 => ?_) (fun c17 => ?_)
          · refine lv_iinc (v := nI (k + 1)) (lv' := [(3, .int (nI (k + 1))), (0, .ref h0), (1, .int (nI f)), (2, .int (nI g))]) hx hb d_X_best_42 hl (k := 3) rfl (nI_1 _) (by decide) rfl (fun ls hl => ?_)
            refine lv_goto (tgt := 4) hx hb d_X_best_45 (by decide) ?_
            exact ih4 (k + 1) (nI g) _ _ _ (by omega) (by omega) (by omega) (ch_bs_skip (Or.inr ⟨g, rfl, hg1, hg2, hg3, hg4⟩) c17) hP hD hS (lv_sub hl [1, 2, 3, 0] rfl)
          · refine lv_iload_n hx hb d_X_best_20 rfl (lv_at hl 2 rfl) ?_
            refine lv_iconst (v := (-1)) hx hb d_X_best_21 (by decide) ?_
            refine lv_icmp_eq (tgt := 40) hx hb  d_X_best_22 (by decide) (fun c22 => ?_) (fun c22 => ?_)
            · exact absurd c22 (nr_nm1 (by omega))
            · refine lv_aload_n hx hb d_X_best_25 rfl (lv_at hl 0 rfl) ?_
              refine gtX hx hb hts hown hK hP fl_X_38 rfl (k := 9) (by decide) ⟨rfl, rfl, rfl⟩ rfl d_X_best_26 ?_
              refine lv_iload_n hx hb d_X_best_29 rfl (lv_at hl 3 rfl) ?_
              refine nr_iald hx hb hK hP 10 9 rfl rfl (by omega) (by decide) d_X_best_30 ?_
              refine lv_aload_n hx hb d_X_best_31 rfl (lv_at hl 0 rfl) ?_
              refine gtX hx hb hts hown hK hP fl_X_38 rfl (k := 9) (by decide) ⟨rfl, rfl, rfl⟩ rfl d_X_best_32 ?_
              refine lv_iload_n hx hb d_X_best_35 rfl (lv_at hl 2 rfl) ?_
              refine nr_iald hx hb hK hP 10 9 rfl rfl (Nat.lt_of_le_of_lt (show g ≤ 15 by omega) (by decide)) (by decide) d_X_best_36 ?_
              refine nr_icmp_le (tgt := 42) hx hb (nr_31 (B := 100) (b_of _) (by decide)) (nr_31 (B := 100) (b_of _) (by decide)) d_X_best_37 (by decide) (fun c37 => ?_) (fun c37 => ?_)
              · refine lv_iinc (v := nI (k + 1)) (lv' := [(3, .int (nI (k + 1))), (0, .ref h0), (1, .int (nI f)), (2, .int (nI g))]) hx hb d_X_best_42 hl (k := 3) rfl (nI_1 _) (by decide) rfl (fun ls hl => ?_)
                refine lv_goto (tgt := 4) hx hb d_X_best_45 (by decide) ?_
                exact ih4 (k + 1) (nI g) _ _ _ (by omega) (by omega) (by omega) (ch_bs_keep hg1 hg2 hg3 hg4 c37) hP hD hS (lv_sub hl [1, 2, 3, 0] rfl)
              · refine lv_iload_n hx hb d_X_best_40 rfl (lv_at hl 3 rfl) ?_
                refine lv_istore_n (lv' := [(2, .int (nI k)), (0, .ref h0), (1, .int (nI f)), (3, .int (nI k))]) hx hb d_X_best_41 rfl hl (by decide) rfl (fun ls hl => ?_)
                refine lv_iinc (v := nI (k + 1)) (lv' := [(3, .int (nI (k + 1))), (2, .int (nI k)), (0, .ref h0), (1, .int (nI f))]) hx hb d_X_best_42 hl (k := 3) rfl (nI_1 _) (by decide) rfl (fun ls hl => ?_)
                refine lv_goto (tgt := 4) hx hb d_X_best_45 (by decide) ?_
                exact ih4 (k + 1) (nI k) _ _ _ (by omega) (by omega) (by omega) (ch_bs_new hk1 c17 (fun d a b q => Nat.le_trans (hg4 d a b q) (Nat.le_of_lt (Nat.lt_of_not_le c37)))) hP hD hS (lv_sub hl [2, 3, 1, 0] rfl)
  exact lp4 (f + 4 + 1) f (-1) _ _ _ (by omega) (Nat.le_refl _) (by omega) (Or.inl ⟨rfl, fun d a b => by omega⟩) hP hD hS (lv_sub hl [2, 3, 1, 0] rfl)
end
section
/-! ===== the class's inner methods: settleAll, refresh, settleWithout, keepValues, changes ===== -/
theorem ch_ext {f g : Nat → Nat} {k x : Nat} (h : ∀ j, j < k → f j = g j) (e : x = g k) : ∀ j, j < k + 1 → ch_up f k x j = g j := by
  intro j hj
  by_cases z : j = k
  · rw [z, ch_up_s]; exact e
  · rw [ch_up_n z]; exact h j (by omega)
theorem ch_bd_if {B : Nat} {P : Prop} [Decidable P] {f g : Nat → Nat} (hf : ch_bd B f) (hg : ch_bd B g) : ch_bd B (if P then f else g) := by
  split
  · exact hf
  · exact hg
theorem ch_up_back {f : Nat → Nat} {k x : Nat} : ch_up (ch_up f k x) k (f k) = f := by
  funext j
  by_cases z : j = k
  · rw [z, ch_up_s]
  · rw [ch_up_n z, ch_up_n z]
/-- at how many of the first n places f and g differ -/
def ch_df (f g : Nat → Nat) : Nat → Nat
  | 0 => 0
  | n + 1 => ch_df f g n + (if f n = g n then 0 else 1)
theorem ch_df_le (f g : Nat → Nat) : ∀ n, ch_df f g n ≤ n
  | 0 => Nat.le_refl _
  | n + 1 => by
    have ih := ch_df_le f g n
    show ch_df f g n + (if f n = g n then 0 else 1) ≤ n + 1
    split <;> omega
theorem ch_df_cg {f g f' g' : Nat → Nat} : ∀ n, (∀ j, j < n → f j = f' j) → (∀ j, j < n → g j = g' j) → ch_df f g n = ch_df f' g' n
  | 0, _, _ => rfl
  | n + 1, h1, h2 => by
    show ch_df f g n + (if f n = g n then 0 else 1) = ch_df f' g' n + (if f' n = g' n then 0 else 1)
    rw [ch_df_cg n (fun j hj => h1 j (by omega)) (fun j hj => h2 j (by omega)), h1 n (by omega), h2 n (by omega)]
theorem ch_df_sym (f g : Nat → Nat) : ∀ n, ch_df f g n = ch_df g f n
  | 0 => rfl
  | n + 1 => by
    show ch_df f g n + (if f n = g n then 0 else 1) = ch_df g f n + (if g n = f n then 0 else 1)
    rw [ch_df_sym f g n]
    by_cases h : f n = g n
    · rw [if_pos h, if_pos h.symm]
    · rw [if_neg h, if_neg (fun q => h q.symm)]
abbrev rm_X_settleAll : Room := { frames := 3, cells := 0, slots := 0, locals := 71 }
set_option maxHeartbeats 4000000 in
set_option maxRecDepth 100000 in
/-- settleAll() -/
theorem c_X_settleAll (l : Launch) (D : va_G) (h0 : Nat) (ad : Nat → Nat) (ca : Nat → ClassId) (hd : Nat → Nat) (st : Nat → Nat) (sz : Nat → Nat) (pt : Nat → Nat) (ng : Nat → Nat) (dp : Nat → Nat) (dn : Nat → Nat) (se : Nat → Nat) (va : Nat → Nat) (of : Nat → Nat) (sl : Nat → Nat) (wt : Nat → Int32) (kp : Nat → Nat) (ds : Nat) (cn : Nat) (sk : Int32) (cu : Nat) (hz : Nat) (B : bX hd st sz pt ng dp dn se va of sl kp ds cn cu)  (hok : ch_ok hd sz pt ng cn) : Met l y_X_settleAll w_X_settleAll rm_X_settleAll (va_Pc [.ref h0] (Pw D (wX h0 ad ca hd st sz pt ng dp dn se va of sl wt kp ds cn sk cu) (yX ca) hz)) (va_Qv (fun (u : (Nat → Nat) × (Nat → Nat) × (Nat → Nat) × (Nat → Int32)) => ch_Sol (ch_wor st sz pt ng) hd cn se sk u.1 ∧ ch_bd 100 u.1 ∧ ch_bd 100 u.2.1 ∧ ch_bd 1 u.2.2.1) (fun (u : (Nat → Nat) × (Nat → Nat) × (Nat → Nat) × (Nat → Int32)) => Bw D (wX h0 ad ca hd st sz pt ng dp dn se va of sl wt kp ds cn sk cu) (wX h0 ad ca hd st sz pt ng dp dn se u.1 u.2.1 u.2.2.1 u.2.2.2 kp ds cn sk cu) (yX ca) hz) (va_A (wX h0 ad ca hd st sz pt ng dp dn se va of sl wt kp ds cn sk cu) hz)) 0 0 (va_A (wX h0 ad ca hd st sz pt ng dp dn se va of sl wt kp ds cn sk cu) hz) := by
  obtain ⟨b_hd, b_st, b_sz, b_pt, b_ng, b_dp, b_dn, b_se, b_va, b_of, b_sl, b_kp, b_ds, b_cn, b_cu⟩ := B
  refine ct_start (by decide) (Nat.le_of_ble_eq_true rfl) ?_
  intro p e s m args below meth c A Q ls hx hb hr hlocks hml hts hown hnm hA hAe hsz hS hP hD hK hl hQ
  have hown : s.vm.findClass R_X = some m.cls := hown
  have hl : lv_has ls 4 [(0, .ref h0)] := hl
  have hP : va_P D classes (wX h0 ad ca hd st sz pt ng dp dn se va of sl wt kp ds cn sk cu) s.heap := hP
  obtain ⟨H, hH⟩ : ∃ H, H = s.heap := ⟨_, rfl⟩
  obtain ⟨locs, hlc⟩ : ∃ locs : List Loc, locs = [] := ⟨_, rfl⟩
  have hS : va_S A s.heap H locs := by rw [hH, hlc]; exact hS
  have hP : va_P D classes (wX h0 ad ca hd st sz pt ng dp dn se va of sl wt kp ds cn sk cu) H := by rw [hH]; exact hP
  have hgo : W p l e rm_X_settleAll s m args below meth c H locs 0 0 Q (F0 m 0 ls []) := ?_
  · rw [hH, hlc] at hgo; exact hgo
  clear hH hlc
  refine lv_iconst (v := nI 0) hx hb d_X_settleAll_0 (by decide) ?_
  refine lv_istore_n (lv' := [(1, .int (nI 0)), (0, .ref h0)]) hx hb d_X_settleAll_1 rfl hl (by decide) rfl (fun ls hl => ?_)
  have lp2 : ∀ (n : Nat) (k : Nat) (s1 : Nat → Nat) (v1 : Nat → Nat) (o1 : Nat → Nat) (H : Heap) (locs : List Loc) (ls : Array Slot), 16 + 1 ≤ k + n → (k ≤ 16) → (ch_bd 1 s1) → (ch_bd 100 v1) → (ch_bd 100 o1) → (∀ j, j < k → s1 j = 0) → (∀ j, j < k → o1 j = se j) → va_P D classes (wX h0 ad ca hd st sz pt ng dp dn se v1 o1 s1 wt kp ds cn sk cu) H → va_D A (wX h0 ad ca hd st sz pt ng dp dn se v1 o1 s1 wt kp ds cn sk cu) → va_S A s.heap H locs → lv_has ls 4 [(0, .ref h0), (1, .int (nI k))] → W p l e rm_X_settleAll s m args below meth c H locs 0 0 Q (F0 m 2 ls []) := by
    intro n
    induction n with
    | zero =>
      intro k s1 v1 o1 H locs ls hn2 hk bs1 bv1 bo1 hs1 ho1
      exact absurd hn2 (by omega)
    | succ n ih2 =>
      intro k s1 v1 o1 H locs ls hn2 hk bs1 bv1 bo1 hs1 ho1 hP hD hS hl
      refine lv_iload_n hx hb d_X_settleAll_2 rfl (lv_at hl 1 rfl) ?_
      refine lv_bipush (v := nI 16) hx hb d_X_settleAll_3 (by decide) ?_
      refine nr_icmp_ge (tgt := 40) hx hb (nr_31 (B := 16) hk (by decide)) (by decide) d_X_settleAll_5 (by decide) (fun c5 => ?_) (fun c5 => ?_)
      · have hs16 : ∀ j, j < 16 → s1 j = 0 := fun j hj => hs1 j (by omega)
        have ho16 : ∀ j, j < 16 → o1 j = se j := fun j hj => ho1 j (by omega)
        refine lv_iconst (v := nI 0) hx hb d_X_settleAll_40 (by decide) ?_
        refine lv_istore_n (lv' := [(1, .int (nI 0)), (0, .ref h0)]) hx hb d_X_settleAll_41 rfl hl (by decide) rfl (fun ls hl => ?_)
        have lp42 : ∀ (n : Nat) (r : Nat) (o2 : Nat → Nat) (w2 : Nat → Int32) (H : Heap) (locs : List Loc) (ls : Array Slot), cn + 1 ≤ r + n → (r ≤ cn) → (ch_bd 100 o2) → (ch_I2 st sz pt ng hd se sk r v1 o2 w2) → va_P D classes (wX h0 ad ca hd st sz pt ng dp dn se v1 o2 s1 w2 kp ds cn sk cu) H → va_D A (wX h0 ad ca hd st sz pt ng dp dn se v1 o2 s1 w2 kp ds cn sk cu) → va_S A s.heap H locs → lv_has ls 4 [(0, .ref h0), (1, .int (nI r))] → W p l e rm_X_settleAll s m args below meth c H locs 0 0 Q (F0 m 42 ls []) := by
          intro n
          induction n with
          | zero =>
            intro r o2 w2 H locs ls hn42 hr2 bo2 hI2
            exact absurd hn42 (by omega)
          | succ n ih42 =>
            intro r o2 w2 H locs ls hn42 hr2 bo2 hI2 hP hD hS hl
            refine lv_iload_n hx hb d_X_settleAll_42 rfl (lv_at hl 1 rfl) ?_
            refine lv_aload_n hx hb d_X_settleAll_43 rfl (lv_at hl 0 rfl) ?_
            refine gtX hx hb hts hown hK hP fl_X_61 rfl (k := 14) (by decide) ⟨rfl, rfl, rfl⟩ rfl d_X_settleAll_44 ?_
            refine nr_icmp_ge (tgt := 82) hx hb (nr_31 (B := 20) (Nat.le_trans hr2 b_cn) (by decide)) (nr_31 (B := 20) b_cn (by decide)) d_X_settleAll_47 (by decide) (fun c47 => ?_) (fun c47 => ?_)
            · have hI30 : ch_I3 st sz pt ng hd cn se sk 0 v1 o2 s1 w2 := ch_I3_0 b_pt hs16 ((show r = cn by omega) ▸ hI2)
              refine lv_iconst (v := nI 0) hx hb d_X_settleAll_82 (by decide) ?_
              refine lv_istore_n (lv' := [(1, .int (nI 0)), (0, .ref h0)]) hx hb d_X_settleAll_83 rfl hl (by decide) rfl (fun ls hl => ?_)
              have lp84 : ∀ (n : Nat) (t : Nat) (v3 : Nat → Nat) (o3 : Nat → Nat) (s3 : Nat → Nat) (w3 : Nat → Int32) (H : Heap) (locs : List Loc) (ls : Array Slot), 16 + 1 ≤ t + n → (t ≤ 16) → (ch_bd 100 v3) → (ch_bd 100 o3) → (ch_bd 1 s3) → (ch_I3 st sz pt ng hd cn se sk t v3 o3 s3 w3) → va_P D classes (wX h0 ad ca hd st sz pt ng dp dn se v3 o3 s3 w3 kp ds cn sk cu) H → va_D A (wX h0 ad ca hd st sz pt ng dp dn se v3 o3 s3 w3 kp ds cn sk cu) → va_S A s.heap H locs → lv_has ls 4 [(0, .ref h0), (1, .int (nI t))] → W p l e rm_X_settleAll s m args below meth c H locs 0 0 Q (F0 m 84 ls []) := by
                intro n
                induction n with
                | zero =>
                  intro t v3 o3 s3 w3 H locs ls hn84 ht3 bv3 bo3 bs3 h3
                  exact absurd hn84 (by omega)
                | succ n ih84 =>
                  intro t v3 o3 s3 w3 H locs ls hn84 ht3 bv3 bo3 bs3 h3 hP hD hS hl
                  refine lv_iload_n hx hb d_X_settleAll_84 rfl (lv_at hl 1 rfl) ?_
                  refine lv_bipush (v := nI 16) hx hb d_X_settleAll_85 (by decide) ?_
                  refine nr_icmp_ge (tgt := 147) hx hb (nr_31 (B := 16) ht3 (by decide)) (by decide) d_X_settleAll_87 (by decide) (fun c87 => ?_) (fun c87 => ?_)
                  · obtain rfl : t = 16 := by omega
                    exact ct_vret (v3, o3, s3, w3) hQ hx hb hr hlocks hAe hK hP hD hS ⟨ch_I3_end b_pt b_hd h3, bv3, bo3, bs3⟩ d_X_settleAll_147
                  · refine lv_aload_n hx hb d_X_settleAll_90 rfl (lv_at hl 0 rfl) ?_
                    refine lv_iconst (v := nI 4) hx hb d_X_settleAll_91 (by decide) ?_
                    refine lv_iload_n hx hb d_X_settleAll_92 rfl (lv_at hl 1 rfl) ?_
                    refine lv_iconst (v := nI 2) hx hb d_X_settleAll_93 (by decide) ?_
                    refine nr_ishr2 hx hb (nr_31 (B := 16) ht3 (by decide)) d_X_settleAll_94 ?_
                    refine nr_imul hx hb d_X_settleAll_95 ?_
                    refine xc_iV (C := R_X) (rest := []) ⟨hx, hb, hml, hown, hts⟩ (c_X_best l D h0 ad ca hd st sz pt ng dp dn se v3 o3 s3 w3 kp ds cn sk cu H.size ⟨b_hd, b_st, b_sz, b_pt, b_ng, b_dp, b_dn, b_se, bv3, bo3, bs3, b_kp, b_ds, b_cn, b_cu⟩ (4 * (t / 4)) (by omega)) (cwV 1 hts (gd_v ml_X_95 im_X_best se_X_best ini_X cd_X_best) rfl rfl rfl (by decide +kernel) ⟨Nat.le_of_ble_eq_true rfl, Nat.le_of_ble_eq_true rfl⟩) (va_recv hK hP (ci := 0) (q0 := 0) rfl rfl) hK hP hD hS hA rfl hl.1 rfl (Nat.le_of_ble_eq_true rfl) d_X_settleAll_96 ⟨Nat.le_of_ble_eq_true rfl, Nat.le_of_ble_eq_true rfl⟩ (fun r96 u96 H locs hp96 hP hD hS => ?_)
                    have hP : va_P D classes (wX h0 ad ca hd st sz pt ng dp dn se v3 o3 s3 w3 kp ds cn sk cu) H := hP
                    have hD : va_D A (wX h0 ad ca hd st sz pt ng dp dn se v3 o3 s3 w3 kp ds cn sk cu) := hD
                    obtain ⟨rfl, hb1, hb2, hb3⟩ := hp96
                    obtain ⟨hm0, hm1⟩ := hb3 (ch_un_pos (by have z9 := h3.2.1.2.2 (by omega); omega))
                    obtain ⟨hF, hI40⟩ := ch_F4_start (by omega) hb1 hb2 hm0 hm1 h3
                    refine lv_istore_n (lv' := [(2, .int (nI u96)), (0, .ref h0), (1, .int (nI t))]) hx hb d_X_settleAll_99 rfl hl (by decide) rfl (fun ls hl => ?_)
                    refine lv_aload_n hx hb d_X_settleAll_100 rfl (lv_at hl 1 rfl) ?_
                    refine gtX hx hb hts hown hK hP fl_X_41 rfl (k := 10) (by decide) ⟨rfl, rfl, rfl⟩ rfl d_X_settleAll_101 ?_
                    refine lv_iload_n hx hb d_X_settleAll_104 rfl (lv_at hl 0 rfl) ?_
                    refine lv_iconst (v := nI 1) hx hb d_X_settleAll_105 (by decide) ?_
                    refine nr_zast hx hb hK hP hD hS 11 10 rfl rfl (Nat.lt_of_le_of_lt (show u96 ≤ 15 by omega) (by decide)) (by decide) (by decide) d_X_settleAll_106 (fun H locs hP hD hS => ?_)
                    have hP : va_P D classes (wX h0 ad ca hd st sz pt ng dp dn se v3 o3 (ch_up s3 u96 1) w3 kp ds cn sk cu) H := hP
                    have hD : va_D A (wX h0 ad ca hd st sz pt ng dp dn se v3 o3 (ch_up s3 u96 1) w3 kp ds cn sk cu) := hD
                    refine lv_aload_n hx hb d_X_settleAll_107 rfl (lv_at hl 1 rfl) ?_
                    refine gtX hx hb hts hown hK hP fl_X_35 rfl (k := 8) (by decide) ⟨rfl, rfl, rfl⟩ rfl d_X_settleAll_108 ?_
                    refine lv_iload_n hx hb d_X_settleAll_111 rfl (lv_at hl 0 rfl) ?_
                    refine lv_aload_n hx hb d_X_settleAll_112 rfl (lv_at hl 1 rfl) ?_
                    refine gtX hx hb hts hown hK hP fl_X_38 rfl (k := 9) (by decide) ⟨rfl, rfl, rfl⟩ rfl d_X_settleAll_113 ?_
                    refine lv_iload_n hx hb d_X_settleAll_116 rfl (lv_at hl 0 rfl) ?_
                    refine nr_iald hx hb hK hP 10 9 rfl rfl (Nat.lt_of_le_of_lt (show u96 ≤ 15 by omega) (by decide)) (by decide) d_X_settleAll_117 ?_
                    refine nr_iast hx hb hK hP hD hS 9 8 rfl rfl (Nat.lt_of_le_of_lt (show u96 ≤ 15 by omega) (by decide)) (by decide) d_X_settleAll_118 (fun H locs hP hD hS => ?_)
                    have hP : va_P D classes (wX h0 ad ca hd st sz pt ng dp dn se (ch_up v3 u96 (o3 u96)) o3 (ch_up s3 u96 1) w3 kp ds cn sk cu) H := hP
                    have hD : va_D A (wX h0 ad ca hd st sz pt ng dp dn se (ch_up v3 u96 (o3 u96)) o3 (ch_up s3 u96 1) w3 kp ds cn sk cu) := hD
                    refine lv_iconst (v := nI 0) hx hb d_X_settleAll_119 (by decide) ?_
                    refine lv_istore_n (lv' := [(3, .int (nI 0)), (2, .int (nI u96)), (0, .ref h0), (1, .int (nI t))]) hx hb d_X_settleAll_120 rfl hl (by decide) rfl (fun ls hl => ?_)
                    have lp121 : ∀ (n : Nat) (r4 : Nat) (o4 : Nat → Nat) (w4 : Nat → Int32) (H : Heap) (locs : List Loc) (ls : Array Slot), cn + 1 ≤ r4 + n → (r4 ≤ cn) → (ch_bd 100 o4) → (ch_I4 st sz pt ng hd cn se sk t s3 (ch_up v3 u96 (o3 u96)) (ch_up s3 u96 1) r4 o4 w4) → va_P D classes (wX h0 ad ca hd st sz pt ng dp dn se (ch_up v3 u96 (o3 u96)) o4 (ch_up s3 u96 1) w4 kp ds cn sk cu) H → va_D A (wX h0 ad ca hd st sz pt ng dp dn se (ch_up v3 u96 (o3 u96)) o4 (ch_up s3 u96 1) w4 kp ds cn sk cu) → va_S A s.heap H locs → lv_has ls 4 [(0, .ref h0), (1, .int (nI t)), (2, .int (nI u96)), (3, .int (nI r4))] → W p l e rm_X_settleAll s m args below meth c H locs 0 0 Q (F0 m 121 ls []) := by
                      intro n
                      induction n with
                      | zero =>
                        intro r4 o4 w4 H locs ls hn121 hr4 bo4 hI4
                        exact absurd hn121 (by omega)
                      | succ n ih121 =>
                        intro r4 o4 w4 H locs ls hn121 hr4 bo4 hI4 hP hD hS hl
                        refine lv_iload_n hx hb d_X_settleAll_121 rfl (lv_at hl 3 rfl) ?_
                        refine lv_aload_n hx hb d_X_settleAll_122 rfl (lv_at hl 0 rfl) ?_
                        refine gtX hx hb hts hown hK hP fl_X_61 rfl (k := 14) (by decide) ⟨rfl, rfl, rfl⟩ rfl d_X_settleAll_123 ?_
                        refine nr_icmp_ge (tgt := 141) hx hb (nr_31 (B := 20) (Nat.le_trans hr4 b_cn) (by decide)) (nr_31 (B := 20) b_cn (by decide)) d_X_settleAll_126 (by decide) (fun c126 => ?_) (fun c126 => ?_)
                        · refine lv_iinc (v := nI (t + 1)) (lv' := [(1, .int (nI (t + 1))), (0, .ref h0), (2, .int (nI u96)), (3, .int (nI r4))]) hx hb d_X_settleAll_141 hl (k := 1) rfl (nI_1 _) (by decide) rfl (fun ls hl => ?_)
                          refine lv_goto (tgt := 84) hx hb d_X_settleAll_144 (by decide) ?_
                          exact ih84 (t + 1) (ch_up v3 u96 (o3 u96)) o4 (ch_up s3 u96 1) w4 _ _ _ (by omega) (by omega) (ch_bd_up bv3 (bo3 _)) bo4 (ch_bd_up bs3 (by decide)) (ch_I4_end (by omega) hok b_pt hF h3 (show r4 = cn by omega ▸ hI4)) hP hD hS (lv_sub hl [1, 0] rfl)
                        · refine lv_aload_n hx hb d_X_settleAll_129 rfl (lv_at hl 0 rfl) ?_
                          refine lv_iload_n hx hb d_X_settleAll_130 rfl (lv_at hl 3 rfl) ?_
                          refine lv_iload_n hx hb d_X_settleAll_131 rfl (lv_at hl 2 rfl) ?_
                          refine xc_vV (C := R_X) (rest := []) ⟨hx, hb, hml, hown, hts⟩ (c_X_count l D h0 ad ca hd st sz pt ng dp dn se (ch_up v3 u96 (o3 u96)) o4 (ch_up s3 u96 1) w4 kp ds cn sk cu H.size ⟨b_hd, b_st, b_sz, b_pt, b_ng, b_dp, b_dn, b_se, ch_bd_up bv3 (bo3 _), bo4, ch_bd_up bs3 (by decide), b_kp, b_ds, b_cn, b_cu⟩ r4 u96 (by omega) (by omega)) (cwV 2 hts (gd_v ml_X_98 im_X_count se_X_count ini_X cd_X_count) rfl rfl rfl (by decide +kernel) ⟨Nat.le_of_ble_eq_true rfl, Nat.le_of_ble_eq_true rfl⟩) (va_recv hK hP (ci := 0) (q0 := 0) rfl rfl) hK hP hD hS hA rfl hl.1 rfl (Nat.le_of_ble_eq_true rfl) d_X_settleAll_132 ⟨Nat.le_of_ble_eq_true rfl, Nat.le_of_ble_eq_true rfl⟩ (fun u132 H locs hp132 hP hD hS => ?_)
                          have hP : va_P D classes (wX h0 ad ca hd st sz pt ng dp dn se (ch_up v3 u96 (o3 u96)) (if 0 < w4 r4 ∧ w4 r4 - nI (ch_ct pt (3 * r4) u96 (sz r4)) = 0 then ch_mk (ch_wor st sz pt ng (ch_up v3 u96 (o3 u96)) r4) hd r4 sk (ch_up s3 u96 1) o4 else o4) (ch_up s3 u96 1) (upd w4 r4 (w4 r4 - nI (ch_ct pt (3 * r4) u96 (sz r4)))) kp ds cn sk cu) H := hP
                          have hD : va_D A (wX h0 ad ca hd st sz pt ng dp dn se (ch_up v3 u96 (o3 u96)) (if 0 < w4 r4 ∧ w4 r4 - nI (ch_ct pt (3 * r4) u96 (sz r4)) = 0 then ch_mk (ch_wor st sz pt ng (ch_up v3 u96 (o3 u96)) r4) hd r4 sk (ch_up s3 u96 1) o4 else o4) (ch_up s3 u96 1) (upd w4 r4 (w4 r4 - nI (ch_ct pt (3 * r4) u96 (sz r4)))) kp ds cn sk cu) := hD
                          refine lv_iinc (v := nI (r4 + 1)) (lv' := [(3, .int (nI (r4 + 1))), (0, .ref h0), (1, .int (nI t)), (2, .int (nI u96))]) hx hb d_X_settleAll_135 hl (k := 3) rfl (nI_1 _) (by decide) rfl (fun ls hl => ?_)
                          refine lv_goto (tgt := 121) hx hb d_X_settleAll_138 (by decide) ?_
                          exact ih121 (r4 + 1) (if 0 < w4 r4 ∧ w4 r4 - nI (ch_ct pt (3 * r4) u96 (sz r4)) = 0 then ch_mk (ch_wor st sz pt ng (ch_up v3 u96 (o3 u96)) r4) hd r4 sk (ch_up s3 u96 1) o4 else o4) (upd w4 r4 (w4 r4 - nI (ch_ct pt (3 * r4) u96 (sz r4)))) _ _ _ (by omega) (by omega) (ch_bd_if (ch_mk_bd bo4 (ch_wor_100 (b_st _))) bo4) (ch_I4_step hok b_st b_hd b_sz hF (by omega) hI4) hP hD hS (lv_sub hl [1, 2, 3, 0] rfl)
                    exact lp121 (cn + 1) 0 o3 w3 _ _ _ (by omega) (Nat.zero_le _) bo3 hI40 hP hD hS (lv_sub hl [2, 3, 1, 0] rfl)
              exact lp84 (16 + 1) 0 v1 o2 s1 w2 _ _ _ (by omega) (by decide) bv1 bo2 bs1 hI30 hP hD hS (lv_sub hl [1, 0] rfl)
            · refine lv_aload_n hx hb d_X_settleAll_50 rfl (lv_at hl 0 rfl) ?_
              refine gtX hx hb hts hown hK hP fl_X_44 rfl (k := 11) (by decide) ⟨rfl, rfl, rfl⟩ rfl d_X_settleAll_51 ?_
              refine lv_iload_n hx hb d_X_settleAll_54 rfl (lv_at hl 1 rfl) ?_
              refine lv_aload_n hx hb d_X_settleAll_55 rfl (lv_at hl 0 rfl) ?_
              refine gtX hx hb hts hown hK hP fl_X_16 rfl (k := 2) (by decide) ⟨rfl, rfl, rfl⟩ rfl d_X_settleAll_56 ?_
              refine lv_iload_n hx hb d_X_settleAll_59 rfl (lv_at hl 1 rfl) ?_
              refine nr_iald hx hb hK hP 3 2 rfl rfl (by omega) (by decide) d_X_settleAll_60 ?_
              refine nr_wast hx hb hK hP hD hS 12 11 rfl rfl (by omega) (by decide) d_X_settleAll_61 (fun H locs hP hD hS => ?_)
              have hP : va_P D classes (wX h0 ad ca hd st sz pt ng dp dn se v1 o2 s1 (upd w2 r (nI (sz r))) kp ds cn sk cu) H := hP
              have hD : va_D A (wX h0 ad ca hd st sz pt ng dp dn se v1 o2 s1 (upd w2 r (nI (sz r))) kp ds cn sk cu) := hD
              refine lv_aload_n hx hb d_X_settleAll_62 rfl (lv_at hl 0 rfl) ?_
              refine gtX hx hb hts hown hK hP fl_X_16 rfl (k := 2) (by decide) ⟨rfl, rfl, rfl⟩ rfl d_X_settleAll_63 ?_
              refine lv_iload_n hx hb d_X_settleAll_66 rfl (lv_at hl 1 rfl) ?_
              refine nr_iald hx hb hK hP 3 2 rfl rfl (by omega) (by decide) d_X_settleAll_67 ?_
              refine nr_if_ne (tgt := 76) hx hb (nr_31 (B := 3) (b_sz _) (by decide)) d_X_settleAll_68 (by decide) (fun c68 => ?_) (fun c68 => ?_)
              · refine lv_iinc (v := nI (r + 1)) (lv' := [(1, .int (nI (r + 1))), (0, .ref h0)]) hx hb d_X_settleAll_76 hl (k := 1) rfl (nI_1 _) (by decide) rfl (fun ls hl => ?_)
                refine lv_goto (tgt := 42) hx hb d_X_settleAll_79 (by decide) ?_
                exact ih42 (r + 1) o2 (upd w2 r (nI (sz r))) _ _ _ (by omega) (by omega) bo2 (ch_I2_skip c68 hI2) hP hD hS (lv_sub hl [1, 0] rfl)
              · refine lv_aload_n hx hb d_X_settleAll_71 rfl (lv_at hl 0 rfl) ?_
                refine lv_iload_n hx hb d_X_settleAll_72 rfl (lv_at hl 1 rfl) ?_
                refine xc_vV (C := R_X) (rest := []) ⟨hx, hb, hml, hown, hts⟩ (c_X_makeOffer l D h0 ad ca hd st sz pt ng dp dn se v1 o2 s1 (upd w2 r (nI (sz r))) kp ds cn sk cu H.size ⟨b_hd, b_st, b_sz, b_pt, b_ng, b_dp, b_dn, b_se, bv1, bo2, bs1, b_kp, b_ds, b_cn, b_cu⟩ r (by omega)) (cwV 1 hts (gd_v ml_X_92 im_X_makeOffer se_X_makeOffer ini_X cd_X_makeOffer) rfl rfl rfl (by decide +kernel) ⟨Nat.le_of_ble_eq_true rfl, Nat.le_of_ble_eq_true rfl⟩) (va_recv hK hP (ci := 0) (q0 := 0) rfl rfl) hK hP hD hS hA rfl hl.1 rfl (Nat.le_of_ble_eq_true rfl) d_X_settleAll_73 ⟨Nat.le_of_ble_eq_true rfl, Nat.le_of_ble_eq_true rfl⟩ (fun u73 H locs hp73 hP hD hS => ?_)
                have hP : va_P D classes (wX h0 ad ca hd st sz pt ng dp dn se v1 (ch_mk (ch_wor st sz pt ng v1 r) hd r sk s1 o2) s1 (upd w2 r (nI (sz r))) kp ds cn sk cu) H := hP
                have hD : va_D A (wX h0 ad ca hd st sz pt ng dp dn se v1 (ch_mk (ch_wor st sz pt ng v1 r) hd r sk s1 o2) s1 (upd w2 r (nI (sz r))) kp ds cn sk cu) := hD
                refine lv_iinc (v := nI (r + 1)) (lv' := [(1, .int (nI (r + 1))), (0, .ref h0)]) hx hb d_X_settleAll_76 hl (k := 1) rfl (nI_1 _) (by decide) rfl (fun ls hl => ?_)
                refine lv_goto (tgt := 42) hx hb d_X_settleAll_79 (by decide) ?_
                exact ih42 (r + 1) (ch_mk (ch_wor st sz pt ng v1 r) hd r sk s1 o2) (upd w2 r (nI (sz r))) _ _ _ (by omega) (by omega) (ch_mk_bd bo2 (ch_wor_100 (b_st _))) (ch_I2_make c68 hs16 (Nat.lt_succ_of_le (b_hd r)) hI2) hP hD hS (lv_sub hl [1, 0] rfl)
        exact lp42 (cn + 1) 0 o1 wt _ _ _ (by omega) (Nat.zero_le _) bo1 (ch_I2_0 ho16) hP hD hS (lv_sub hl [1, 0] rfl)
      · refine lv_aload_n hx hb d_X_settleAll_8 rfl (lv_at hl 0 rfl) ?_
        refine gtX hx hb hts hown hK hP fl_X_41 rfl (k := 10) (by decide) ⟨rfl, rfl, rfl⟩ rfl d_X_settleAll_9 ?_
        refine lv_iload_n hx hb d_X_settleAll_12 rfl (lv_at hl 1 rfl) ?_
        refine lv_iconst (v := nI 0) hx hb d_X_settleAll_13 (by decide) ?_
        refine nr_zast hx hb hK hP hD hS 11 10 rfl rfl (by omega) (by decide) (by decide) d_X_settleAll_14 (fun H locs hP hD hS => ?_)
        have hP : va_P D classes (wX h0 ad ca hd st sz pt ng dp dn se v1 o1 (ch_up s1 k 0) wt kp ds cn sk cu) H := hP
        have hD : va_D A (wX h0 ad ca hd st sz pt ng dp dn se v1 o1 (ch_up s1 k 0) wt kp ds cn sk cu) := hD
        refine lv_aload_n hx hb d_X_settleAll_15 rfl (lv_at hl 0 rfl) ?_
        refine gtX hx hb hts hown hK hP fl_X_35 rfl (k := 8) (by decide) ⟨rfl, rfl, rfl⟩ rfl d_X_settleAll_16 ?_
        refine lv_iload_n hx hb d_X_settleAll_19 rfl (lv_at hl 1 rfl) ?_
        refine lv_iconst (v := nI 0) hx hb d_X_settleAll_20 (by decide) ?_
        refine nr_iast hx hb hK hP hD hS 9 8 rfl rfl (by omega) (by decide) d_X_settleAll_21 (fun H locs hP hD hS => ?_)
        have hP : va_P D classes (wX h0 ad ca hd st sz pt ng dp dn se (ch_up v1 k 0) o1 (ch_up s1 k 0) wt kp ds cn sk cu) H := hP
        have hD : va_D A (wX h0 ad ca hd st sz pt ng dp dn se (ch_up v1 k 0) o1 (ch_up s1 k 0) wt kp ds cn sk cu) := hD
        refine lv_aload_n hx hb d_X_settleAll_22 rfl (lv_at hl 0 rfl) ?_
        refine gtX hx hb hts hown hK hP fl_X_38 rfl (k := 9) (by decide) ⟨rfl, rfl, rfl⟩ rfl d_X_settleAll_23 ?_
        refine lv_iload_n hx hb d_X_settleAll_26 rfl (lv_at hl 1 rfl) ?_
        refine lv_aload_n hx hb d_X_settleAll_27 rfl (lv_at hl 0 rfl) ?_
        refine gtX hx hb hts hown hK hP fl_X_32 rfl (k := 7) (by decide) ⟨rfl, rfl, rfl⟩ rfl d_X_settleAll_28 ?_
        refine lv_iload_n hx hb d_X_settleAll_31 rfl (lv_at hl 1 rfl) ?_
        refine nr_iald hx hb hK hP 8 7 rfl rfl (by omega) (by decide) d_X_settleAll_32 ?_
        refine nr_iast hx hb hK hP hD hS 10 9 rfl rfl (by omega) (by decide) d_X_settleAll_33 (fun H locs hP hD hS => ?_)
        have hP : va_P D classes (wX h0 ad ca hd st sz pt ng dp dn se (ch_up v1 k 0) (ch_up o1 k (se k)) (ch_up s1 k 0) wt kp ds cn sk cu) H := hP
        have hD : va_D A (wX h0 ad ca hd st sz pt ng dp dn se (ch_up v1 k 0) (ch_up o1 k (se k)) (ch_up s1 k 0) wt kp ds cn sk cu) := hD
        refine lv_iinc (v := nI (k + 1)) (lv' := [(1, .int (nI (k + 1))), (0, .ref h0)]) hx hb d_X_settleAll_34 hl (k := 1) rfl (nI_1 _) (by decide) rfl (fun ls hl => ?_)
        refine lv_goto (tgt := 2) hx hb d_X_settleAll_37 (by decide) ?_
        exact ih2 (k + 1) (ch_up s1 k 0) (ch_up v1 k 0) (ch_up o1 k (se k)) _ _ _ (by omega) (by omega) (ch_bd_up bs1 (by decide)) (ch_bd_up bv1 (by decide)) (ch_bd_up bo1 (b_se _)) (ch_ext (g := fun _ => 0) hs1 rfl) (ch_ext ho1 rfl) hP hD hS (lv_sub hl [1, 0] rfl)
  exact lp2 (16 + 1) 0 sl va of _ _ _ (by omega) (by decide) b_sl b_va b_of (fun j hj => absurd hj (Nat.not_lt_zero _)) (fun j hj => absurd hj (Nat.not_lt_zero _)) hP hD hS (lv_sub hl [1, 0] rfl)

abbrev rm_X_refresh : Room := { frames := 4, cells := 0, slots := 0, locals := 94 }
set_option maxHeartbeats 4000000 in
set_option maxRecDepth 100000 in
/-- refresh() -/
theorem c_X_refresh (l : Launch) (D : va_G) (h0 : Nat) (ad : Nat → Nat) (ca : Nat → ClassId) (hd : Nat → Nat) (st : Nat → Nat) (sz : Nat → Nat) (pt : Nat → Nat) (ng : Nat → Nat) (dp : Nat → Nat) (dn : Nat → Nat) (se : Nat → Nat) (va : Nat → Nat) (of : Nat → Nat) (sl : Nat → Nat) (wt : Nat → Int32) (kp : Nat → Nat) (ds : Nat) (cn : Nat) (sk : Int32) (cu : Nat) (hz : Nat) (B : bX hd st sz pt ng dp dn se va of sl kp ds cn cu)  (hok : ch_ok hd sz pt ng cn) (hsk : sk = (-1)) (hcu : cu ≠ 0 → ch_Sol (ch_wor st sz pt ng) hd cn se (-1) va) : Met l y_X_refresh w_X_refresh rm_X_refresh (va_Pc [.ref h0] (Pw D (wX h0 ad ca hd st sz pt ng dp dn se va of sl wt kp ds cn sk cu) (yX ca) hz)) (va_Qv (fun (u : (Nat → Nat) × (Nat → Nat) × (Nat → Nat) × (Nat → Int32)) => ch_Sol (ch_wor st sz pt ng) hd cn se (-1) u.1 ∧ ch_bd 100 u.1 ∧ ch_bd 100 u.2.1 ∧ ch_bd 1 u.2.2.1) (fun (u : (Nat → Nat) × (Nat → Nat) × (Nat → Nat) × (Nat → Int32)) => Bw D (wX h0 ad ca hd st sz pt ng dp dn se va of sl wt kp ds cn sk cu) (wX h0 ad ca hd st sz pt ng dp dn se u.1 u.2.1 u.2.2.1 u.2.2.2 kp ds cn sk 1) (yX ca) hz) (va_A (wX h0 ad ca hd st sz pt ng dp dn se va of sl wt kp ds cn sk cu) hz)) 0 0 (va_A (wX h0 ad ca hd st sz pt ng dp dn se va of sl wt kp ds cn sk cu) hz) := by
  obtain ⟨b_hd, b_st, b_sz, b_pt, b_ng, b_dp, b_dn, b_se, b_va, b_of, b_sl, b_kp, b_ds, b_cn, b_cu⟩ := B
  refine ct_start (by decide) (Nat.le_of_ble_eq_true rfl) ?_
  intro p e s m args below meth c A Q ls hx hb hr hlocks hml hts hown hnm hA hAe hsz hS hP hD hK hl hQ
  have hown : s.vm.findClass R_X = some m.cls := hown
  have hl : lv_has ls 1 [(0, .ref h0)] := hl
  have hP : va_P D classes (wX h0 ad ca hd st sz pt ng dp dn se va of sl wt kp ds cn sk cu) s.heap := hP
  obtain ⟨H, hH⟩ : ∃ H, H = s.heap := ⟨_, rfl⟩
  obtain ⟨locs, hlc⟩ : ∃ locs : List Loc, locs = [] := ⟨_, rfl⟩
  have hS : va_S A s.heap H locs := by rw [hH, hlc]; exact hS
  have hP : va_P D classes (wX h0 ad ca hd st sz pt ng dp dn se va of sl wt kp ds cn sk cu) H := by rw [hH]; exact hP
  have hgo : W p l e rm_X_refresh s m args below meth c H locs 0 0 Q (F0 m 0 ls []) := ?_
  · rw [hH, hlc] at hgo; exact hgo
  clear hH hlc
  subst hsk
  refine lv_aload_n hx hb d_X_refresh_0 rfl (lv_at hl 0 rfl) ?_
  refine gtX hx hb hts hown hK hP fl_X_64 rfl (k := 16) (by decide) ⟨rfl, rfl, rfl⟩ rfl d_X_refresh_1 ?_
  refine nr_if_ne (tgt := 16) hx hb (nr_31 (B := 1) b_cu (by decide)) d_X_refresh_4 (by decide) (fun c4 => ?_) (fun c4 => ?_)
  · obtain rfl : cu = 1 := by omega
    exact ct_vret (va, of, sl, wt) hQ hx hb hr hlocks hAe hK hP hD hS ⟨hcu (by decide), b_va, b_of, b_sl⟩ d_X_refresh_16
  · refine lv_aload_n hx hb d_X_refresh_7 rfl (lv_at hl 0 rfl) ?_
    refine xc_vV (C := R_X) (rest := []) ⟨hx, hb, hml, hown, hts⟩ (c_X_settleAll l D h0 ad ca hd st sz pt ng dp dn se va of sl wt kp ds cn (-1) cu H.size ⟨b_hd, b_st, b_sz, b_pt, b_ng, b_dp, b_dn, b_se, b_va, b_of, b_sl, b_kp, b_ds, b_cn, b_cu⟩ hok) (cwV 0 hts (gd_v ml_X_74 im_X_settleAll se_X_settleAll ini_X cd_X_settleAll) rfl rfl rfl (by decide +kernel) ⟨Nat.le_of_ble_eq_true rfl, Nat.le_of_ble_eq_true rfl⟩) (va_recv hK hP (ci := 0) (q0 := 0) rfl rfl) hK hP hD hS hA rfl hl.1 rfl (Nat.le_of_ble_eq_true rfl) d_X_refresh_8 ⟨Nat.le_of_ble_eq_true rfl, Nat.le_of_ble_eq_true rfl⟩ (fun u8 H locs hp8 hP hD hS => ?_)
    obtain ⟨v8, o8, s8, w8⟩ := u8
    obtain ⟨hs8, bv8, bo8, bs8⟩ := hp8
    have hs8 : ch_Sol (ch_wor st sz pt ng) hd cn se (-1) v8 := hs8
    have hP : va_P D classes (wX h0 ad ca hd st sz pt ng dp dn se v8 o8 s8 w8 kp ds cn (-1) cu) H := hP
    have hD : va_D A (wX h0 ad ca hd st sz pt ng dp dn se v8 o8 s8 w8 kp ds cn (-1) cu) := hD
    refine lv_aload_n hx hb d_X_refresh_11 rfl (lv_at hl 0 rfl) ?_
    refine lv_iconst (v := nI 1) hx hb d_X_refresh_12 (by decide) ?_
    refine ptX hx hb hts hown hK hP hD hS fl_X_64 rfl (k := 16) (by decide) ⟨rfl, rfl, rfl, rfl⟩ (ty := .boolean) (by decide +kernel) (by decide) (by decide) (Nat.le_of_ble_eq_true rfl) d_X_refresh_13 (fun H locs hP hD hS => ?_)
    have hP : va_P D classes (wX h0 ad ca hd st sz pt ng dp dn se v8 o8 s8 w8 kp ds cn (-1) 1) H := hP
    have hD : va_D A (wX h0 ad ca hd st sz pt ng dp dn se v8 o8 s8 w8 kp ds cn (-1) 1) := hD
    exact ct_vret (v8, o8, s8, w8) hQ hx hb hr hlocks hAe hK hP hD hS ⟨hs8, bv8, bo8, bs8⟩ d_X_refresh_16

abbrev rm_X_settleWithout : Room := { frames := 4, cells := 0, slots := 0, locals := 94 }
set_option maxHeartbeats 4000000 in
set_option maxRecDepth 100000 in
/-- settleWithout(x) -/
theorem c_X_settleWithout (l : Launch) (D : va_G) (h0 : Nat) (ad : Nat → Nat) (ca : Nat → ClassId) (hd : Nat → Nat) (st : Nat → Nat) (sz : Nat → Nat) (pt : Nat → Nat) (ng : Nat → Nat) (dp : Nat → Nat) (dn : Nat → Nat) (se : Nat → Nat) (va : Nat → Nat) (of : Nat → Nat) (sl : Nat → Nat) (wt : Nat → Int32) (kp : Nat → Nat) (ds : Nat) (cn : Nat) (sk : Int32) (cu : Nat) (hz : Nat) (B : bX hd st sz pt ng dp dn se va of sl kp ds cn cu) (x : Int32) (hok : ch_ok hd sz pt ng cn) : Met l y_X_settleWithout w_X_settleWithout rm_X_settleWithout (va_Pc [.ref h0, .int x] (Pw D (wX h0 ad ca hd st sz pt ng dp dn se va of sl wt kp ds cn sk cu) (yX ca) hz)) (va_Qv (fun (u : (Nat → Nat) × (Nat → Nat) × (Nat → Nat) × (Nat → Int32)) => ch_Sol (ch_wor st sz pt ng) hd cn se x u.1 ∧ ch_bd 100 u.1 ∧ ch_bd 100 u.2.1 ∧ ch_bd 1 u.2.2.1) (fun (u : (Nat → Nat) × (Nat → Nat) × (Nat → Nat) × (Nat → Int32)) => Bw D (wX h0 ad ca hd st sz pt ng dp dn se va of sl wt kp ds cn sk cu) (wX h0 ad ca hd st sz pt ng dp dn se u.1 u.2.1 u.2.2.1 u.2.2.2 kp ds cn (-1) 0) (yX ca) hz) (va_A (wX h0 ad ca hd st sz pt ng dp dn se va of sl wt kp ds cn sk cu) hz)) 0 0 (va_A (wX h0 ad ca hd st sz pt ng dp dn se va of sl wt kp ds cn sk cu) hz) := by
  obtain ⟨b_hd, b_st, b_sz, b_pt, b_ng, b_dp, b_dn, b_se, b_va, b_of, b_sl, b_kp, b_ds, b_cn, b_cu⟩ := B
  refine ct_start (by decide) (Nat.le_of_ble_eq_true rfl) ?_
  intro p e s m args below meth c A Q ls hx hb hr hlocks hml hts hown hnm hA hAe hsz hS hP hD hK hl hQ
  have hown : s.vm.findClass R_X = some m.cls := hown
  have hl : lv_has ls 2 [(0, .ref h0), (1, .int x)] := hl
  have hP : va_P D classes (wX h0 ad ca hd st sz pt ng dp dn se va of sl wt kp ds cn sk cu) s.heap := hP
  obtain ⟨H, hH⟩ : ∃ H, H = s.heap := ⟨_, rfl⟩
  obtain ⟨locs, hlc⟩ : ∃ locs : List Loc, locs = [] := ⟨_, rfl⟩
  have hS : va_S A s.heap H locs := by rw [hH, hlc]; exact hS
  have hP : va_P D classes (wX h0 ad ca hd st sz pt ng dp dn se va of sl wt kp ds cn sk cu) H := by rw [hH]; exact hP
  have hgo : W p l e rm_X_settleWithout s m args below meth c H locs 0 0 Q (F0 m 0 ls []) := ?_
  · rw [hH, hlc] at hgo; exact hgo
  clear hH hlc
  refine lv_aload_n hx hb d_X_settleWithout_0 rfl (lv_at hl 0 rfl) ?_
  refine lv_iload_n hx hb d_X_settleWithout_1 rfl (lv_at hl 1 rfl) ?_
  refine ptX hx hb hts hown hK hP hD hS fl_X_50 rfl (k := 15) (by decide) ⟨rfl, rfl, rfl, rfl⟩ (ty := .int) (by decide +kernel) rfl rfl (Nat.le_of_ble_eq_true rfl) d_X_settleWithout_2 (fun H locs hP hD hS => ?_)
  have hP : va_P D classes (wX h0 ad ca hd st sz pt ng dp dn se va of sl wt kp ds cn x cu) H := hP
  have hD : va_D A (wX h0 ad ca hd st sz pt ng dp dn se va of sl wt kp ds cn x cu) := hD
  refine lv_aload_n hx hb d_X_settleWithout_5 rfl (lv_at hl 0 rfl) ?_
  refine xc_vV (C := R_X) (rest := []) ⟨hx, hb, hml, hown, hts⟩ (c_X_settleAll l D h0 ad ca hd st sz pt ng dp dn se va of sl wt kp ds cn x cu H.size ⟨b_hd, b_st, b_sz, b_pt, b_ng, b_dp, b_dn, b_se, b_va, b_of, b_sl, b_kp, b_ds, b_cn, b_cu⟩ hok) (cwV 0 hts (gd_v ml_X_74 im_X_settleAll se_X_settleAll ini_X cd_X_settleAll) rfl rfl rfl (by decide +kernel) ⟨Nat.le_of_ble_eq_true rfl, Nat.le_of_ble_eq_true rfl⟩) (va_recv hK hP (ci := 0) (q0 := 0) rfl rfl) hK hP hD hS hA rfl hl.1 rfl (Nat.le_of_ble_eq_true rfl) d_X_settleWithout_6 ⟨Nat.le_of_ble_eq_true rfl, Nat.le_of_ble_eq_true rfl⟩ (fun u6 H locs hp6 hP hD hS => ?_)
  obtain ⟨v6, o6, s6, w6⟩ := u6
  obtain ⟨hs6, bv6, bo6, bs6⟩ := hp6
  have hs6 : ch_Sol (ch_wor st sz pt ng) hd cn se x v6 := hs6
  have hP : va_P D classes (wX h0 ad ca hd st sz pt ng dp dn se v6 o6 s6 w6 kp ds cn x cu) H := hP
  have hD : va_D A (wX h0 ad ca hd st sz pt ng dp dn se v6 o6 s6 w6 kp ds cn x cu) := hD
  refine lv_aload_n hx hb d_X_settleWithout_9 rfl (lv_at hl 0 rfl) ?_
  refine lv_iconst (v := (-1)) hx hb d_X_settleWithout_10 (by decide) ?_
  refine ptX hx hb hts hown hK hP hD hS fl_X_50 rfl (k := 15) (by decide) ⟨rfl, rfl, rfl, rfl⟩ (ty := .int) (by decide +kernel) rfl rfl (Nat.le_of_ble_eq_true rfl) d_X_settleWithout_11 (fun H locs hP hD hS => ?_)
  have hP : va_P D classes (wX h0 ad ca hd st sz pt ng dp dn se v6 o6 s6 w6 kp ds cn (-1) cu) H := hP
  have hD : va_D A (wX h0 ad ca hd st sz pt ng dp dn se v6 o6 s6 w6 kp ds cn (-1) cu) := hD
  refine lv_aload_n hx hb d_X_settleWithout_14 rfl (lv_at hl 0 rfl) ?_
  refine lv_iconst (v := nI 0) hx hb d_X_settleWithout_15 (by decide) ?_
  refine ptX hx hb hts hown hK hP hD hS fl_X_64 rfl (k := 16) (by decide) ⟨rfl, rfl, rfl, rfl⟩ (ty := .boolean) (by decide +kernel) (by decide) (by decide) (Nat.le_of_ble_eq_true rfl) d_X_settleWithout_16 (fun H locs hP hD hS => ?_)
  have hP : va_P D classes (wX h0 ad ca hd st sz pt ng dp dn se v6 o6 s6 w6 kp ds cn (-1) 0) H := hP
  have hD : va_D A (wX h0 ad ca hd st sz pt ng dp dn se v6 o6 s6 w6 kp ds cn (-1) 0) := hD
  exact ct_vret (v6, o6, s6, w6) hQ hx hb hr hlocks hAe hK hP hD hS ⟨hs6, bv6, bo6, bs6⟩ d_X_settleWithout_19

abbrev rm_X_keepValues : Room := { frames := 5, cells := 0, slots := 0, locals := 114 }
set_option maxHeartbeats 4000000 in
set_option maxRecDepth 100000 in
/-- keepValues() -/
theorem c_X_keepValues (l : Launch) (D : va_G) (h0 : Nat) (ad : Nat → Nat) (ca : Nat → ClassId) (hd : Nat → Nat) (st : Nat → Nat) (sz : Nat → Nat) (pt : Nat → Nat) (ng : Nat → Nat) (dp : Nat → Nat) (dn : Nat → Nat) (se : Nat → Nat) (va : Nat → Nat) (of : Nat → Nat) (sl : Nat → Nat) (wt : Nat → Int32) (kp : Nat → Nat) (ds : Nat) (cn : Nat) (sk : Int32) (cu : Nat) (hz : Nat) (B : bX hd st sz pt ng dp dn se va of sl kp ds cn cu)  (hok : ch_ok hd sz pt ng cn) (hsk : sk = (-1)) (hcu : cu ≠ 0 → ch_Sol (ch_wor st sz pt ng) hd cn se (-1) va) : Met l y_X_keepValues w_X_keepValues rm_X_keepValues (va_Pc [.ref h0] (Pw D (wX h0 ad ca hd st sz pt ng dp dn se va of sl wt kp ds cn sk cu) (yX ca) hz)) (va_Qv (fun (u : (Nat → Nat) × (Nat → Nat) × (Nat → Nat) × (Nat → Int32) × (Nat → Nat)) => ch_Sol (ch_wor st sz pt ng) hd cn se (-1) u.1 ∧ ch_bd 100 u.1 ∧ ch_bd 100 u.2.1 ∧ ch_bd 1 u.2.2.1 ∧ ch_bd 100 u.2.2.2.2 ∧ ∀ j, j < 16 → u.2.2.2.2 j = u.1 j) (fun (u : (Nat → Nat) × (Nat → Nat) × (Nat → Nat) × (Nat → Int32) × (Nat → Nat)) => Bw D (wX h0 ad ca hd st sz pt ng dp dn se va of sl wt kp ds cn sk cu) (wX h0 ad ca hd st sz pt ng dp dn se u.1 u.2.1 u.2.2.1 u.2.2.2.1 u.2.2.2.2 ds cn sk 1) (yX ca) hz) (va_A (wX h0 ad ca hd st sz pt ng dp dn se va of sl wt kp ds cn sk cu) hz)) 0 0 (va_A (wX h0 ad ca hd st sz pt ng dp dn se va of sl wt kp ds cn sk cu) hz) := by
  obtain ⟨b_hd, b_st, b_sz, b_pt, b_ng, b_dp, b_dn, b_se, b_va, b_of, b_sl, b_kp, b_ds, b_cn, b_cu⟩ := B
  refine ct_start (by decide) (Nat.le_of_ble_eq_true rfl) ?_
  intro p e s m args below meth c A Q ls hx hb hr hlocks hml hts hown hnm hA hAe hsz hS hP hD hK hl hQ
  have hown : s.vm.findClass R_X = some m.cls := hown
  have hl : lv_has ls 2 [(0, .ref h0)] := hl
  have hP : va_P D classes (wX h0 ad ca hd st sz pt ng dp dn se va of sl wt kp ds cn sk cu) s.heap := hP
  obtain ⟨H, hH⟩ : ∃ H, H = s.heap := ⟨_, rfl⟩
  obtain ⟨locs, hlc⟩ : ∃ locs : List Loc, locs = [] := ⟨_, rfl⟩
  have hS : va_S A s.heap H locs := by rw [hH, hlc]; exact hS
  have hP : va_P D classes (wX h0 ad ca hd st sz pt ng dp dn se va of sl wt kp ds cn sk cu) H := by rw [hH]; exact hP
  have hgo : W p l e rm_X_keepValues s m args below meth c H locs 0 0 Q (F0 m 0 ls []) := ?_
  · rw [hH, hlc] at hgo; exact hgo
  clear hH hlc
  subst hsk
  refine lv_aload_n hx hb d_X_keepValues_0 rfl (lv_at hl 0 rfl) ?_
  refine xc_vV (C := R_X) (rest := []) ⟨hx, hb, hml, hown, hts⟩ (c_X_refresh l D h0 ad ca hd st sz pt ng dp dn se va of sl wt kp ds cn (-1) cu H.size ⟨b_hd, b_st, b_sz, b_pt, b_ng, b_dp, b_dn, b_se, b_va, b_of, b_sl, b_kp, b_ds, b_cn, b_cu⟩ hok rfl hcu) (cwV 0 hts (gd_v ml_X_71 im_X_refresh se_X_refresh ini_X cd_X_refresh) rfl rfl rfl (by decide +kernel) ⟨Nat.le_of_ble_eq_true rfl, Nat.le_of_ble_eq_true rfl⟩) (va_recv hK hP (ci := 0) (q0 := 0) rfl rfl) hK hP hD hS hA rfl hl.1 rfl (Nat.le_of_ble_eq_true rfl) d_X_keepValues_1 ⟨Nat.le_of_ble_eq_true rfl, Nat.le_of_ble_eq_true rfl⟩ (fun u1 H locs hp1 hP hD hS => ?_)
  obtain ⟨v1, o1, s1, w1⟩ := u1
  obtain ⟨hs1, bv1, bo1, bs1⟩ := hp1
  have hs1 : ch_Sol (ch_wor st sz pt ng) hd cn se (-1) v1 := hs1
  have hP : va_P D classes (wX h0 ad ca hd st sz pt ng dp dn se v1 o1 s1 w1 kp ds cn (-1) 1) H := hP
  have hD : va_D A (wX h0 ad ca hd st sz pt ng dp dn se v1 o1 s1 w1 kp ds cn (-1) 1) := hD
  refine lv_iconst (v := nI 0) hx hb d_X_keepValues_4 (by decide) ?_
  refine lv_istore_n (lv' := [(1, .int (nI 0)), (0, .ref h0)]) hx hb d_X_keepValues_5 rfl hl (by decide) rfl (fun ls hl => ?_)
  have lp6 : ∀ (n : Nat) (k : Nat) (q1 : Nat → Nat) (H : Heap) (locs : List Loc) (ls : Array Slot), 16 + 1 ≤ k + n → (k ≤ 16) → (ch_bd 100 q1) → (∀ j, j < k → q1 j = v1 j) → va_P D classes (wX h0 ad ca hd st sz pt ng dp dn se v1 o1 s1 w1 q1 ds cn (-1) 1) H → va_D A (wX h0 ad ca hd st sz pt ng dp dn se v1 o1 s1 w1 q1 ds cn (-1) 1) → va_S A s.heap H locs → lv_has ls 2 [(0, .ref h0), (1, .int (nI k))] → W p l e rm_X_keepValues s m args below meth c H locs 0 0 Q (F0 m 6 ls []) := by
    intro n
    induction n with
    | zero =>
      intro k q1 H locs ls hn6 hk bq1 hq1
      exact absurd hn6 (by omega)
    | succ n ih6 =>
      intro k q1 H locs ls hn6 hk bq1 hq1 hP hD hS hl
      refine lv_iload_n hx hb d_X_keepValues_6 rfl (lv_at hl 1 rfl) ?_
      refine lv_bipush (v := nI 16) hx hb d_X_keepValues_7 (by decide) ?_
      refine nr_icmp_ge (tgt := 30) hx hb (nr_31 (B := 16) hk (by decide)) (by decide) d_X_keepValues_9 (by decide) (fun c9 => ?_) (fun c9 => ?_)
      · exact ct_vret (v1, o1, s1, w1, q1) hQ hx hb hr hlocks hAe hK hP hD hS ⟨hs1, bv1, bo1, bs1, bq1, fun j hj => hq1 j (by omega)⟩ d_X_keepValues_30
      · refine lv_aload_n hx hb d_X_keepValues_12 rfl (lv_at hl 0 rfl) ?_
        refine gtX hx hb hts hown hK hP fl_X_47 rfl (k := 12) (by decide) ⟨rfl, rfl, rfl⟩ rfl d_X_keepValues_13 ?_
        refine lv_iload_n hx hb d_X_keepValues_16 rfl (lv_at hl 1 rfl) ?_
        refine lv_aload_n hx hb d_X_keepValues_17 rfl (lv_at hl 0 rfl) ?_
        refine gtX hx hb hts hown hK hP fl_X_35 rfl (k := 8) (by decide) ⟨rfl, rfl, rfl⟩ rfl d_X_keepValues_18 ?_
        refine lv_iload_n hx hb d_X_keepValues_21 rfl (lv_at hl 1 rfl) ?_
        refine nr_iald hx hb hK hP 9 8 rfl rfl (by omega) (by decide) d_X_keepValues_22 ?_
        refine nr_iast hx hb hK hP hD hS 13 12 rfl rfl (by omega) (by decide) d_X_keepValues_23 (fun H locs hP hD hS => ?_)
        have hP : va_P D classes (wX h0 ad ca hd st sz pt ng dp dn se v1 o1 s1 w1 (ch_up q1 k (v1 k)) ds cn (-1) 1) H := hP
        have hD : va_D A (wX h0 ad ca hd st sz pt ng dp dn se v1 o1 s1 w1 (ch_up q1 k (v1 k)) ds cn (-1) 1) := hD
        refine lv_iinc (v := nI (k + 1)) (lv' := [(1, .int (nI (k + 1))), (0, .ref h0)]) hx hb d_X_keepValues_24 hl (k := 1) rfl (nI_1 _) (by decide) rfl (fun ls hl => ?_)
        refine lv_goto (tgt := 6) hx hb d_X_keepValues_27 (by decide) ?_
        exact ih6 (k + 1) (ch_up q1 k (v1 k)) _ _ _ (by omega) (by omega) (ch_bd_up bq1 (bv1 _)) (ch_ext hq1 rfl) hP hD hS (lv_sub hl [1, 0] rfl)
  exact lp6 (16 + 1) 0 kp _ _ _ (by omega) (by decide) b_kp (fun j hj => absurd hj (Nat.not_lt_zero _)) hP hD hS (lv_sub hl [1, 0] rfl)

abbrev rm_X_changes : Room := { frames := 0, cells := 0, slots := 0, locals := 0 }
set_option maxHeartbeats 4000000 in
set_option maxRecDepth 100000 in
/-- changes() -/
theorem c_X_changes (l : Launch) (D : va_G) (h0 : Nat) (ad : Nat → Nat) (ca : Nat → ClassId) (hd : Nat → Nat) (st : Nat → Nat) (sz : Nat → Nat) (pt : Nat → Nat) (ng : Nat → Nat) (dp : Nat → Nat) (dn : Nat → Nat) (se : Nat → Nat) (va : Nat → Nat) (of : Nat → Nat) (sl : Nat → Nat) (wt : Nat → Int32) (kp : Nat → Nat) (ds : Nat) (cn : Nat) (sk : Int32) (cu : Nat) (hz : Nat) (B : bX hd st sz pt ng dp dn se va of sl kp ds cn cu)   : Met l y_X_changes w_X_changes rm_X_changes (va_Pc [.ref h0] (Pw D (wX h0 ad ca hd st sz pt ng dp dn se va of sl wt kp ds cn sk cu) (yX ca) hz)) (va_Qi (fun (v : Int32) (u : Unit) => v = nI (ch_df kp va 16)) (fun (u : Unit) => Bw D (wX h0 ad ca hd st sz pt ng dp dn se va of sl wt kp ds cn sk cu) (wX h0 ad ca hd st sz pt ng dp dn se va of sl wt kp ds cn sk cu) (yX ca) hz) (va_A (wX h0 ad ca hd st sz pt ng dp dn se va of sl wt kp ds cn sk cu) hz)) 0 0 (va_A (wX h0 ad ca hd st sz pt ng dp dn se va of sl wt kp ds cn sk cu) hz) := by
  obtain ⟨b_hd, b_st, b_sz, b_pt, b_ng, b_dp, b_dn, b_se, b_va, b_of, b_sl, b_kp, b_ds, b_cn, b_cu⟩ := B
  refine ct_start (by decide) (Nat.le_of_ble_eq_true rfl) ?_
  intro p e s m args below meth c A Q ls hx hb hr hlocks hml hts hown hnm hA hAe hsz hS hP hD hK hl hQ
  have hown : s.vm.findClass R_X = some m.cls := hown
  have hl : lv_has ls 3 [(0, .ref h0)] := hl
  have hP : va_P D classes (wX h0 ad ca hd st sz pt ng dp dn se va of sl wt kp ds cn sk cu) s.heap := hP
  obtain ⟨H, hH⟩ : ∃ H, H = s.heap := ⟨_, rfl⟩
  obtain ⟨locs, hlc⟩ : ∃ locs : List Loc, locs = [] := ⟨_, rfl⟩
  have hS : va_S A s.heap H locs := by rw [hH, hlc]; exact hS
  have hP : va_P D classes (wX h0 ad ca hd st sz pt ng dp dn se va of sl wt kp ds cn sk cu) H := by rw [hH]; exact hP
  have hgo : W p l e rm_X_changes s m args below meth c H locs 0 0 Q (F0 m 0 ls []) := ?_
  · rw [hH, hlc] at hgo; exact hgo
  clear hH hlc
  refine lv_iconst (v := nI 0) hx hb d_X_changes_0 (by decide) ?_
  refine lv_istore_n (lv' := [(1, .int (nI 0)), (0, .ref h0)]) hx hb d_X_changes_1 rfl hl (by decide) rfl (fun ls hl => ?_)
  refine lv_iconst (v := nI 0) hx hb d_X_changes_2 (by decide) ?_
  refine lv_istore_n (lv' := [(2, .int (nI 0)), (1, .int (nI 0)), (0, .ref h0)]) hx hb d_X_changes_3 rfl hl (by decide) rfl (fun ls hl => ?_)
  have lp4 : ∀ (n : Nat) (k : Nat) (q : Nat) (H : Heap) (locs : List Loc) (ls : Array Slot), 16 + 1 ≤ k + n → (k ≤ 16) → (q = ch_df kp va k) → va_P D classes (wX h0 ad ca hd st sz pt ng dp dn se va of sl wt kp ds cn sk cu) H → va_D A (wX h0 ad ca hd st sz pt ng dp dn se va of sl wt kp ds cn sk cu) → va_S A s.heap H locs → lv_has ls 3 [(0, .ref h0), (1, .int (nI q)), (2, .int (nI k))] → W p l e rm_X_changes s m args below meth c H locs 0 0 Q (F0 m 4 ls []) := by
    intro n
    induction n with
    | zero =>
      intro k q H locs ls hn4 hk hq
      exact absurd hn4 (by omega)
    | succ n ih4 =>
      intro k q H locs ls hn4 hk hq hP hD hS hl
      refine lv_iload_n hx hb d_X_changes_4 rfl (lv_at hl 2 rfl) ?_
      refine lv_bipush (v := nI 16) hx hb d_X_changes_5 (by decide) ?_
      refine nr_icmp_ge (tgt := 34) hx hb (nr_31 (B := 16) hk (by decide)) (by decide) d_X_changes_7 (by decide) (fun c7 => ?_) (fun c7 => ?_)
      · refine lv_iload_n hx hb d_X_changes_34 rfl (lv_at hl 1 rfl) ?_
        exact ct_iret () hQ hx hb hr hlocks hAe hK hP hD hS (by rw [hq, show k = 16 by omega]) d_X_changes_35
      · refine lv_aload_n hx hb d_X_changes_10 rfl (lv_at hl 0 rfl) ?_
        refine gtX hx hb hts hown hK hP fl_X_47 rfl (k := 12) (by decide) ⟨rfl, rfl, rfl⟩ rfl d_X_changes_11 ?_
        refine lv_iload_n hx hb d_X_changes_14 rfl (lv_at hl 2 rfl) ?_
        refine nr_iald hx hb hK hP 13 12 rfl rfl (by omega) (by decide) d_X_changes_15 ?_
        refine lv_aload_n hx hb d_X_changes_16 rfl (lv_at hl 0 rfl) ?_
        refine gtX hx hb hts hown hK hP fl_X_35 rfl (k := 8) (by decide) ⟨rfl, rfl, rfl⟩ rfl d_X_changes_17 ?_
        refine lv_iload_n hx hb d_X_changes_20 rfl (lv_at hl 2 rfl) ?_
        refine nr_iald hx hb hK hP 9 8 rfl rfl (by omega) (by decide) d_X_changes_21 ?_
        refine nr_icmp_eq (tgt := 28) hx hb (nr_31 (B := 100) (b_kp _) (by decide)) (nr_31 (B := 100) (b_va _) (by decide)) d_X_changes_22 (by decide) (fun c22 => ?_) (fun c22 => ?_)
        · refine lv_iinc (v := nI (k + 1)) (lv' := [(2, .int (nI (k + 1))), (0, .ref h0), (1, .int (nI q))]) hx hb d_X_changes_28 hl (k := 2) rfl (nI_1 _) (by decide) rfl (fun ls hl => ?_)
          refine lv_goto (tgt := 4) hx hb d_X_changes_31 (by decide) ?_
          exact ih4 (k + 1) q _ _ _ (by omega) (by omega) (by rw [ch_df, if_pos c22, Nat.add_zero, hq]) hP hD hS (lv_sub hl [1, 2, 0] rfl)
        · refine lv_iinc (v := nI (q + 1)) (lv' := [(1, .int (nI (q + 1))), (0, .ref h0), (2, .int (nI k))]) hx hb d_X_changes_25 hl (k := 1) rfl (nI_1 _) (by decide) rfl (fun ls hl => ?_)
          refine lv_iinc (v := nI (k + 1)) (lv' := [(2, .int (nI (k + 1))), (1, .int (nI (q + 1))), (0, .ref h0)]) hx hb d_X_changes_28 hl (k := 2) rfl (nI_1 _) (by decide) rfl (fun ls hl => ?_)
          refine lv_goto (tgt := 4) hx hb d_X_changes_31 (by decide) ?_
          exact ih4 (k + 1) (q + 1) _ _ _ (by omega) (by omega) (by rw [ch_df, if_neg c22, hq]) hP hD hS (lv_sub hl [2, 1, 0] rfl)
  exact lp4 (16 + 1) 0 0 _ _ _ (by omega) (by decide) rfl hP hD hS (lv_sub hl [2, 1, 0] rfl)
end
section
/-! ===== the reference's inner methods ===== -/
theorem ch_ic_le {x : Int32} (h1 : ¬ x < 0) (h2 : x ≤ nI 15) : ch_ic x 16 = true := by
  obtain ⟨j, hj, rfl⟩ := nI_of h1
  rw [nI_leI hj (by decide)] at h2
  exact ch_ic_nI (by omega) (by decide)
theorem ch_ic_gt {x : Int32} (h2 : ¬ x ≤ nI 15) : ch_ic x 16 = false := ch_ic_f (fun ⟨j, hj, e⟩ => h2 (by rw [e, nI_leI (by omega) (by decide)]; omega)) (by decide)
theorem nr_01 {n : Nat} (h : n ≤ 1) : nI n = nI 0 ∨ nI n = nI 1 := by
  rcases (show n = 0 ∨ n = 1 by omega) with e | e
  · rw [e]; exact Or.inl rfl
  · rw [e]; exact Or.inr rfl
abbrev rm_M_bad : Room := { frames := 0, cells := 0, slots := 0, locals := 0 }
set_option maxHeartbeats 4000000 in
set_option maxRecDepth 100000 in
/-- bad(x) -/
theorem c_M_bad (l : Launch) (D : va_G) (h0 : Nat) (ad : Nat → Nat) (ca : Nat → ClassId) (se : Nat → Nat) (dp : Nat → Nat) (dn : Nat → Nat) (hd : Nat → Nat) (st : Nat → Nat) (sz : Nat → Nat) (pt : Nat → Nat) (ng : Nat → Nat) (va : Nat → Nat) (kp : Nat → Nat) (ds : Nat) (cn : Nat) (hz : Nat) (B : bM se dp dn hd st sz pt ng va kp ds cn) (x : Int32)  : Met l y_M_bad w_M_bad rm_M_bad (va_Pc [.ref h0, .int x] (Pw D (wM h0 ad ca se dp dn hd st sz pt ng va kp ds cn) (yM ca) hz)) (va_Qi (fun (v : Int32) (u : Unit) => (ch_ic x 16 = true ∧ v = nI 0) ∨ (ch_ic x 16 = false ∧ v = nI 1)) (fun (u : Unit) => Bw D (wM h0 ad ca se dp dn hd st sz pt ng va kp ds cn) (wM h0 ad ca se dp dn hd st sz pt ng va kp ds cn) (yM ca) hz) (va_A (wM h0 ad ca se dp dn hd st sz pt ng va kp ds cn) hz)) 0 0 (va_A (wM h0 ad ca se dp dn hd st sz pt ng va kp ds cn) hz) := by
  obtain ⟨b_se, b_dp, b_dn, b_hd, b_st, b_sz, b_pt, b_ng, b_va, b_kp, b_ds, b_cn⟩ := B
  refine ct_start (by decide) (Nat.le_of_ble_eq_true rfl) ?_
  intro p e s m args below meth c A Q ls hx hb hr hlocks hml hts hown hnm hA hAe hsz hS hP hD hK hl hQ
  have hown : s.vm.findClass R_M = some m.cls := hown
  have hl : lv_has ls 2 [(0, .ref h0), (1, .int x)] := hl
  have hP : va_P D classes (wM h0 ad ca se dp dn hd st sz pt ng va kp ds cn) s.heap := hP
  obtain ⟨H, hH⟩ : ∃ H, H = s.heap := ⟨_, rfl⟩
  obtain ⟨locs, hlc⟩ : ∃ locs : List Loc, locs = [] := ⟨_, rfl⟩
  have hS : va_S A s.heap H locs := by rw [hH, hlc]; exact hS
  have hP : va_P D classes (wM h0 ad ca se dp dn hd st sz pt ng va kp ds cn) H := by rw [hH]; exact hP
  have hgo : W p l e rm_M_bad s m args below meth c H locs 0 0 Q (F0 m 0 ls []) := ?_
  · rw [hH, hlc] at hgo; exact hgo
  clear hH hlc
  refine lv_iload_n hx hb d_M_bad_0 rfl (lv_at hl 1 rfl) ?_
  refine lv_if_lt (tgt := 10) hx hb  d_M_bad_1 (by decide) (fun c1 => ?_) (fun c1 => ?_)
  · refine lv_iconst (v := nI 1) hx hb d_M_bad_10 (by decide) ?_
    refine lv_goto (tgt := 15) hx hb d_M_bad_11 (by decide) ?_
    exact ct_zret () hQ (by first | exact Or.inl rfl | exact Or.inr rfl | assumption) hx hb hr hlocks hAe hK hP hD hS (Or.inr ⟨ch_ic_neg c1 (by decide), rfl⟩) d_M_bad_15
  · refine lv_iload_n hx hb d_M_bad_4 rfl (lv_at hl 1 rfl) ?_
    refine lv_bipush (v := nI 15) hx hb d_M_bad_5 (by decide) ?_
    refine lv_icmp_le (tgt := 14) hx hb  d_M_bad_7 (by decide) (fun c7 => ?_) (fun c7 => ?_)
    · refine lv_iconst (v := nI 0) hx hb d_M_bad_14 (by decide) ?_
      exact ct_zret () hQ (by first | exact Or.inl rfl | exact Or.inr rfl | assumption) hx hb hr hlocks hAe hK hP hD hS (Or.inl ⟨ch_ic_le c1 c7, rfl⟩) d_M_bad_15
    · refine lv_iconst (v := nI 1) hx hb d_M_bad_10 (by decide) ?_
      refine lv_goto (tgt := 15) hx hb d_M_bad_11 (by decide) ?_
      exact ct_zret () hQ (by first | exact Or.inl rfl | exact Or.inr rfl | assumption) hx hb hr hlocks hAe hK hP hD hS (Or.inr ⟨ch_ic_gt c7, rfl⟩) d_M_bad_15

abbrev rm_M_badRule : Room := { frames := 0, cells := 0, slots := 0, locals := 0 }
set_option maxHeartbeats 4000000 in
set_option maxRecDepth 100000 in
/-- badRule(x) -/
theorem c_M_badRule (l : Launch) (D : va_G) (h0 : Nat) (ad : Nat → Nat) (ca : Nat → ClassId) (se : Nat → Nat) (dp : Nat → Nat) (dn : Nat → Nat) (hd : Nat → Nat) (st : Nat → Nat) (sz : Nat → Nat) (pt : Nat → Nat) (ng : Nat → Nat) (va : Nat → Nat) (kp : Nat → Nat) (ds : Nat) (cn : Nat) (hz : Nat) (B : bM se dp dn hd st sz pt ng va kp ds cn) (x : Int32)  : Met l y_M_badRule w_M_badRule rm_M_badRule (va_Pc [.ref h0, .int x] (Pw D (wM h0 ad ca se dp dn hd st sz pt ng va kp ds cn) (yM ca) hz)) (va_Qi (fun (v : Int32) (u : Unit) => (ch_ic x cn = true ∧ v = nI 0) ∨ (ch_ic x cn = false ∧ v = nI 1)) (fun (u : Unit) => Bw D (wM h0 ad ca se dp dn hd st sz pt ng va kp ds cn) (wM h0 ad ca se dp dn hd st sz pt ng va kp ds cn) (yM ca) hz) (va_A (wM h0 ad ca se dp dn hd st sz pt ng va kp ds cn) hz)) 0 0 (va_A (wM h0 ad ca se dp dn hd st sz pt ng va kp ds cn) hz) := by
  obtain ⟨b_se, b_dp, b_dn, b_hd, b_st, b_sz, b_pt, b_ng, b_va, b_kp, b_ds, b_cn⟩ := B
  refine ct_start (by decide) (Nat.le_of_ble_eq_true rfl) ?_
  intro p e s m args below meth c A Q ls hx hb hr hlocks hml hts hown hnm hA hAe hsz hS hP hD hK hl hQ
  have hown : s.vm.findClass R_M = some m.cls := hown
  have hl : lv_has ls 2 [(0, .ref h0), (1, .int x)] := hl
  have hP : va_P D classes (wM h0 ad ca se dp dn hd st sz pt ng va kp ds cn) s.heap := hP
  obtain ⟨H, hH⟩ : ∃ H, H = s.heap := ⟨_, rfl⟩
  obtain ⟨locs, hlc⟩ : ∃ locs : List Loc, locs = [] := ⟨_, rfl⟩
  have hS : va_S A s.heap H locs := by rw [hH, hlc]; exact hS
  have hP : va_P D classes (wM h0 ad ca se dp dn hd st sz pt ng va kp ds cn) H := by rw [hH]; exact hP
  have hgo : W p l e rm_M_badRule s m args below meth c H locs 0 0 Q (F0 m 0 ls []) := ?_
  · rw [hH, hlc] at hgo; exact hgo
  clear hH hlc
  refine lv_iload_n hx hb d_M_badRule_0 rfl (lv_at hl 1 rfl) ?_
  refine lv_if_lt (tgt := 18) hx hb  d_M_badRule_1 (by decide) (fun c1 => ?_) (fun c1 => ?_)
  · refine lv_iconst (v := nI 1) hx hb d_M_badRule_18 (by decide) ?_
    refine lv_goto (tgt := 23) hx hb d_M_badRule_19 (by decide) ?_
    exact ct_zret () hQ (by first | exact Or.inl rfl | exact Or.inr rfl | assumption) hx hb hr hlocks hAe hK hP hD hS (Or.inr ⟨ch_ic_neg c1 (nr_31 b_cn (by decide)), rfl⟩) d_M_badRule_23
  · refine lv_iload_n hx hb d_M_badRule_4 rfl (lv_at hl 1 rfl) ?_
    refine lv_aload_n hx hb d_M_badRule_5 rfl (lv_at hl 0 rfl) ?_
    refine gtM hx hb hts hown hK hP fl_M_41 rfl (k := 4) (by decide) ⟨rfl, rfl, rfl⟩ rfl d_M_badRule_6 ?_
    refine lv_icmp_ge (tgt := 18) hx hb  d_M_badRule_9 (by decide) (fun c9 => ?_) (fun c9 => ?_)
    · refine lv_iconst (v := nI 1) hx hb d_M_badRule_18 (by decide) ?_
      refine lv_goto (tgt := 23) hx hb d_M_badRule_19 (by decide) ?_
      exact ct_zret () hQ (by first | exact Or.inl rfl | exact Or.inr rfl | assumption) hx hb hr hlocks hAe hK hP hD hS (Or.inr ⟨ch_ic_big c9 (nr_31 b_cn (by decide)), rfl⟩) d_M_badRule_23
    · refine lv_iload_n hx hb d_M_badRule_12 rfl (lv_at hl 1 rfl) ?_
      refine lv_bipush (v := nI 20) hx hb d_M_badRule_13 (by decide) ?_
      refine lv_icmp_lt (tgt := 22) hx hb  d_M_badRule_15 (by decide) (fun c15 => ?_) (fun c15 => ?_)
      · refine lv_iconst (v := nI 0) hx hb d_M_badRule_22 (by decide) ?_
        exact ct_zret () hQ (by first | exact Or.inl rfl | exact Or.inr rfl | assumption) hx hb hr hlocks hAe hK hP hD hS (Or.inl ⟨ch_ic_ok c1 c9 (nr_31 b_cn (by decide)), rfl⟩) d_M_badRule_23
      · obtain ⟨j9, hj9, rfl⟩ := ch_ic_get (ch_ic_ok c1 c9 (nr_31 b_cn (by decide))) (nr_31 b_cn (by decide))
        exact absurd ((nI_ltI (by omega) (by decide)).mpr (by omega)) c15

abbrev rm_M_asks : Room := { frames := 0, cells := 0, slots := 0, locals := 0 }
set_option maxHeartbeats 4000000 in
set_option maxRecDepth 100000 in
/-- asks(r) -/
theorem c_M_asks (l : Launch) (D : va_G) (h0 : Nat) (ad : Nat → Nat) (ca : Nat → ClassId) (se : Nat → Nat) (dp : Nat → Nat) (dn : Nat → Nat) (hd : Nat → Nat) (st : Nat → Nat) (sz : Nat → Nat) (pt : Nat → Nat) (ng : Nat → Nat) (va : Nat → Nat) (kp : Nat → Nat) (ds : Nat) (cn : Nat) (hz : Nat) (B : bM se dp dn hd st sz pt ng va kp ds cn) (r : Nat) (hr9 : r < 20) : Met l y_M_asks w_M_asks rm_M_asks (va_Pc [.ref h0, .int (nI r)] (Pw D (wM h0 ad ca se dp dn hd st sz pt ng va kp ds cn) (yM ca) hz)) (va_Qi (fun (v : Int32) (u : Unit) => v = nI (ch_wor st sz pt ng va r)) (fun (u : Unit) => Bw D (wM h0 ad ca se dp dn hd st sz pt ng va kp ds cn) (wM h0 ad ca se dp dn hd st sz pt ng va kp ds cn) (yM ca) hz) (va_A (wM h0 ad ca se dp dn hd st sz pt ng va kp ds cn) hz)) 0 0 (va_A (wM h0 ad ca se dp dn hd st sz pt ng va kp ds cn) hz) := by
  obtain ⟨b_se, b_dp, b_dn, b_hd, b_st, b_sz, b_pt, b_ng, b_va, b_kp, b_ds, b_cn⟩ := B
  refine ct_start (by decide) (Nat.le_of_ble_eq_true rfl) ?_
  intro p e s m args below meth c A Q ls hx hb hr hlocks hml hts hown hnm hA hAe hsz hS hP hD hK hl hQ
  have hown : s.vm.findClass R_M = some m.cls := hown
  have hl : lv_has ls 5 [(0, .ref h0), (1, .int (nI r))] := hl
  have hP : va_P D classes (wM h0 ad ca se dp dn hd st sz pt ng va kp ds cn) s.heap := hP
  obtain ⟨H, hH⟩ : ∃ H, H = s.heap := ⟨_, rfl⟩
  obtain ⟨locs, hlc⟩ : ∃ locs : List Loc, locs = [] := ⟨_, rfl⟩
  have hS : va_S A s.heap H locs := by rw [hH, hlc]; exact hS
  have hP : va_P D classes (wM h0 ad ca se dp dn hd st sz pt ng va kp ds cn) H := by rw [hH]; exact hP
  have hgo : W p l e rm_M_asks s m args below meth c H locs 0 0 Q (F0 m 0 ls []) := ?_
  · rw [hH, hlc] at hgo; exact hgo
  clear hH hlc
  refine lv_bipush (v := nI 100) hx hb d_M_asks_0 (by decide) ?_
  refine lv_istore_n (lv' := [(2, .int (nI 100)), (0, .ref h0), (1, .int (nI r))]) hx hb d_M_asks_2 rfl hl (by decide) rfl (fun ls hl => ?_)
  refine lv_iconst (v := nI 0) hx hb d_M_asks_3 (by decide) ?_
  refine lv_istore_n (lv' := [(3, .int (nI 0)), (2, .int (nI 100)), (0, .ref h0), (1, .int (nI r))]) hx hb d_M_asks_4 rfl hl (by decide) rfl (fun ls hl => ?_)
  have lp5 : ∀ (n : Nat) (k : Nat) (w : Nat) (H : Heap) (locs : List Loc) (ls : Array Slot), sz r + 1 ≤ k + n → (k ≤ sz r) → (w = ch_wl pt ng va (3 * r) k) → va_P D classes (wM h0 ad ca se dp dn hd st sz pt ng va kp ds cn) H → va_D A (wM h0 ad ca se dp dn hd st sz pt ng va kp ds cn) → va_S A s.heap H locs → lv_has ls 5 [(0, .ref h0), (1, .int (nI r)), (2, .int (nI w)), (3, .int (nI k))] → W p l e rm_M_asks s m args below meth c H locs 0 0 Q (F0 m 5 ls []) := by
    intro n
    induction n with
    | zero =>
      intro k w H locs ls hn5 hk hw
      exact absurd hn5 (by omega)
    | succ n ih5 =>
      intro k w H locs ls hn5 hk hw hP hD hS hl
      refine lv_iload_n hx hb d_M_asks_5 rfl (lv_at hl 3 rfl) ?_
      refine lv_aload_n hx hb d_M_asks_6 rfl (lv_at hl 0 rfl) ?_
      refine gtM hx hb hts hown hK hP fl_M_26 rfl (k := 7) (by decide) ⟨rfl, rfl, rfl⟩ rfl d_M_asks_7 ?_
      refine lv_iload_n hx hb d_M_asks_10 rfl (lv_at hl 1 rfl) ?_
      refine nr_iald hx hb hK hP 6 5 rfl rfl (Nat.lt_of_le_of_lt (Nat.le_of_lt_succ hr9) (by decide)) (by decide) d_M_asks_11 ?_
      refine nr_icmp_ge (tgt := 72) hx hb (nr_31 (B := 3) (Nat.le_trans hk (b_sz _)) (by decide)) (nr_31 (B := 3) (b_sz _) (by decide)) d_M_asks_12 (by decide) (fun c12 => ?_) (fun c12 => ?_)
      · refine lv_iload_n hx hb d_M_asks_72 rfl (lv_at hl 2 rfl) ?_
        refine lv_aload_n hx hb d_M_asks_73 rfl (lv_at hl 0 rfl) ?_
        refine gtM hx hb hts hown hK hP fl_M_23 rfl (k := 6) (by decide) ⟨rfl, rfl, rfl⟩ rfl d_M_asks_74 ?_
        refine lv_iload_n hx hb d_M_asks_77 rfl (lv_at hl 1 rfl) ?_
        refine nr_iald hx hb hK hP 5 4 rfl rfl (Nat.lt_of_le_of_lt (Nat.le_of_lt_succ hr9) (by decide)) (by decide) d_M_asks_78 ?_
        refine nr_imul hx hb d_M_asks_79 ?_
        refine lv_bipush (v := nI 100) hx hb d_M_asks_80 (by decide) ?_
        refine nr_idiv hx hb (nr_31 (B := 10000) (Nat.mul_le_mul (Nat.le_trans (Nat.le_of_eq hw) (ch_wl_100 _ _ _ _ _)) (b_st _)) (by decide)) (by decide) (by decide) d_M_asks_82 ?_
        exact ct_iret () hQ hx hb hr hlocks hAe hK hP hD hS (by rw [hw, show k = sz r by omega]; rfl) d_M_asks_83
      · have z12 := b_sz r
        refine lv_iload_n hx hb d_M_asks_15 rfl (lv_at hl 3 rfl) ?_
        refine lv_iconst (v := nI 3) hx hb d_M_asks_16 (by decide) ?_
        refine nr_icmp_ge (tgt := 72) hx hb (nr_31 (B := 3) (Nat.le_trans hk (b_sz _)) (by decide)) (by decide) d_M_asks_17 (by decide) (fun c17 => ?_) (fun c17 => ?_)
        · exact absurd c17 (by omega)
        · refine lv_aload_n hx hb d_M_asks_20 rfl (lv_at hl 0 rfl) ?_
          refine gtM hx hb hts hown hK hP fl_M_35 rfl (k := 10) (by decide) ⟨rfl, rfl, rfl⟩ rfl d_M_asks_21 ?_
          refine lv_aload_n hx hb d_M_asks_24 rfl (lv_at hl 0 rfl) ?_
          refine gtM hx hb hts hown hK hP fl_M_29 rfl (k := 8) (by decide) ⟨rfl, rfl, rfl⟩ rfl d_M_asks_25 ?_
          refine lv_iconst (v := nI 3) hx hb d_M_asks_28 (by decide) ?_
          refine lv_iload_n hx hb d_M_asks_29 rfl (lv_at hl 1 rfl) ?_
          refine nr_imul hx hb d_M_asks_30 ?_
          refine lv_iload_n hx hb d_M_asks_31 rfl (lv_at hl 3 rfl) ?_
          refine nr_iadd hx hb d_M_asks_32 ?_
          refine nr_iald hx hb hK hP 7 6 rfl rfl (by omega) (by decide) d_M_asks_33 ?_
          refine nr_iald hx hb hK hP 9 8 rfl rfl (Nat.lt_of_le_of_lt (b_pt _) (by decide)) (by decide) d_M_asks_34 ?_
          refine lv_istore (lv' := [(4, .int (nI (va (pt ((3 * r) + k))))), (0, .ref h0), (1, .int (nI r)), (2, .int (nI w)), (3, .int (nI k))]) hx hb d_M_asks_35 hl (by decide) rfl (fun ls hl => ?_)
          refine lv_aload_n hx hb d_M_asks_37 rfl (lv_at hl 1 rfl) ?_
          refine gtM hx hb hts hown hK hP fl_M_32 rfl (k := 9) (by decide) ⟨rfl, rfl, rfl⟩ rfl d_M_asks_38 ?_
          refine lv_iconst (v := nI 3) hx hb d_M_asks_41 (by decide) ?_
          refine lv_iload_n hx hb d_M_asks_42 rfl (lv_at hl 2 rfl) ?_
          refine nr_imul hx hb d_M_asks_43 ?_
          refine lv_iload_n hx hb d_M_asks_44 rfl (lv_at hl 4 rfl) ?_
          refine nr_iadd hx hb d_M_asks_45 ?_
          refine nr_zald hx hb hK hP 8 7 rfl rfl (by omega) (by decide) d_M_asks_46 ?_
          refine nr_if_eq (tgt := 57) hx hb (nr_31 (B := 1) (b_ng _) (by decide)) d_M_asks_47 (by decide) (fun c47 => ?_) (fun c47 => ?_)
          · refine lv_iload hx hb d_M_asks_57 (lv_at hl 0 rfl) ?_
            refine lv_iload_n hx hb d_M_asks_59 rfl (lv_at hl 3 rfl) ?_
            refine nr_icmp_ge (tgt := 66) hx hb (nr_31 (B := 100) (b_va _) (by decide)) (nr_31 (B := 100) (Nat.le_trans (Nat.le_of_eq hw) (ch_wl_100 _ _ _ _ _)) (by decide)) d_M_asks_60 (by decide) (fun c60 => ?_) (fun c60 => ?_)
            · refine lv_iinc (v := nI (k + 1)) (lv' := [(3, .int (nI (k + 1))), (4, .int (nI (va (pt ((3 * r) + k))))), (0, .ref h0), (1, .int (nI r)), (2, .int (nI w))]) hx hb d_M_asks_66 hl (k := 4) rfl (nI_1 _) (by decide) rfl (fun ls hl => ?_)
              refine lv_goto (tgt := 5) hx hb d_M_asks_69 (by decide) ?_
              exact ih5 (k + 1) w _ _ _ (by omega) (by omega) (by rw [ch_wl, ← hw]; unfold ch_pv; rw [if_pos c47]; split <;> omega) hP hD hS (lv_sub hl [2, 3, 4, 0] rfl)
            · refine lv_iload hx hb d_M_asks_63 (lv_at hl 0 rfl) ?_
              refine lv_istore_n (lv' := [(2, .int (nI (va (pt ((3 * r) + k))))), (4, .int (nI (va (pt ((3 * r) + k))))), (0, .ref h0), (1, .int (nI r)), (3, .int (nI k))]) hx hb d_M_asks_65 rfl hl (by decide) rfl (fun ls hl => ?_)
              refine lv_iinc (v := nI (k + 1)) (lv' := [(3, .int (nI (k + 1))), (2, .int (nI (va (pt ((3 * r) + k))))), (4, .int (nI (va (pt ((3 * r) + k))))), (0, .ref h0), (1, .int (nI r))]) hx hb d_M_asks_66 hl (k := 4) rfl (nI_1 _) (by decide) rfl (fun ls hl => ?_)
              refine lv_goto (tgt := 5) hx hb d_M_asks_69 (by decide) ?_
              exact ih5 (k + 1) (va (pt ((3 * r) + k))) _ _ _ (by omega) (by omega) (by rw [ch_wl, ← hw]; unfold ch_pv; rw [if_pos c47]; split <;> omega) hP hD hS (lv_sub hl [3, 4, 1, 0] rfl)
          · refine lv_bipush (v := nI 100) hx hb d_M_asks_50 (by decide) ?_
            refine lv_iload hx hb d_M_asks_52 (lv_at hl 0 rfl) ?_
            refine nr_isub hx hb (b_va _) d_M_asks_54 ?_
            refine lv_istore (lv' := [(4, .int (nI (100 - (va (pt ((3 * r) + k)))))), (0, .ref h0), (1, .int (nI r)), (2, .int (nI w)), (3, .int (nI k))]) hx hb d_M_asks_55 hl (by decide) rfl (fun ls hl => ?_)
            refine lv_iload hx hb d_M_asks_57 (lv_at hl 0 rfl) ?_
            refine lv_iload_n hx hb d_M_asks_59 rfl (lv_at hl 3 rfl) ?_
            refine nr_icmp_ge (tgt := 66) hx hb (nr_31 (B := 100) (Nat.le_trans (Nat.sub_le _ _) (Nat.le_refl _)) (by decide)) (nr_31 (B := 100) (Nat.le_trans (Nat.le_of_eq hw) (ch_wl_100 _ _ _ _ _)) (by decide)) d_M_asks_60 (by decide) (fun c60 => ?_) (fun c60 => ?_)
            · refine lv_iinc (v := nI (k + 1)) (lv' := [(3, .int (nI (k + 1))), (4, .int (nI (100 - (va (pt ((3 * r) + k)))))), (0, .ref h0), (1, .int (nI r)), (2, .int (nI w))]) hx hb d_M_asks_66 hl (k := 4) rfl (nI_1 _) (by decide) rfl (fun ls hl => ?_)
              refine lv_goto (tgt := 5) hx hb d_M_asks_69 (by decide) ?_
              exact ih5 (k + 1) w _ _ _ (by omega) (by omega) (by rw [ch_wl, ← hw]; unfold ch_pv; rw [if_neg c47]; split <;> omega) hP hD hS (lv_sub hl [2, 3, 4, 0] rfl)
            · refine lv_iload hx hb d_M_asks_63 (lv_at hl 0 rfl) ?_
              refine lv_istore_n (lv' := [(2, .int (nI (100 - (va (pt ((3 * r) + k)))))), (4, .int (nI (100 - (va (pt ((3 * r) + k)))))), (0, .ref h0), (1, .int (nI r)), (3, .int (nI k))]) hx hb d_M_asks_65 rfl hl (by decide) rfl (fun ls hl => ?_)
              refine lv_iinc (v := nI (k + 1)) (lv' := [(3, .int (nI (k + 1))), (2, .int (nI (100 - (va (pt ((3 * r) + k)))))), (4, .int (nI (100 - (va (pt ((3 * r) + k)))))), (0, .ref h0), (1, .int (nI r))]) hx hb d_M_asks_66 hl (k := 4) rfl (nI_1 _) (by decide) rfl (fun ls hl => ?_)
              refine lv_goto (tgt := 5) hx hb d_M_asks_69 (by decide) ?_
              exact ih5 (k + 1) (100 - (va (pt ((3 * r) + k)))) _ _ _ (by omega) (by omega) (by rw [ch_wl, ← hw]; unfold ch_pv; rw [if_neg c47]; split <;> omega) hP hD hS (lv_sub hl [3, 4, 1, 0] rfl)
  exact lp5 (sz r + 1) 0 100 _ _ _ (by omega) (Nat.zero_le _) rfl hP hD hS (lv_sub hl [2, 3, 1, 0] rfl)

abbrev rm_M_raise : Room := { frames := 1, cells := 0, slots := 0, locals := 24 }
set_option maxHeartbeats 4000000 in
set_option maxRecDepth 100000 in
/-- raise(L, x) -/
theorem c_M_raise (l : Launch) (D : va_G) (h0 : Nat) (ad : Nat → Nat) (ca : Nat → ClassId) (se : Nat → Nat) (dp : Nat → Nat) (dn : Nat → Nat) (hd : Nat → Nat) (st : Nat → Nat) (sz : Nat → Nat) (pt : Nat → Nat) (ng : Nat → Nat) (va : Nat → Nat) (kp : Nat → Nat) (ds : Nat) (cn : Nat) (hz : Nat) (B : bM se dp dn hd st sz pt ng va kp ds cn) (L : Nat) (x : Int32) (hL9 : L < 4) (hok : ch_ok hd sz pt ng cn) : Met l y_M_raise w_M_raise rm_M_raise (va_Pc [.ref h0, .int (nI L), .int x] (Pw D (wM h0 ad ca se dp dn hd st sz pt ng va kp ds cn) (yM ca) hz)) (va_Qi (fun (v : Int32) (u : (Nat → Nat) × Nat) => v = nI u.2 ∧ u.2 ≤ 1 ∧ ch_R st sz pt ng hd cn x L va cn u.1 u.2) (fun (u : (Nat → Nat) × Nat) => Bw D (wM h0 ad ca se dp dn hd st sz pt ng va kp ds cn) (wM h0 ad ca se dp dn hd st sz pt ng u.1 kp ds cn) (yM ca) hz) (va_A (wM h0 ad ca se dp dn hd st sz pt ng va kp ds cn) hz)) 0 0 (va_A (wM h0 ad ca se dp dn hd st sz pt ng va kp ds cn) hz) := by
  obtain ⟨b_se, b_dp, b_dn, b_hd, b_st, b_sz, b_pt, b_ng, b_va, b_kp, b_ds, b_cn⟩ := B
  refine ct_start (by decide) (Nat.le_of_ble_eq_true rfl) ?_
  intro p e s m args below meth c A Q ls hx hb hr hlocks hml hts hown hnm hA hAe hsz hS hP hD hK hl hQ
  have hown : s.vm.findClass R_M = some m.cls := hown
  have hl : lv_has ls 7 [(0, .ref h0), (1, .int (nI L)), (2, .int x)] := hl
  have hP : va_P D classes (wM h0 ad ca se dp dn hd st sz pt ng va kp ds cn) s.heap := hP
  obtain ⟨H, hH⟩ : ∃ H, H = s.heap := ⟨_, rfl⟩
  obtain ⟨locs, hlc⟩ : ∃ locs : List Loc, locs = [] := ⟨_, rfl⟩
  have hS : va_S A s.heap H locs := by rw [hH, hlc]; exact hS
  have hP : va_P D classes (wM h0 ad ca se dp dn hd st sz pt ng va kp ds cn) H := by rw [hH]; exact hP
  have hgo : W p l e rm_M_raise s m args below meth c H locs 0 0 Q (F0 m 0 ls []) := ?_
  · rw [hH, hlc] at hgo; exact hgo
  clear hH hlc
  refine lv_iconst (v := nI 0) hx hb d_M_raise_0 (by decide) ?_
  refine lv_istore_n (lv' := [(3, .int (nI 0)), (0, .ref h0), (1, .int (nI L)), (2, .int x)]) hx hb d_M_raise_1 rfl hl (by decide) rfl (fun ls hl => ?_)
  refine lv_iconst (v := nI 0) hx hb d_M_raise_2 (by decide) ?_
  refine lv_istore (lv' := [(4, .int (nI 0)), (3, .int (nI 0)), (0, .ref h0), (1, .int (nI L)), (2, .int x)]) hx hb d_M_raise_3 hl (by decide) rfl (fun ls hl => ?_)
  have lp5 : ∀ (n : Nat) (r : Nat) (v1 : Nat → Nat) (an : Nat) (H : Heap) (locs : List Loc) (ls : Array Slot), cn + 1 ≤ r + n → (r ≤ cn) → (an ≤ 1) → (ch_R st sz pt ng hd cn x L va r v1 an) → va_P D classes (wM h0 ad ca se dp dn hd st sz pt ng v1 kp ds cn) H → va_D A (wM h0 ad ca se dp dn hd st sz pt ng v1 kp ds cn) → va_S A s.heap H locs → lv_has ls 7 [(0, .ref h0), (1, .int (nI L)), (2, .int x), (3, .int (nI an)), (4, .int (nI r))] → W p l e rm_M_raise s m args below meth c H locs 0 0 Q (F0 m 5 ls []) := by
    intro n
    induction n with
    | zero =>
      intro r v1 an H locs ls hn5 hr1 han hR
      exact absurd hn5 (by omega)
    | succ n ih5 =>
      intro r v1 an H locs ls hn5 hr1 han hR hP hD hS hl
      refine lv_iload hx hb d_M_raise_5 (lv_at hl 4 rfl) ?_
      refine lv_aload_n hx hb d_M_raise_7 rfl (lv_at hl 0 rfl) ?_
      refine gtM hx hb hts hown hK hP fl_M_41 rfl (k := 4) (by decide) ⟨rfl, rfl, rfl⟩ rfl d_M_raise_8 ?_
      refine nr_icmp_ge (tgt := 81) hx hb (nr_31 (B := 20) (Nat.le_trans hr1 b_cn) (by decide)) (nr_31 (B := 20) b_cn (by decide)) d_M_raise_11 (by decide) (fun c11 => ?_) (fun c11 => ?_)
      · refine lv_iload_n hx hb d_M_raise_81 rfl (lv_at hl 3 rfl) ?_
        have hz9 := nr_01 han
        exact ct_zret (v1, an) hQ (by first | exact Or.inl rfl | exact Or.inr rfl | assumption) hx hb hr hlocks hAe hK hP hD hS ⟨rfl, han, (show r = cn by omega) ▸ hR⟩ d_M_raise_82
      · refine lv_iload hx hb d_M_raise_14 (lv_at hl 4 rfl) ?_
        refine lv_bipush (v := nI 20) hx hb d_M_raise_16 (by decide) ?_
        refine nr_icmp_ge (tgt := 81) hx hb (nr_31 (B := 20) (Nat.le_trans hr1 b_cn) (by decide)) (by decide) d_M_raise_18 (by decide) (fun c18 => ?_) (fun c18 => ?_)
        · exact absurd c18 (by omega)
        · refine lv_aload_n hx hb d_M_raise_21 rfl (lv_at hl 0 rfl) ?_
          refine gtM hx hb hts hown hK hP fl_M_20 rfl (k := 5) (by decide) ⟨rfl, rfl, rfl⟩ rfl d_M_raise_22 ?_
          refine lv_iload hx hb d_M_raise_25 (lv_at hl 4 rfl) ?_
          refine nr_iald hx hb hK hP 4 3 rfl rfl (by omega) (by decide) d_M_raise_27 ?_
          refine lv_istore (lv' := [(5, .int (nI (hd r))), (0, .ref h0), (1, .int (nI L)), (2, .int x), (3, .int (nI an)), (4, .int (nI r))]) hx hb d_M_raise_28 hl (by decide) rfl (fun ls hl => ?_)
          refine lv_iload hx hb d_M_raise_30 (lv_at hl 5 rfl) ?_
          refine lv_iload_n hx hb d_M_raise_32 rfl (lv_at hl 3 rfl) ?_
          refine lv_icmp_eq (tgt := 75) hx hb  d_M_raise_33 (by decide) (fun c33 => ?_) (fun c33 => ?_)
          · refine lv_iinc (v := nI (r + 1)) (lv' := [(4, .int (nI (r + 1))), (5, .int (nI (hd r))), (0, .ref h0), (1, .int (nI L)), (2, .int x), (3, .int (nI an))]) hx hb d_M_raise_75 hl (k := 5) rfl (nI_1 _) (by decide) rfl (fun ls hl => ?_)
            refine lv_goto (tgt := 5) hx hb d_M_raise_78 (by decide) ?_
            exact ih5 (r + 1) v1 an _ _ _ (by omega) (by omega) han (ch_R_skip hR (fun z9 _ => absurd c33 z9)) hP hD hS (lv_sub hl [2, 3, 4, 5, 0] rfl)
          · refine lv_iload hx hb d_M_raise_36 (lv_at hl 0 rfl) ?_
            refine lv_iconst (v := nI 4) hx hb d_M_raise_38 (by decide) ?_
            refine nr_idiv hx hb (nr_31 (B := 15) (b_hd _) (by decide)) (by decide) (by decide) d_M_raise_39 ?_
            refine lv_iload_n hx hb d_M_raise_40 rfl (lv_at hl 2 rfl) ?_
            refine nr_icmp_ne (tgt := 75) hx hb (nr_31 (B := 15) (Nat.le_trans (Nat.div_le_self _ _) (b_hd _)) (by decide)) (nr_31 (B := 3) (Nat.le_of_lt_succ hL9) (by decide)) d_M_raise_41 (by decide) (fun c41 => ?_) (fun c41 => ?_)
            · refine lv_iinc (v := nI (r + 1)) (lv' := [(4, .int (nI (r + 1))), (5, .int (nI (hd r))), (0, .ref h0), (1, .int (nI L)), (2, .int x), (3, .int (nI an))]) hx hb d_M_raise_75 hl (k := 5) rfl (nI_1 _) (by decide) rfl (fun ls hl => ?_)
              refine lv_goto (tgt := 5) hx hb d_M_raise_78 (by decide) ?_
              exact ih5 (r + 1) v1 an _ _ _ (by omega) (by omega) han (ch_R_skip hR (fun _ z9 => absurd z9 c41)) hP hD hS (lv_sub hl [2, 3, 4, 5, 0] rfl)
            · refine lv_aload_n hx hb d_M_raise_44 rfl (lv_at hl 1 rfl) ?_
              refine lv_iload hx hb d_M_raise_45 (lv_at hl 5 rfl) ?_
              refine xc_iV (C := R_M) (rest := []) ⟨hx, hb, hml, hown, hts⟩ (c_M_asks l D h0 ad ca se dp dn hd st sz pt ng v1 kp ds cn H.size ⟨b_se, b_dp, b_dn, b_hd, b_st, b_sz, b_pt, b_ng, hR.2.2.1, b_kp, b_ds, b_cn⟩ r (by omega)) (cwV 1 hts (gd_v ml_M_55 im_M_asks se_M_asks ini_M cd_M_asks) rfl rfl rfl (by decide +kernel) ⟨Nat.le_of_ble_eq_true rfl, Nat.le_of_ble_eq_true rfl⟩) (va_recv hK hP (ci := 1) (q0 := 0) rfl rfl) hK hP hD hS hA rfl hl.1 rfl (Nat.le_of_ble_eq_true rfl) d_M_raise_47 ⟨Nat.le_of_ble_eq_true rfl, Nat.le_of_ble_eq_true rfl⟩ (fun r47 u47 H locs hp47 hP hD hS => ?_)
              have hP : va_P D classes (wM h0 ad ca se dp dn hd st sz pt ng v1 kp ds cn) H := hP
              have hD : va_D A (wM h0 ad ca se dp dn hd st sz pt ng v1 kp ds cn) := hD
              obtain rfl := hp47
              refine lv_istore (lv' := [(6, .int (nI (ch_wor st sz pt ng v1 r))), (5, .int (nI (hd r))), (0, .ref h0), (1, .int (nI L)), (2, .int x), (3, .int (nI an)), (4, .int (nI r))]) hx hb d_M_raise_50 hl (by decide) rfl (fun ls hl => ?_)
              refine lv_iload hx hb d_M_raise_52 (lv_at hl 0 rfl) ?_
              refine lv_aload_n hx hb d_M_raise_54 rfl (lv_at hl 2 rfl) ?_
              refine gtM hx hb hts hown hK hP fl_M_35 rfl (k := 10) (by decide) ⟨rfl, rfl, rfl⟩ rfl d_M_raise_55 ?_
              refine lv_iload hx hb d_M_raise_58 (lv_at hl 1 rfl) ?_
              refine nr_iald hx hb hK hP 9 8 rfl rfl (Nat.lt_of_le_of_lt (b_hd _) (by decide)) (by decide) d_M_raise_60 ?_
              refine nr_icmp_le (tgt := 75) hx hb (nr_31 (B := 100) (ch_wor_100 (b_st _)) (by decide)) (nr_31 (B := 100) (hR.2.2.1 _) (by decide)) d_M_raise_61 (by decide) (fun c61 => ?_) (fun c61 => ?_)
              · refine lv_iinc (v := nI (r + 1)) (lv' := [(4, .int (nI (r + 1))), (6, .int (nI (ch_wor st sz pt ng v1 r))), (5, .int (nI (hd r))), (0, .ref h0), (1, .int (nI L)), (2, .int x), (3, .int (nI an))]) hx hb d_M_raise_75 hl (k := 6) rfl (nI_1 _) (by decide) rfl (fun ls hl => ?_)
                refine lv_goto (tgt := 5) hx hb d_M_raise_78 (by decide) ?_
                exact ih5 (r + 1) v1 an _ _ _ (by omega) (by omega) han (ch_R_skip hR (fun _ _ => c61)) hP hD hS (lv_sub hl [3, 4, 5, 6, 0] rfl)
              · refine lv_aload_n hx hb d_M_raise_64 rfl (lv_at hl 2 rfl) ?_
                refine gtM hx hb hts hown hK hP fl_M_35 rfl (k := 10) (by decide) ⟨rfl, rfl, rfl⟩ rfl d_M_raise_65 ?_
                refine lv_iload hx hb d_M_raise_68 (lv_at hl 1 rfl) ?_
                refine lv_iload hx hb d_M_raise_70 (lv_at hl 0 rfl) ?_
                refine nr_iast hx hb hK hP hD hS 9 8 rfl rfl (Nat.lt_of_le_of_lt (b_hd _) (by decide)) (by decide) d_M_raise_72 (fun H locs hP hD hS => ?_)
                have hP : va_P D classes (wM h0 ad ca se dp dn hd st sz pt ng (ch_up v1 (hd r) (ch_wor st sz pt ng v1 r)) kp ds cn) H := hP
                have hD : va_D A (wM h0 ad ca se dp dn hd st sz pt ng (ch_up v1 (hd r) (ch_wor st sz pt ng v1 r)) kp ds cn) := hD
                refine lv_iconst (v := nI 1) hx hb d_M_raise_73 (by decide) ?_
                refine lv_istore_n (lv' := [(3, .int (nI 1)), (6, .int (nI (ch_wor st sz pt ng v1 r))), (5, .int (nI (hd r))), (0, .ref h0), (1, .int (nI L)), (2, .int x), (4, .int (nI r))]) hx hb d_M_raise_74 rfl hl (by decide) rfl (fun ls hl => ?_)
                refine lv_iinc (v := nI (r + 1)) (lv' := [(4, .int (nI (r + 1))), (3, .int (nI 1)), (6, .int (nI (ch_wor st sz pt ng v1 r))), (5, .int (nI (hd r))), (0, .ref h0), (1, .int (nI L)), (2, .int x)]) hx hb d_M_raise_75 hl (k := 6) rfl (nI_1 _) (by decide) rfl (fun ls hl => ?_)
                refine lv_goto (tgt := 5) hx hb d_M_raise_78 (by decide) ?_
                exact ih5 (r + 1) (ch_up v1 (hd r) (ch_wor st sz pt ng v1 r)) 1 _ _ _ (by omega) (by omega) (by decide) (ch_R_raise hok b_st (by omega) hR c33 c41 (Nat.lt_of_not_le c61)) hP hD hS (lv_sub hl [4, 5, 6, 1, 0] rfl)
  exact lp5 (cn + 1) 0 va 0 _ _ _ (by omega) (Nat.zero_le _) (by decide) (ch_R_0 b_va) hP hD hS (lv_sub hl [2, 3, 4, 1, 0] rfl)

abbrev rm_M_workOut : Room := { frames := 2, cells := 0, slots := 0, locals := 50 }
set_option maxHeartbeats 4000000 in
set_option maxRecDepth 100000 in
/-- workOut(ot, ce, x) -/
theorem c_M_workOut (l : Launch) (D : va_G) (h0 : Nat) (ad : Nat → Nat) (ca : Nat → ClassId) (se : Nat → Nat) (dp : Nat → Nat) (dn : Nat → Nat) (hd : Nat → Nat) (st : Nat → Nat) (sz : Nat → Nat) (pt : Nat → Nat) (ng : Nat → Nat) (va : Nat → Nat) (kp : Nat → Nat) (ds : Nat) (cn : Nat) (hz : Nat) (B : bM se dp dn hd st sz pt ng va kp ds cn) (ot : Int32) (ce : Nat) (x : Int32) (sv : Nat → Nat) (hce : ce ≤ 100) (hok : ch_ok hd sz pt ng cn) (hsv : ∀ c, c < 16 → sv c = if nI c = ot then ce else se c) : Met l y_M_workOut w_M_workOut rm_M_workOut (va_Pc [.ref h0, .int ot, .int (nI ce), .int x] (Pw D (wM h0 ad ca se dp dn hd st sz pt ng va kp ds cn) (yM ca) hz)) (va_Qv (fun (u : Nat → Nat) => ch_Sol (ch_wor st sz pt ng) hd cn sv x u ∧ ch_bd 100 u) (fun (u : Nat → Nat) => Bw D (wM h0 ad ca se dp dn hd st sz pt ng va kp ds cn) (wM h0 ad ca se dp dn hd st sz pt ng u kp ds cn) (yM ca) hz) (va_A (wM h0 ad ca se dp dn hd st sz pt ng va kp ds cn) hz)) 0 0 (va_A (wM h0 ad ca se dp dn hd st sz pt ng va kp ds cn) hz) := by
  obtain ⟨b_se, b_dp, b_dn, b_hd, b_st, b_sz, b_pt, b_ng, b_va, b_kp, b_ds, b_cn⟩ := B
  refine ct_start (by decide) (Nat.le_of_ble_eq_true rfl) ?_
  intro p e s m args below meth c A Q ls hx hb hr hlocks hml hts hown hnm hA hAe hsz hS hP hD hK hl hQ
  have hown : s.vm.findClass R_M = some m.cls := hown
  have hl : lv_has ls 7 [(0, .ref h0), (1, .int ot), (2, .int (nI ce)), (3, .int x)] := hl
  have hP : va_P D classes (wM h0 ad ca se dp dn hd st sz pt ng va kp ds cn) s.heap := hP
  obtain ⟨H, hH⟩ : ∃ H, H = s.heap := ⟨_, rfl⟩
  obtain ⟨locs, hlc⟩ : ∃ locs : List Loc, locs = [] := ⟨_, rfl⟩
  have hS : va_S A s.heap H locs := by rw [hH, hlc]; exact hS
  have hP : va_P D classes (wM h0 ad ca se dp dn hd st sz pt ng va kp ds cn) H := by rw [hH]; exact hP
  have hgo : W p l e rm_M_workOut s m args below meth c H locs 0 0 Q (F0 m 0 ls []) := ?_
  · rw [hH, hlc] at hgo; exact hgo
  clear hH hlc
  refine lv_iconst (v := nI 0) hx hb d_M_workOut_0 (by decide) ?_
  refine lv_istore (lv' := [(4, .int (nI 0)), (0, .ref h0), (1, .int ot), (2, .int (nI ce)), (3, .int x)]) hx hb d_M_workOut_1 hl (by decide) rfl (fun ls hl => ?_)
  have lp3 : ∀ (n : Nat) (k : Nat) (v1 : Nat → Nat) (H : Heap) (locs : List Loc) (ls : Array Slot), 16 + 1 ≤ k + n → (k ≤ 16) → (ch_bd 100 v1) → (∀ j, j < k → v1 j = sv j) → va_P D classes (wM h0 ad ca se dp dn hd st sz pt ng v1 kp ds cn) H → va_D A (wM h0 ad ca se dp dn hd st sz pt ng v1 kp ds cn) → va_S A s.heap H locs → lv_has ls 7 [(0, .ref h0), (1, .int ot), (2, .int (nI ce)), (3, .int x), (4, .int (nI k))] → W p l e rm_M_workOut s m args below meth c H locs 0 0 Q (F0 m 3 ls []) := by
    intro n
    induction n with
    | zero =>
      intro k v1 H locs ls hn3 hk bv1 hv1
      exact absurd hn3 (by omega)
    | succ n ih3 =>
      intro k v1 H locs ls hn3 hk bv1 hv1 hP hD hS hl
      refine lv_iload hx hb d_M_workOut_3 (lv_at hl 4 rfl) ?_
      refine lv_bipush (v := nI 16) hx hb d_M_workOut_5 (by decide) ?_
      refine nr_icmp_ge (tgt := 40) hx hb (nr_31 (B := 16) hk (by decide)) (by decide) d_M_workOut_7 (by decide) (fun c7 => ?_) (fun c7 => ?_)
      · refine lv_iconst (v := nI 0) hx hb d_M_workOut_40 (by decide) ?_
        refine lv_istore (lv' := [(4, .int (nI 0)), (0, .ref h0), (1, .int ot), (2, .int (nI ce)), (3, .int x)]) hx hb d_M_workOut_41 hl (by decide) rfl (fun ls hl => ?_)
        have lp43 : ∀ (n : Nat) (L : Nat) (v2 : Nat → Nat) (H : Heap) (locs : List Loc) (ls : Array Slot), 4 + 1 ≤ L + n → (L ≤ 4) → (ch_D st sz pt ng hd cn sv x L v2) → va_P D classes (wM h0 ad ca se dp dn hd st sz pt ng v2 kp ds cn) H → va_D A (wM h0 ad ca se dp dn hd st sz pt ng v2 kp ds cn) → va_S A s.heap H locs → lv_has ls 7 [(0, .ref h0), (1, .int ot), (2, .int (nI ce)), (3, .int x), (4, .int (nI L))] → W p l e rm_M_workOut s m args below meth c H locs 0 0 Q (F0 m 43 ls []) := by
          intro n
          induction n with
          | zero =>
            intro L v2 H locs ls hn43 hL hD2
            exact absurd hn43 (by omega)
          | succ n ih43 =>
            intro L v2 H locs ls hn43 hL hD2 hP hD hS hl
            refine lv_iload hx hb d_M_workOut_43 (lv_at hl 4 rfl) ?_
            refine lv_iconst (v := nI 4) hx hb d_M_workOut_45 (by decide) ?_
            refine nr_icmp_ge (tgt := 89) hx hb (nr_31 (B := 4) hL (by decide)) (by decide) d_M_workOut_46 (by decide) (fun c46 => ?_) (fun c46 => ?_)
            · exact ct_vret v2 hQ hx hb hr hlocks hAe hK hP hD hS ⟨ch_D_end ((show L = 4 by omega) ▸ hD2), hD2.2.2⟩ d_M_workOut_89
            · refine lv_iconst (v := nI 1) hx hb d_M_workOut_49 (by decide) ?_
              refine lv_istore (lv' := [(5, .int (nI 1)), (0, .ref h0), (1, .int ot), (2, .int (nI ce)), (3, .int x), (4, .int (nI L))]) hx hb d_M_workOut_50 hl (by decide) rfl (fun ls hl => ?_)
              refine lv_iconst (v := nI 0) hx hb d_M_workOut_52 (by decide) ?_
              refine lv_istore (lv' := [(6, .int (nI 0)), (5, .int (nI 1)), (0, .ref h0), (1, .int ot), (2, .int (nI ce)), (3, .int x), (4, .int (nI L))]) hx hb d_M_workOut_53 hl (by decide) rfl (fun ls hl => ?_)
              have lp55 : ∀ (n : Nat) (rd : Nat) (v3 : Nat → Nat) (mo : Nat) (H : Heap) (locs : List Loc) (ls : Array Slot), 500 + 1 ≤ rd + n → (rd ≤ 500) → (mo ≤ 1) → (ch_Q st sz pt ng hd cn sv x L rd v3 mo) → va_P D classes (wM h0 ad ca se dp dn hd st sz pt ng v3 kp ds cn) H → va_D A (wM h0 ad ca se dp dn hd st sz pt ng v3 kp ds cn) → va_S A s.heap H locs → lv_has ls 7 [(0, .ref h0), (1, .int ot), (2, .int (nI ce)), (3, .int x), (4, .int (nI L)), (5, .int (nI mo)), (6, .int (nI rd))] → W p l e rm_M_workOut s m args below meth c H locs 0 0 Q (F0 m 55 ls []) := by
                intro n
                induction n with
                | zero =>
                  intro rd v3 mo H locs ls hn55 hrd hmo hq3
                  exact absurd hn55 (by omega)
                | succ n ih55 =>
                  intro rd v3 mo H locs ls hn55 hrd hmo hq3 hP hD hS hl
                  refine lv_iload hx hb d_M_workOut_55 (lv_at hl 6 rfl) ?_
                  refine lv_sipush (v := nI 500) hx hb d_M_workOut_57 (by decide) ?_
                  refine nr_icmp_ge (tgt := 83) hx hb (nr_31 (B := 500) hrd (by decide)) (by decide) d_M_workOut_60 (by decide) (fun c60 => ?_) (fun c60 => ?_)
                  · refine lv_iinc (v := nI (L + 1)) (lv' := [(4, .int (nI (L + 1))), (0, .ref h0), (1, .int ot), (2, .int (nI ce)), (3, .int x), (5, .int (nI mo)), (6, .int (nI rd))]) hx hb d_M_workOut_83 hl (k := 4) rfl (nI_1 _) (by decide) rfl (fun ls hl => ?_)
                    refine lv_goto (tgt := 43) hx hb d_M_workOut_86 (by decide) ?_
                    exact ih43 (L + 1) v3 _ _ _ (by omega) (by omega) (ch_Q_end hq3 (Or.inl c60)) hP hD hS (lv_sub hl [1, 2, 3, 4, 0] rfl)
                  · refine lv_iload hx hb d_M_workOut_63 (lv_at hl 5 rfl) ?_
                    refine nr_if_eq (tgt := 83) hx hb (nr_31 (B := 1) hmo (by decide)) d_M_workOut_65 (by decide) (fun c65 => ?_) (fun c65 => ?_)
                    · refine lv_iinc (v := nI (L + 1)) (lv' := [(4, .int (nI (L + 1))), (0, .ref h0), (1, .int ot), (2, .int (nI ce)), (3, .int x), (5, .int (nI mo)), (6, .int (nI rd))]) hx hb d_M_workOut_83 hl (k := 4) rfl (nI_1 _) (by decide) rfl (fun ls hl => ?_)
                      refine lv_goto (tgt := 43) hx hb d_M_workOut_86 (by decide) ?_
                      exact ih43 (L + 1) v3 _ _ _ (by omega) (by omega) (ch_Q_end hq3 (Or.inr c65)) hP hD hS (lv_sub hl [1, 2, 3, 4, 0] rfl)
                    · obtain rfl : mo = 1 := by omega
                      refine lv_aload_n hx hb d_M_workOut_68 rfl (lv_at hl 0 rfl) ?_
                      refine lv_iload hx hb d_M_workOut_69 (lv_at hl 4 rfl) ?_
                      refine lv_iload_n hx hb d_M_workOut_71 rfl (lv_at hl 3 rfl) ?_
                      refine xc_iV (C := R_M) (rest := []) ⟨hx, hb, hml, hown, hts⟩ (c_M_raise l D h0 ad ca se dp dn hd st sz pt ng v3 kp ds cn H.size ⟨b_se, b_dp, b_dn, b_hd, b_st, b_sz, b_pt, b_ng, hq3.2.2.1, b_kp, b_ds, b_cn⟩ L x (by omega) hok) (cwV 2 hts (gd_v ml_M_59 im_M_raise se_M_raise ini_M cd_M_raise) rfl rfl rfl (by decide +kernel) ⟨Nat.le_of_ble_eq_true rfl, Nat.le_of_ble_eq_true rfl⟩) (va_recv hK hP (ci := 1) (q0 := 0) rfl rfl) hK hP hD hS hA rfl hl.1 rfl (Nat.le_of_ble_eq_true rfl) d_M_workOut_72 ⟨Nat.le_of_ble_eq_true rfl, Nat.le_of_ble_eq_true rfl⟩ (fun r72 u72 H locs hp72 hP hD hS => ?_)
                      obtain ⟨v72, a72⟩ := u72
                      obtain ⟨rfl, ha72, hR72⟩ := hp72
                      have ha72 : a72 ≤ 1 := ha72
                      have hR72 : ch_R st sz pt ng hd cn x L v3 cn v72 a72 := hR72
                      have hP : va_P D classes (wM h0 ad ca se dp dn hd st sz pt ng v72 kp ds cn) H := hP
                      have hD : va_D A (wM h0 ad ca se dp dn hd st sz pt ng v72 kp ds cn) := hD
                      refine lv_istore (lv' := [(5, .int (nI a72)), (0, .ref h0), (1, .int ot), (2, .int (nI ce)), (3, .int x), (4, .int (nI L)), (6, .int (nI rd))]) hx hb d_M_workOut_75 hl (by decide) rfl (fun ls hl => ?_)
                      refine lv_iinc (v := nI (rd + 1)) (lv' := [(6, .int (nI (rd + 1))), (5, .int (nI a72)), (0, .ref h0), (1, .int ot), (2, .int (nI ce)), (3, .int x), (4, .int (nI L))]) hx hb d_M_workOut_77 hl (k := 6) rfl (nI_1 _) (by decide) rfl (fun ls hl => ?_)
                      refine lv_goto (tgt := 55) hx hb d_M_workOut_80 (by decide) ?_
                      exact ih55 (rd + 1) v72 a72 _ _ _ (by omega) (by omega) ha72 (ch_Q_step hok hq3 hR72) hP hD hS (lv_sub hl [2, 3, 4, 5, 6, 1, 0] rfl)
              exact lp55 (500 + 1) 0 v2 1 _ _ _ (by omega) (by decide) (by decide) (ch_Q_0 (by omega) hD2) hP hD hS (lv_sub hl [2, 3, 4, 5, 6, 1, 0] rfl)
        exact lp43 (4 + 1) 0 v1 _ _ _ (by omega) (by decide) (ch_D_0 (fun j hj => hv1 j (by omega)) bv1) hP hD hS (lv_sub hl [1, 2, 3, 4, 0] rfl)
      · refine lv_aload_n hx hb d_M_workOut_10 rfl (lv_at hl 0 rfl) ?_
        refine gtM hx hb hts hown hK hP fl_M_35 rfl (k := 10) (by decide) ⟨rfl, rfl, rfl⟩ rfl d_M_workOut_11 ?_
        refine lv_iload hx hb d_M_workOut_14 (lv_at hl 4 rfl) ?_
        refine lv_iload hx hb d_M_workOut_16 (lv_at hl 4 rfl) ?_
        refine lv_iload_n hx hb d_M_workOut_18 rfl (lv_at hl 1 rfl) ?_
        refine lv_icmp_ne (tgt := 26) hx hb  d_M_workOut_19 (by decide) (fun c19 => ?_) (fun c19 => ?_)
        · refine lv_aload_n hx hb d_M_workOut_26 rfl (lv_at hl 0 rfl) ?_
          refine gtM hx hb hts hown hK hP fl_M_7 rfl (k := 0) (by decide) ⟨rfl, rfl, rfl⟩ rfl d_M_workOut_27 ?_
          refine lv_iload hx hb d_M_workOut_30 (lv_at hl 4 rfl) ?_
          refine nr_iald hx hb hK hP 1 0 rfl rfl (by omega) (by decide) d_M_workOut_32 ?_
          refine nr_iast hx hb hK hP hD hS 9 8 rfl rfl (by omega) (by decide) d_M_workOut_33 (fun H locs hP hD hS => ?_)
          have hP : va_P D classes (wM h0 ad ca se dp dn hd st sz pt ng (ch_up v1 k (se k)) kp ds cn) H := hP
          have hD : va_D A (wM h0 ad ca se dp dn hd st sz pt ng (ch_up v1 k (se k)) kp ds cn) := hD
          refine lv_iinc (v := nI (k + 1)) (lv' := [(4, .int (nI (k + 1))), (0, .ref h0), (1, .int ot), (2, .int (nI ce)), (3, .int x)]) hx hb d_M_workOut_34 hl (k := 4) rfl (nI_1 _) (by decide) rfl (fun ls hl => ?_)
          refine lv_goto (tgt := 3) hx hb d_M_workOut_37 (by decide) ?_
          exact ih3 (k + 1) (ch_up v1 k (se k)) _ _ _ (by omega) (by omega) (ch_bd_up bv1 (b_se _)) (ch_ext hv1 (by rw [hsv k (by omega), if_neg c19])) hP hD hS (lv_sub hl [1, 2, 3, 4, 0] rfl)
        · refine lv_iload_n hx hb d_M_workOut_22 rfl (lv_at hl 2 rfl) ?_
          refine lv_goto (tgt := 33) hx hb d_M_workOut_23 (by decide) ?_
          refine nr_iast hx hb hK hP hD hS 9 8 rfl rfl (by omega) (by decide) d_M_workOut_33 (fun H locs hP hD hS => ?_)
          have hP : va_P D classes (wM h0 ad ca se dp dn hd st sz pt ng (ch_up v1 k ce) kp ds cn) H := hP
          have hD : va_D A (wM h0 ad ca se dp dn hd st sz pt ng (ch_up v1 k ce) kp ds cn) := hD
          refine lv_iinc (v := nI (k + 1)) (lv' := [(4, .int (nI (k + 1))), (0, .ref h0), (1, .int ot), (2, .int (nI ce)), (3, .int x)]) hx hb d_M_workOut_34 hl (k := 4) rfl (nI_1 _) (by decide) rfl (fun ls hl => ?_)
          refine lv_goto (tgt := 3) hx hb d_M_workOut_37 (by decide) ?_
          exact ih3 (k + 1) (ch_up v1 k ce) _ _ _ (by omega) (by omega) (ch_bd_up bv1 hce) (ch_ext hv1 (by rw [hsv k (by omega), if_pos c19])) hP hD hS (lv_sub hl [1, 2, 3, 4, 0] rfl)
  exact lp3 (16 + 1) 0 va _ _ _ (by omega) (by decide) b_va (fun j hj => absurd hj (Nat.not_lt_zero _)) hP hD hS (lv_sub hl [1, 2, 3, 4, 0] rfl)

abbrev rm_M_keep : Room := { frames := 3, cells := 0, slots := 0, locals := 76 }
set_option maxHeartbeats 4000000 in
set_option maxRecDepth 100000 in
/-- keep() -/
theorem c_M_keep (l : Launch) (D : va_G) (h0 : Nat) (ad : Nat → Nat) (ca : Nat → ClassId) (se : Nat → Nat) (dp : Nat → Nat) (dn : Nat → Nat) (hd : Nat → Nat) (st : Nat → Nat) (sz : Nat → Nat) (pt : Nat → Nat) (ng : Nat → Nat) (va : Nat → Nat) (kp : Nat → Nat) (ds : Nat) (cn : Nat) (hz : Nat) (B : bM se dp dn hd st sz pt ng va kp ds cn)  (hok : ch_ok hd sz pt ng cn) : Met l y_M_keep w_M_keep rm_M_keep (va_Pc [.ref h0] (Pw D (wM h0 ad ca se dp dn hd st sz pt ng va kp ds cn) (yM ca) hz)) (va_Qv (fun (u : (Nat → Nat) × (Nat → Nat)) => ch_Sol (ch_wor st sz pt ng) hd cn se (-1) u.1 ∧ ch_bd 100 u.1 ∧ ch_bd 100 u.2 ∧ ∀ j, j < 16 → u.2 j = u.1 j) (fun (u : (Nat → Nat) × (Nat → Nat)) => Bw D (wM h0 ad ca se dp dn hd st sz pt ng va kp ds cn) (wM h0 ad ca se dp dn hd st sz pt ng u.1 u.2 ds cn) (yM ca) hz) (va_A (wM h0 ad ca se dp dn hd st sz pt ng va kp ds cn) hz)) 0 0 (va_A (wM h0 ad ca se dp dn hd st sz pt ng va kp ds cn) hz) := by
  obtain ⟨b_se, b_dp, b_dn, b_hd, b_st, b_sz, b_pt, b_ng, b_va, b_kp, b_ds, b_cn⟩ := B
  refine ct_start (by decide) (Nat.le_of_ble_eq_true rfl) ?_
  intro p e s m args below meth c A Q ls hx hb hr hlocks hml hts hown hnm hA hAe hsz hS hP hD hK hl hQ
  have hown : s.vm.findClass R_M = some m.cls := hown
  have hl : lv_has ls 2 [(0, .ref h0)] := hl
  have hP : va_P D classes (wM h0 ad ca se dp dn hd st sz pt ng va kp ds cn) s.heap := hP
  obtain ⟨H, hH⟩ : ∃ H, H = s.heap := ⟨_, rfl⟩
  obtain ⟨locs, hlc⟩ : ∃ locs : List Loc, locs = [] := ⟨_, rfl⟩
  have hS : va_S A s.heap H locs := by rw [hH, hlc]; exact hS
  have hP : va_P D classes (wM h0 ad ca se dp dn hd st sz pt ng va kp ds cn) H := by rw [hH]; exact hP
  have hgo : W p l e rm_M_keep s m args below meth c H locs 0 0 Q (F0 m 0 ls []) := ?_
  · rw [hH, hlc] at hgo; exact hgo
  clear hH hlc
  refine lv_aload_n hx hb d_M_keep_0 rfl (lv_at hl 0 rfl) ?_
  refine lv_iconst (v := (-1)) hx hb d_M_keep_1 (by decide) ?_
  refine lv_iconst (v := nI 0) hx hb d_M_keep_2 (by decide) ?_
  refine lv_iconst (v := (-1)) hx hb d_M_keep_3 (by decide) ?_
  refine xc_vV (C := R_M) (rest := []) ⟨hx, hb, hml, hown, hts⟩ (c_M_workOut l D h0 ad ca se dp dn hd st sz pt ng va kp ds cn H.size ⟨b_se, b_dp, b_dn, b_hd, b_st, b_sz, b_pt, b_ng, b_va, b_kp, b_ds, b_cn⟩ (-1) 0 (-1) se (by decide) hok (fun c9 hc9 => (if_neg (nr_nm1 (by omega))).symm)) (cwV 3 hts (gd_v ml_M_63 im_M_workOut se_M_workOut ini_M cd_M_workOut) rfl rfl rfl (by decide +kernel) ⟨Nat.le_of_ble_eq_true rfl, Nat.le_of_ble_eq_true rfl⟩) (va_recv hK hP (ci := 1) (q0 := 0) rfl rfl) hK hP hD hS hA rfl hl.1 rfl (Nat.le_of_ble_eq_true rfl) d_M_keep_4 ⟨Nat.le_of_ble_eq_true rfl, Nat.le_of_ble_eq_true rfl⟩ (fun u4 H locs hp4 hP hD hS => ?_)
  obtain ⟨hs4, bv4⟩ := hp4
  have hs4 : ch_Sol (ch_wor st sz pt ng) hd cn se (-1) u4 := hs4
  have hP : va_P D classes (wM h0 ad ca se dp dn hd st sz pt ng u4 kp ds cn) H := hP
  have hD : va_D A (wM h0 ad ca se dp dn hd st sz pt ng u4 kp ds cn) := hD
  refine lv_iconst (v := nI 0) hx hb d_M_keep_7 (by decide) ?_
  refine lv_istore_n (lv' := [(1, .int (nI 0)), (0, .ref h0)]) hx hb d_M_keep_8 rfl hl (by decide) rfl (fun ls hl => ?_)
  have lp9 : ∀ (n : Nat) (k : Nat) (q1 : Nat → Nat) (H : Heap) (locs : List Loc) (ls : Array Slot), 16 + 1 ≤ k + n → (k ≤ 16) → (ch_bd 100 q1) → (∀ j, j < k → q1 j = u4 j) → va_P D classes (wM h0 ad ca se dp dn hd st sz pt ng u4 q1 ds cn) H → va_D A (wM h0 ad ca se dp dn hd st sz pt ng u4 q1 ds cn) → va_S A s.heap H locs → lv_has ls 2 [(0, .ref h0), (1, .int (nI k))] → W p l e rm_M_keep s m args below meth c H locs 0 0 Q (F0 m 9 ls []) := by
    intro n
    induction n with
    | zero =>
      intro k q1 H locs ls hn9 hk bq1 hq1
      exact absurd hn9 (by omega)
    | succ n ih9 =>
      intro k q1 H locs ls hn9 hk bq1 hq1 hP hD hS hl
      refine lv_iload_n hx hb d_M_keep_9 rfl (lv_at hl 1 rfl) ?_
      refine lv_bipush (v := nI 16) hx hb d_M_keep_10 (by decide) ?_
      refine nr_icmp_ge (tgt := 33) hx hb (nr_31 (B := 16) hk (by decide)) (by decide) d_M_keep_12 (by decide) (fun c12 => ?_) (fun c12 => ?_)
      · exact ct_vret (u4, q1) hQ hx hb hr hlocks hAe hK hP hD hS ⟨hs4, bv4, bq1, fun j hj => hq1 j (by omega)⟩ d_M_keep_33
      · refine lv_aload_n hx hb d_M_keep_15 rfl (lv_at hl 0 rfl) ?_
        refine gtM hx hb hts hown hK hP fl_M_38 rfl (k := 11) (by decide) ⟨rfl, rfl, rfl⟩ rfl d_M_keep_16 ?_
        refine lv_iload_n hx hb d_M_keep_19 rfl (lv_at hl 1 rfl) ?_
        refine lv_aload_n hx hb d_M_keep_20 rfl (lv_at hl 0 rfl) ?_
        refine gtM hx hb hts hown hK hP fl_M_35 rfl (k := 10) (by decide) ⟨rfl, rfl, rfl⟩ rfl d_M_keep_21 ?_
        refine lv_iload_n hx hb d_M_keep_24 rfl (lv_at hl 1 rfl) ?_
        refine nr_iald hx hb hK hP 9 8 rfl rfl (by omega) (by decide) d_M_keep_25 ?_
        refine nr_iast hx hb hK hP hD hS 10 9 rfl rfl (by omega) (by decide) d_M_keep_26 (fun H locs hP hD hS => ?_)
        have hP : va_P D classes (wM h0 ad ca se dp dn hd st sz pt ng u4 (ch_up q1 k (u4 k)) ds cn) H := hP
        have hD : va_D A (wM h0 ad ca se dp dn hd st sz pt ng u4 (ch_up q1 k (u4 k)) ds cn) := hD
        refine lv_iinc (v := nI (k + 1)) (lv' := [(1, .int (nI (k + 1))), (0, .ref h0)]) hx hb d_M_keep_27 hl (k := 1) rfl (nI_1 _) (by decide) rfl (fun ls hl => ?_)
        refine lv_goto (tgt := 9) hx hb d_M_keep_30 (by decide) ?_
        exact ih9 (k + 1) (ch_up q1 k (u4 k)) _ _ _ (by omega) (by omega) (ch_bd_up bq1 (bv4 _)) (ch_ext hq1 rfl) hP hD hS (lv_sub hl [1, 0] rfl)
  exact lp9 (16 + 1) 0 kp _ _ _ (by omega) (by decide) b_kp (fun j hj => absurd hj (Nat.not_lt_zero _)) hP hD hS (lv_sub hl [1, 0] rfl)

abbrev rm_M_others : Room := { frames := 0, cells := 0, slots := 0, locals := 0 }
set_option maxHeartbeats 4000000 in
set_option maxRecDepth 100000 in
/-- others() -/
theorem c_M_others (l : Launch) (D : va_G) (h0 : Nat) (ad : Nat → Nat) (ca : Nat → ClassId) (se : Nat → Nat) (dp : Nat → Nat) (dn : Nat → Nat) (hd : Nat → Nat) (st : Nat → Nat) (sz : Nat → Nat) (pt : Nat → Nat) (ng : Nat → Nat) (va : Nat → Nat) (kp : Nat → Nat) (ds : Nat) (cn : Nat) (hz : Nat) (B : bM se dp dn hd st sz pt ng va kp ds cn)   : Met l y_M_others w_M_others rm_M_others (va_Pc [.ref h0] (Pw D (wM h0 ad ca se dp dn hd st sz pt ng va kp ds cn) (yM ca) hz)) (va_Qi (fun (v : Int32) (u : Unit) => v = nI (ch_df kp va 16)) (fun (u : Unit) => Bw D (wM h0 ad ca se dp dn hd st sz pt ng va kp ds cn) (wM h0 ad ca se dp dn hd st sz pt ng va kp ds cn) (yM ca) hz) (va_A (wM h0 ad ca se dp dn hd st sz pt ng va kp ds cn) hz)) 0 0 (va_A (wM h0 ad ca se dp dn hd st sz pt ng va kp ds cn) hz) := by
  obtain ⟨b_se, b_dp, b_dn, b_hd, b_st, b_sz, b_pt, b_ng, b_va, b_kp, b_ds, b_cn⟩ := B
  refine ct_start (by decide) (Nat.le_of_ble_eq_true rfl) ?_
  intro p e s m args below meth c A Q ls hx hb hr hlocks hml hts hown hnm hA hAe hsz hS hP hD hK hl hQ
  have hown : s.vm.findClass R_M = some m.cls := hown
  have hl : lv_has ls 3 [(0, .ref h0)] := hl
  have hP : va_P D classes (wM h0 ad ca se dp dn hd st sz pt ng va kp ds cn) s.heap := hP
  obtain ⟨H, hH⟩ : ∃ H, H = s.heap := ⟨_, rfl⟩
  obtain ⟨locs, hlc⟩ : ∃ locs : List Loc, locs = [] := ⟨_, rfl⟩
  have hS : va_S A s.heap H locs := by rw [hH, hlc]; exact hS
  have hP : va_P D classes (wM h0 ad ca se dp dn hd st sz pt ng va kp ds cn) H := by rw [hH]; exact hP
  have hgo : W p l e rm_M_others s m args below meth c H locs 0 0 Q (F0 m 0 ls []) := ?_
  · rw [hH, hlc] at hgo; exact hgo
  clear hH hlc
  refine lv_iconst (v := nI 0) hx hb d_M_others_0 (by decide) ?_
  refine lv_istore_n (lv' := [(1, .int (nI 0)), (0, .ref h0)]) hx hb d_M_others_1 rfl hl (by decide) rfl (fun ls hl => ?_)
  refine lv_iconst (v := nI 0) hx hb d_M_others_2 (by decide) ?_
  refine lv_istore_n (lv' := [(2, .int (nI 0)), (1, .int (nI 0)), (0, .ref h0)]) hx hb d_M_others_3 rfl hl (by decide) rfl (fun ls hl => ?_)
  have lp4 : ∀ (n : Nat) (k : Nat) (q : Nat) (H : Heap) (locs : List Loc) (ls : Array Slot), 16 + 1 ≤ k + n → (k ≤ 16) → (q = ch_df va kp k) → va_P D classes (wM h0 ad ca se dp dn hd st sz pt ng va kp ds cn) H → va_D A (wM h0 ad ca se dp dn hd st sz pt ng va kp ds cn) → va_S A s.heap H locs → lv_has ls 3 [(0, .ref h0), (1, .int (nI q)), (2, .int (nI k))] → W p l e rm_M_others s m args below meth c H locs 0 0 Q (F0 m 4 ls []) := by
    intro n
    induction n with
    | zero =>
      intro k q H locs ls hn4 hk hq
      exact absurd hn4 (by omega)
    | succ n ih4 =>
      intro k q H locs ls hn4 hk hq hP hD hS hl
      refine lv_iload_n hx hb d_M_others_4 rfl (lv_at hl 2 rfl) ?_
      refine lv_bipush (v := nI 16) hx hb d_M_others_5 (by decide) ?_
      refine nr_icmp_ge (tgt := 34) hx hb (nr_31 (B := 16) hk (by decide)) (by decide) d_M_others_7 (by decide) (fun c7 => ?_) (fun c7 => ?_)
      · refine lv_iload_n hx hb d_M_others_34 rfl (lv_at hl 1 rfl) ?_
        exact ct_iret () hQ hx hb hr hlocks hAe hK hP hD hS (by rw [hq, show k = 16 by omega, ch_df_sym]) d_M_others_35
      · refine lv_aload_n hx hb d_M_others_10 rfl (lv_at hl 0 rfl) ?_
        refine gtM hx hb hts hown hK hP fl_M_35 rfl (k := 10) (by decide) ⟨rfl, rfl, rfl⟩ rfl d_M_others_11 ?_
        refine lv_iload_n hx hb d_M_others_14 rfl (lv_at hl 2 rfl) ?_
        refine nr_iald hx hb hK hP 9 8 rfl rfl (by omega) (by decide) d_M_others_15 ?_
        refine lv_aload_n hx hb d_M_others_16 rfl (lv_at hl 0 rfl) ?_
        refine gtM hx hb hts hown hK hP fl_M_38 rfl (k := 11) (by decide) ⟨rfl, rfl, rfl⟩ rfl d_M_others_17 ?_
        refine lv_iload_n hx hb d_M_others_20 rfl (lv_at hl 2 rfl) ?_
        refine nr_iald hx hb hK hP 10 9 rfl rfl (by omega) (by decide) d_M_others_21 ?_
        refine nr_icmp_eq (tgt := 28) hx hb (nr_31 (B := 100) (b_va _) (by decide)) (nr_31 (B := 100) (b_kp _) (by decide)) d_M_others_22 (by decide) (fun c22 => ?_) (fun c22 => ?_)
        · refine lv_iinc (v := nI (k + 1)) (lv' := [(2, .int (nI (k + 1))), (0, .ref h0), (1, .int (nI q))]) hx hb d_M_others_28 hl (k := 2) rfl (nI_1 _) (by decide) rfl (fun ls hl => ?_)
          refine lv_goto (tgt := 4) hx hb d_M_others_31 (by decide) ?_
          exact ih4 (k + 1) q _ _ _ (by omega) (by omega) (by rw [ch_df, if_pos c22, Nat.add_zero, hq]) hP hD hS (lv_sub hl [1, 2, 0] rfl)
        · refine lv_iinc (v := nI (q + 1)) (lv' := [(1, .int (nI (q + 1))), (0, .ref h0), (2, .int (nI k))]) hx hb d_M_others_25 hl (k := 1) rfl (nI_1 _) (by decide) rfl (fun ls hl => ?_)
          refine lv_iinc (v := nI (k + 1)) (lv' := [(2, .int (nI (k + 1))), (1, .int (nI (q + 1))), (0, .ref h0)]) hx hb d_M_others_28 hl (k := 2) rfl (nI_1 _) (by decide) rfl (fun ls hl => ?_)
          refine lv_goto (tgt := 4) hx hb d_M_others_31 (by decide) ?_
          exact ih4 (k + 1) (q + 1) _ _ _ (by omega) (by omega) (by rw [ch_df, if_neg c22, hq]) hP hD hS (lv_sub hl [2, 1, 0] rfl)
  exact lp4 (16 + 1) 0 0 _ _ _ (by omega) (by decide) rfl hP hD hS (lv_sub hl [2, 1, 0] rfl)
end
section
/-! ===== what the public methods answer ===== -/
theorem sp_err {α : Type} {o : Option Int32} {c d v : Int32} {a b u : α} (h : o = some c) (hv : v = c) (hu : u = b) : v = o.getD d ∧ u = (if o = none then a else b) := by
  subst h hv hu
  exact ⟨rfl, (if_neg (fun q => by cases q)).symm⟩
theorem sp_suc {α : Type} {o : Option Int32} {d v : Int32} {a b u : α} (h : o = none) (hv : v = d) (hu : u = a) : v = o.getD d ∧ u = (if o = none then a else b) := by
  subst h hv hu
  exact ⟨rfl, (if_pos rfl).symm⟩
theorem nr_rng1 {y : Int32} (h1 : ¬ y < nI 1) (h2 : y ≤ nI 100) : ∃ s, s ≤ 100 ∧ y = nI s := by
  have h0 : ¬ y < 0 := fun q => h1 (Int32.lt_trans q (by decide))
  obtain ⟨j, hj, rfl⟩ := nI_of h0
  rw [nI_leI hj (by decide)] at h2
  exact ⟨j, h2, rfl⟩
theorem nr_rng0 {y : Int32} (h0 : ¬ y < 0) (h2 : y ≤ nI 100) : ∃ s, s ≤ 100 ∧ y = nI s := by
  obtain ⟨j, hj, rfl⟩ := nI_of h0
  rw [nI_leI hj (by decide)] at h2
  exact ⟨j, h2, rfl⟩
theorem nr_lem1 {a b : Nat} (ha : a < 2 ^ 30) (hb : b < 2 ^ 30) : nI a ≤ nI b - nI 1 ↔ a < b := by
  rw [Int32.le_iff_toInt_le, pk_sub_toInt hb (by decide), nI_toInt (by omega)]
  omega
def ch_b (y : Int32) : Nat := if y = 0 then 0 else 1
def ch_tn (x : Int32) : Nat := x.toNatClampNeg
theorem ch_tn_nI {j : Nat} (h : j < 2 ^ 31) : ch_tn (nI j) = j := nI_clamp h
def sp_prem (x : Int32) (ds : Nat) : Option Int32 := if ch_ic x 16 = true then (if ds = 3 then some (-2) else none) else some (-1)
/-- one of the first k drafted premises lies too high for the head h -/
def sp_hi (h : Nat) (dp dn : Nat → Nat) : Nat → Bool
  | 0 => false
  | k + 1 => sp_hi h dp dn k || decide (h / 4 < dp k / 4 ∨ (dn k ≠ 0 ∧ dp k / 4 = h / 4))
theorem sp_hi_t {h : Nat} {dp dn : Nat → Nat} {k : Nat} (hk : h / 4 < dp k / 4 ∨ (dn k ≠ 0 ∧ dp k / 4 = h / 4)) : ∀ n, k < n → sp_hi h dp dn n = true
  | 0, q => absurd q (Nat.not_lt_zero _)
  | n + 1, q => by
    show (sp_hi h dp dn n || decide _) = true
    by_cases e : k = n
    · subst e
      rw [decide_eq_true hk, Bool.or_true]
    · rw [sp_hi_t hk n (by omega), Bool.true_or]
theorem sp_hi_f {h : Nat} {dp dn : Nat → Nat} {k : Nat} (h1 : sp_hi h dp dn k = false) (hk : ¬ (h / 4 < dp k / 4 ∨ (dn k ≠ 0 ∧ dp k / 4 = h / 4))) : sp_hi h dp dn (k + 1) = false := by
  show (sp_hi h dp dn k || decide _) = false
  rw [h1, decide_eq_false hk]
  rfl
theorem sp_hi_all {h : Nat} {dp dn : Nat → Nat} {n : Nat} (h1 : sp_hi h dp dn n = false) {k : Nat} (hk : k < n) : ¬ (h / 4 < dp k / 4 ∨ (dn k ≠ 0 ∧ dp k / 4 = h / 4)) := fun q => by
  rw [sp_hi_t q n hk] at h1
  cases h1
def sp_rule (x y : Int32) (dp dn : Nat → Nat) (ds cn : Nat) : Option Int32 := if ch_ic x 16 = true then (if y < nI 1 ∨ ¬ y ≤ nI 100 then some (-2) else if sp_hi (ch_tn x) dp dn ds = true then some (-3) else if cn = 20 then some (-4) else none) else some (-1)
/-- n places from b on hold g's first n -/
def ch_cp (f g : Nat → Nat) (b n : Nat) : Nat → Nat := fun j => if b ≤ j ∧ j < b + n then g (j - b) else f j
theorem ch_cp_0 (f g : Nat → Nat) (b : Nat) : ch_cp f g b 0 = f := by
  funext j
  exact if_neg (by omega)
theorem ch_cp_s (f g : Nat → Nat) (b n : Nat) : ch_up (ch_cp f g b n) (b + n) (g n) = ch_cp f g b (n + 1) := by
  funext j
  by_cases e : j = b + n
  · rw [e, ch_up_s]
    show g n = if b ≤ b + n ∧ b + n < b + (n + 1) then g (b + n - b) else f (b + n)
    rw [if_pos (by omega), Nat.add_sub_cancel_left]
  · rw [ch_up_n e]
    show (if b ≤ j ∧ j < b + n then g (j - b) else f j) = if b ≤ j ∧ j < b + (n + 1) then g (j - b) else f j
    by_cases q : b ≤ j ∧ j < b + n
    · rw [if_pos q, if_pos (by omega)]
    · rw [if_neg q, if_neg (by omega)]
theorem ch_cp_bd {B : Nat} {f g : Nat → Nat} {b n : Nat} (hf : ch_bd B f) (hg : ch_bd B g) : ch_bd B (ch_cp f g b n) := by
  intro j
  show (if b ≤ j ∧ j < b + n then g (j - b) else f j) ≤ B
  split
  · exact hg _
  · exact hf _
theorem ch_cp_in {f g : Nat → Nat} {b n k : Nat} (h : k < n) : ch_cp f g b n (b + k) = g k := by
  show (if b ≤ b + k ∧ b + k < b + n then g (b + k - b) else f (b + k)) = g k
  rw [if_pos (by omega), Nat.add_sub_cancel_left]
theorem ch_cp_out {f g : Nat → Nat} {b n j : Nat} (h : j < b) : ch_cp f g b n j = f j := if_neg (by omega)
/-- from lo to hi every place holds what stood d places behind it -/
def ch_sh (f : Nat → Nat) (lo hi d : Nat) : Nat → Nat := fun j => if lo ≤ j ∧ j < hi then f (j + d) else f j
theorem ch_sh_0 (f : Nat → Nat) (lo d : Nat) : ch_sh f lo lo d = f := by
  funext j
  exact if_neg (by omega)
theorem ch_sh_s {f : Nat → Nat} {lo h i d : Nat} (hl : lo ≤ h) (hi : i = h + d) (hd : 0 < d) : ch_up (ch_sh f lo h d) h (ch_sh f lo h d i) = ch_sh f lo (h + 1) d := by
  subst hi
  funext j
  have e1 : ch_sh f lo h d (h + d) = f (h + d) := if_neg (by omega)
  by_cases e : j = h
  · rw [e, ch_up_s, e1]
    exact (if_pos (by omega)).symm
  · rw [ch_up_n e]
    show (if lo ≤ j ∧ j < h then f (j + d) else f j) = if lo ≤ j ∧ j < h + 1 then f (j + d) else f j
    by_cases q : lo ≤ j ∧ j < h
    · rw [if_pos q, if_pos (by omega)]
    · rw [if_neg q, if_neg (by omega)]
theorem ch_sh_bd {B : Nat} {f : Nat → Nat} {lo hi d : Nat} (hf : ch_bd B f) : ch_bd B (ch_sh f lo hi d) := by
  intro j
  show (if lo ≤ j ∧ j < hi then f (j + d) else f j) ≤ B
  split
  · exact hf _
  · exact hf _
def sp_rem (x : Int32) (cn : Nat) : Option Int32 := if ch_ic x cn = true then none else some (-1)
def sp_str (x y : Int32) (cn : Nat) : Option Int32 := if ch_ic x cn = true then (if y < nI 1 ∨ ¬ y ≤ nI 100 then some (-2) else none) else some (-1)
def sp_obs (x y : Int32) : Option Int32 := if ch_ic x 16 = true then (if y < 0 ∨ ¬ y ≤ nI 100 then some (-2) else none) else some (-1)
/-- the value of f at x, where x is below n; else d -/
def sp_at (x : Int32) (n : Nat) (f : Nat → Nat) : Int32 := if ch_ic x n = true then nI (f (ch_tn x)) else (-1)
theorem sp_at_t {j n : Nat} {f : Nat → Nat} (h : j < n) (hn : n < 2 ^ 31) : sp_at (nI j) n f = nI (f j) := by
  rw [sp_at, if_pos (ch_ic_nI h hn), ch_tn_nI (by omega)]
theorem sp_at_f {x : Int32} {n : Nat} {f : Nat → Nat} (h : ch_ic x n = false) : sp_at x n f = (-1) := by
  rw [sp_at, if_neg (by rw [h]; decide)]
/-- V solves every question -/
def ch_Slv (wo : (Nat → Nat) → Nat → Nat) (hd : Nat → Nat) (cn : Nat) (V : (Nat → Nat) → Int32 → Nat → Nat) : Prop := ∀ se sk, ch_bd 100 se → ch_Sol wo hd cn se sk (V se sk)
theorem ch_Slv_at {wo : (Nat → Nat) → Nat → Nat} {hd : Nat → Nat} {cn : Nat} {V : (Nat → Nat) → Int32 → Nat → Nat} {se v : Nat → Nat} {sk : Int32} (hV : ch_Slv wo hd cn V) (hb : ch_bd 100 se) (h : ch_Sol wo hd cn se sk v) : ∀ c, c < 16 → v c = V se sk c := ch_Sol_uniq h (hV se sk hb)
def sp_wi (x1 x2 y : Int32) (se : Nat → Nat) (V : (Nat → Nat) → Int32 → Nat → Nat) : Int32 := if ch_ic x1 16 = true then (if ch_ic x2 16 = true then (if y < 0 ∨ ¬ y ≤ nI 100 then (-2) else nI (V (ch_up se (ch_tn x2) (ch_tn y)) (-1) (ch_tn x1))) else (-1)) else (-1)
def sp_wo (x1 x2 : Int32) (cn : Nat) (se : Nat → Nat) (V : (Nat → Nat) → Int32 → Nat → Nat) : Int32 := if ch_ic x1 16 = true then (if ch_ic x2 cn = true then nI (V se x2 (ch_tn x1)) else (-2)) else (-1)
/-- v is the first of 0 .. n - 1 with P, or -2 -/
def sp_fst (P : Nat → Prop) (n : Nat) (v : Int32) : Prop := (∃ r, r < n ∧ P r ∧ (∀ q, q < r → ¬ P q) ∧ v = nI r) ∨ ((∀ q, q < n → ¬ P q) ∧ v = (-2))
theorem sp_fst_det {P P' : Nat → Prop} {n : Nat} {v v' : Int32} (hp : ∀ r, r < n → (P r ↔ P' r)) (h : sp_fst P n v) (h' : sp_fst P' n v') : v = v' := by
  rcases h with ⟨r, a1, a2, a3, rfl⟩ | ⟨a1, rfl⟩
  · rcases h' with ⟨r', b1, b2, b3, rfl⟩ | ⟨b1, rfl⟩
    · have : r = r' := by
        rcases Nat.lt_trichotomy r r' with q | q | q
        · exact absurd ((hp r a1).mp a2) (b3 r q)
        · exact q
        · exact absurd ((hp r' b1).mpr b2) (a3 r' q)
      rw [this]
    · exact absurd ((hp r a1).mp a2) (b1 r a1)
  · rcases h' with ⟨r', b1, b2, b3, rfl⟩ | ⟨b1, rfl⟩
    · exact absurd ((hp r' b1).mpr b2) (a1 r' b1)
    · rfl
def sp_sup (wo : (Nat → Nat) → Nat → Nat) (hd : Nat → Nat) (j : Nat) (f : Nat → Nat) (r : Nat) : Prop := hd r = j ∧ 0 < f j ∧ wo f r = f j
theorem ch_wor_16 {st sz pt ng u v : Nat → Nat} {r : Nat} (hpt : ch_bd 15 pt) (h : ∀ c, c < 16 → u c = v c) : ch_wor st sz pt ng u r = ch_wor st sz pt ng v r := by
  apply ch_wor_eq
  intro j hj
  unfold ch_pv
  rw [h _ (Nat.lt_succ_of_le (hpt _))]
/-- how many of the first n are not below b -/
def sp_al (f : Nat → Nat) (b : Int32) : Nat → Nat
  | 0 => 0
  | k + 1 => sp_al f b k + (if nI (f k) < b then 0 else 1)
theorem sp_al_le (f : Nat → Nat) (b : Int32) : ∀ n, sp_al f b n ≤ n
  | 0 => Nat.le_refl _
  | n + 1 => by
    have ih := sp_al_le f b n
    show sp_al f b n + (if nI (f n) < b then 0 else 1) ≤ n + 1
    split <;> omega
theorem sp_al_cg {f g : Nat → Nat} {b : Int32} : ∀ n, (∀ j, j < n → f j = g j) → sp_al f b n = sp_al g b n
  | 0, _ => rfl
  | n + 1, h => by
    show sp_al f b n + (if nI (f n) < b then 0 else 1) = sp_al g b n + (if nI (g n) < b then 0 else 1)
    rw [sp_al_cg n (fun j hj => h j (by omega)), h n (by omega)]
/-- the first of a .. a + k with the greatest value -/
def sp_bst (f : Nat → Nat) (a : Nat) : Nat → Nat
  | 0 => a
  | k + 1 => if f (sp_bst f a k) < f (a + k + 1) then a + k + 1 else sp_bst f a k
theorem sp_bst_in (f : Nat → Nat) (a : Nat) : ∀ k, a ≤ sp_bst f a k ∧ sp_bst f a k ≤ a + k
  | 0 => ⟨Nat.le_refl _, Nat.le_refl _⟩
  | k + 1 => by
    have ih := sp_bst_in f a k
    show a ≤ (if f (sp_bst f a k) < f (a + k + 1) then a + k + 1 else sp_bst f a k) ∧ (if f (sp_bst f a k) < f (a + k + 1) then a + k + 1 else sp_bst f a k) ≤ a + (k + 1)
    split <;> omega
theorem sp_bst_cg {f g : Nat → Nat} {a : Nat} : ∀ k, (∀ j, j ≤ a + k → f j = g j) → sp_bst f a k = sp_bst g a k
  | 0, _ => rfl
  | k + 1, h => by
    have ih := sp_bst_cg (f := f) (g := g) (a := a) k (fun j hj => h j (by omega))
    have hi := (sp_bst_in g a k).2
    show (if f (sp_bst f a k) < f (a + k + 1) then a + k + 1 else sp_bst f a k) = (if g (sp_bst g a k) < g (a + k + 1) then a + k + 1 else sp_bst g a k)
    rw [ih, h (sp_bst g a k) (by omega), h (a + k + 1) (by omega)]
def sp_stg (x1 x2 : Int32) (f : Nat → Nat) : Int32 := if ch_ic x1 16 = true then (if ch_ic x2 16 = true then (if ch_tn x1 ≤ ch_tn x2 then nI (sp_bst f (ch_tn x1) (ch_tn x2 - ch_tn x1)) else (-2)) else (-1)) else (-1)
/-- how many of the first n rules matter -/
def sp_ess (V : (Nat → Nat) → Int32 → Nat → Nat) (se : Nat → Nat) : Nat → Nat
  | 0 => 0
  | r + 1 => sp_ess V se r + (if ch_df (V se (-1)) (V se (nI r)) 16 = 0 then 0 else 1)
def sp_inf (x : Int32) (se : Nat → Nat) (V : (Nat → Nat) → Int32 → Nat → Nat) : Int32 := if ch_ic x 16 = true then nI (ch_df (V se (-1)) (V (ch_up se (ch_tn x) 0) (-1)) 16) else (-1)
end
section
/-! ===== the class: premise, clear, rule, remove, strengthen, observe, rules, headOf, observed ===== -/
abbrev rm_X_premise : Room := { frames := 1, cells := 0, slots := 0, locals := 20 }
set_option maxHeartbeats 4000000 in
set_option maxRecDepth 100000 in
/-- premise(x, y) -/
theorem c_X_premise (l : Launch) (D : va_G) (h0 : Nat) (ad : Nat → Nat) (ca : Nat → ClassId) (hd : Nat → Nat) (st : Nat → Nat) (sz : Nat → Nat) (pt : Nat → Nat) (ng : Nat → Nat) (dp : Nat → Nat) (dn : Nat → Nat) (se : Nat → Nat) (va : Nat → Nat) (of : Nat → Nat) (sl : Nat → Nat) (wt : Nat → Int32) (kp : Nat → Nat) (ds : Nat) (cn : Nat) (sk : Int32) (cu : Nat) (hz : Nat) (B : bX hd st sz pt ng dp dn se va of sl kp ds cn cu) (x : Int32) (y : Int32)  : Met l y_X_premise w_X_premise rm_X_premise (va_Pc [.ref h0, .int x, .int y] (Pw D (wX h0 ad ca hd st sz pt ng dp dn se va of sl wt kp ds cn sk cu) (yX ca) hz)) (va_Qi (fun (v : Int32) (u : (Nat) × (Nat → Nat) × (Nat → Nat)) => v = (sp_prem x ds).getD (nI (ds + 1)) ∧ u = (if sp_prem x ds = none then (ds + 1, ch_up dp ds (ch_tn x), ch_up dn ds (ch_b y)) else (ds, dp, dn))) (fun (u : (Nat) × (Nat → Nat) × (Nat → Nat)) => Bw D (wX h0 ad ca hd st sz pt ng dp dn se va of sl wt kp ds cn sk cu) (wX h0 ad ca hd st sz pt ng u.2.1 u.2.2 se va of sl wt kp u.1 cn sk cu) (yX ca) hz) (va_A (wX h0 ad ca hd st sz pt ng dp dn se va of sl wt kp ds cn sk cu) hz)) 0 0 (va_A (wX h0 ad ca hd st sz pt ng dp dn se va of sl wt kp ds cn sk cu) hz) := by
  obtain ⟨b_hd, b_st, b_sz, b_pt, b_ng, b_dp, b_dn, b_se, b_va, b_of, b_sl, b_kp, b_ds, b_cn, b_cu⟩ := B
  refine ct_start (by decide) (Nat.le_of_ble_eq_true rfl) ?_
  intro p e s m args below meth c A Q ls hx hb hr hlocks hml hts hown hnm hA hAe hsz hS hP hD hK hl hQ
  have hown : s.vm.findClass R_X = some m.cls := hown
  have hl : lv_has ls 3 [(0, .ref h0), (1, .int x), (2, .int y)] := hl
  have hP : va_P D classes (wX h0 ad ca hd st sz pt ng dp dn se va of sl wt kp ds cn sk cu) s.heap := hP
  obtain ⟨H, hH⟩ : ∃ H, H = s.heap := ⟨_, rfl⟩
  obtain ⟨locs, hlc⟩ : ∃ locs : List Loc, locs = [] := ⟨_, rfl⟩
  have hS : va_S A s.heap H locs := by rw [hH, hlc]; exact hS
  have hP : va_P D classes (wX h0 ad ca hd st sz pt ng dp dn se va of sl wt kp ds cn sk cu) H := by rw [hH]; exact hP
  have hgo : W p l e rm_X_premise s m args below meth c H locs 0 0 Q (F0 m 0 ls []) := ?_
  · rw [hH, hlc] at hgo; exact hgo
  clear hH hlc
  refine lv_iload_n hx hb d_X_premise_0 rfl (lv_at hl 1 rfl) ?_
  refine xc_iS (rest := []) ⟨hx, hb, hml, hown, hts⟩ (c_X_isClaim l x) (cwS 1 hts (gd_s ml_X_54 st_X_isClaim ini_X cd_X_isClaim) rfl rfl rfl (by decide +kernel) ⟨Nat.le_of_ble_eq_true rfl, Nat.le_of_ble_eq_true rfl⟩) hP hS rfl hl.1 rfl (Nat.le_of_ble_eq_true rfl) d_X_premise_1 ⟨Nat.le_of_ble_eq_true rfl, Nat.le_of_ble_eq_true rfl⟩ (fun r1 H locs hp1 hP hS => ?_)
  rcases hp1 with ⟨hc1, rfl⟩ | ⟨hc1, rfl⟩
  · obtain ⟨jx, hjx, rfl⟩ := ch_ic_get hc1 (by decide)
    refine nr_if_ne (tgt := 9) hx hb (by decide) d_X_premise_4 (by decide) (fun c4 => ?_) (fun c4 => ?_)
    · refine lv_aload_n hx hb d_X_premise_9 rfl (lv_at hl 0 rfl) ?_
      refine gtX hx hb hts hown hK hP fl_X_58 rfl (k := 13) (by decide) ⟨rfl, rfl, rfl⟩ rfl d_X_premise_10 ?_
      refine lv_iconst (v := nI 3) hx hb d_X_premise_13 (by decide) ?_
      refine nr_icmp_ne (tgt := 20) hx hb (nr_31 (B := 3) b_ds (by decide)) (by decide) d_X_premise_14 (by decide) (fun c14 => ?_) (fun c14 => ?_)
      · refine lv_aload_n hx hb d_X_premise_20 rfl (lv_at hl 0 rfl) ?_
        refine gtX hx hb hts hown hK hP fl_X_26 rfl (k := 5) (by decide) ⟨rfl, rfl, rfl⟩ rfl d_X_premise_21 ?_
        refine lv_aload_n hx hb d_X_premise_24 rfl (lv_at hl 0 rfl) ?_
        refine gtX hx hb hts hown hK hP fl_X_58 rfl (k := 13) (by decide) ⟨rfl, rfl, rfl⟩ rfl d_X_premise_25 ?_
        refine lv_iload_n hx hb d_X_premise_28 rfl (lv_at hl 1 rfl) ?_
        refine nr_iast hx hb hK hP hD hS 6 5 rfl rfl (by omega) (by decide) d_X_premise_29 (fun H locs hP hD hS => ?_)
        have hP : va_P D classes (wX h0 ad ca hd st sz pt ng (ch_up dp ds jx) dn se va of sl wt kp ds cn sk cu) H := hP
        have hD : va_D A (wX h0 ad ca hd st sz pt ng (ch_up dp ds jx) dn se va of sl wt kp ds cn sk cu) := hD
        refine lv_aload_n hx hb d_X_premise_30 rfl (lv_at hl 0 rfl) ?_
        refine gtX hx hb hts hown hK hP fl_X_29 rfl (k := 6) (by decide) ⟨rfl, rfl, rfl⟩ rfl d_X_premise_31 ?_
        refine lv_aload_n hx hb d_X_premise_34 rfl (lv_at hl 0 rfl) ?_
        refine gtX hx hb hts hown hK hP fl_X_58 rfl (k := 13) (by decide) ⟨rfl, rfl, rfl⟩ rfl d_X_premise_35 ?_
        refine lv_iload_n hx hb d_X_premise_38 rfl (lv_at hl 2 rfl) ?_
        refine lv_if_eq (tgt := 46) hx hb  d_X_premise_39 (by decide) (fun c39 => ?_) (fun c39 => ?_)
        · refine lv_iconst (v := nI 0) hx hb d_X_premise_46 (by decide) ?_
          refine nr_zast hx hb hK hP hD hS 7 6 rfl rfl (by omega) (by decide) (by decide) d_X_premise_47 (fun H locs hP hD hS => ?_)
          have hP : va_P D classes (wX h0 ad ca hd st sz pt ng (ch_up dp ds jx) (ch_up dn ds 0) se va of sl wt kp ds cn sk cu) H := hP
          have hD : va_D A (wX h0 ad ca hd st sz pt ng (ch_up dp ds jx) (ch_up dn ds 0) se va of sl wt kp ds cn sk cu) := hD
          refine lv_aload_n hx hb d_X_premise_48 rfl (lv_at hl 0 rfl) ?_
          refine lv_dup hx hb d_X_premise_49 rfl ?_
          refine gtX hx hb hts hown hK hP fl_X_58 rfl (k := 13) (by decide) ⟨rfl, rfl, rfl⟩ rfl d_X_premise_50 ?_
          refine lv_iconst (v := nI 1) hx hb d_X_premise_53 (by decide) ?_
          refine nr_iadd hx hb d_X_premise_54 ?_
          refine ptX hx hb hts hown hK hP hD hS fl_X_58 rfl (k := 13) (by decide) ⟨rfl, rfl, rfl, rfl⟩ (ty := .int) (by decide +kernel) rfl rfl (Nat.le_of_ble_eq_true rfl) d_X_premise_55 (fun H locs hP hD hS => ?_)
          have hP : va_P D classes (wX h0 ad ca hd st sz pt ng (ch_up dp ds jx) (ch_up dn ds 0) se va of sl wt kp (ds + 1) cn sk cu) H := hP
          have hD : va_D A (wX h0 ad ca hd st sz pt ng (ch_up dp ds jx) (ch_up dn ds 0) se va of sl wt kp (ds + 1) cn sk cu) := hD
          refine lv_aload_n hx hb d_X_premise_58 rfl (lv_at hl 0 rfl) ?_
          refine gtX hx hb hts hown hK hP fl_X_58 rfl (k := 13) (by decide) ⟨rfl, rfl, rfl⟩ rfl d_X_premise_59 ?_
          exact ct_iret (ds + 1, ch_up dp ds jx, ch_up dn ds 0) hQ hx hb hr hlocks hAe hK hP hD hS (sp_suc (by rw [sp_prem, if_pos hc1, if_neg (show ¬ ds = 3 by omega)]) rfl (by rw [ch_tn_nI (by omega), ch_b, if_pos c39])) d_X_premise_62
        · refine lv_iconst (v := nI 1) hx hb d_X_premise_42 (by decide) ?_
          refine lv_goto (tgt := 47) hx hb d_X_premise_43 (by decide) ?_
          refine nr_zast hx hb hK hP hD hS 7 6 rfl rfl (by omega) (by decide) (by decide) d_X_premise_47 (fun H locs hP hD hS => ?_)
          have hP : va_P D classes (wX h0 ad ca hd st sz pt ng (ch_up dp ds jx) (ch_up dn ds 1) se va of sl wt kp ds cn sk cu) H := hP
          have hD : va_D A (wX h0 ad ca hd st sz pt ng (ch_up dp ds jx) (ch_up dn ds 1) se va of sl wt kp ds cn sk cu) := hD
          refine lv_aload_n hx hb d_X_premise_48 rfl (lv_at hl 0 rfl) ?_
          refine lv_dup hx hb d_X_premise_49 rfl ?_
          refine gtX hx hb hts hown hK hP fl_X_58 rfl (k := 13) (by decide) ⟨rfl, rfl, rfl⟩ rfl d_X_premise_50 ?_
          refine lv_iconst (v := nI 1) hx hb d_X_premise_53 (by decide) ?_
          refine nr_iadd hx hb d_X_premise_54 ?_
          refine ptX hx hb hts hown hK hP hD hS fl_X_58 rfl (k := 13) (by decide) ⟨rfl, rfl, rfl, rfl⟩ (ty := .int) (by decide +kernel) rfl rfl (Nat.le_of_ble_eq_true rfl) d_X_premise_55 (fun H locs hP hD hS => ?_)
          have hP : va_P D classes (wX h0 ad ca hd st sz pt ng (ch_up dp ds jx) (ch_up dn ds 1) se va of sl wt kp (ds + 1) cn sk cu) H := hP
          have hD : va_D A (wX h0 ad ca hd st sz pt ng (ch_up dp ds jx) (ch_up dn ds 1) se va of sl wt kp (ds + 1) cn sk cu) := hD
          refine lv_aload_n hx hb d_X_premise_58 rfl (lv_at hl 0 rfl) ?_
          refine gtX hx hb hts hown hK hP fl_X_58 rfl (k := 13) (by decide) ⟨rfl, rfl, rfl⟩ rfl d_X_premise_59 ?_
          exact ct_iret (ds + 1, ch_up dp ds jx, ch_up dn ds 1) hQ hx hb hr hlocks hAe hK hP hD hS (sp_suc (by rw [sp_prem, if_pos hc1, if_neg (show ¬ ds = 3 by omega)]) rfl (by rw [ch_tn_nI (by omega), ch_b, if_neg c39])) d_X_premise_62
      · refine lv_bipush (v := (-2)) hx hb d_X_premise_17 (by decide) ?_
        exact ct_iret (ds, dp, dn) hQ hx hb hr hlocks hAe hK hP hD hS (sp_err (by rw [sp_prem, if_pos hc1, if_pos (show ds = 3 by omega)]) rfl rfl) d_X_premise_19
    · exact absurd c4 (by decide)
  · refine nr_if_ne (tgt := 9) hx hb (by decide) d_X_premise_4 (by decide) (fun c4 => ?_) (fun c4 => ?_)
    · exact absurd c4 (by decide)
    · refine lv_iconst (v := (-1)) hx hb d_X_premise_7 (by decide) ?_
      exact ct_iret (ds, dp, dn) hQ hx hb hr hlocks hAe hK hP hD hS (sp_err (by rw [sp_prem, if_neg (by rw [hc1]; decide)]) rfl rfl) d_X_premise_8

abbrev rm_X_clear : Room := { frames := 0, cells := 0, slots := 0, locals := 0 }
set_option maxHeartbeats 4000000 in
set_option maxRecDepth 100000 in
/-- clear() -/
theorem c_X_clear (l : Launch) (D : va_G) (h0 : Nat) (ad : Nat → Nat) (ca : Nat → ClassId) (hd : Nat → Nat) (st : Nat → Nat) (sz : Nat → Nat) (pt : Nat → Nat) (ng : Nat → Nat) (dp : Nat → Nat) (dn : Nat → Nat) (se : Nat → Nat) (va : Nat → Nat) (of : Nat → Nat) (sl : Nat → Nat) (wt : Nat → Int32) (kp : Nat → Nat) (ds : Nat) (cn : Nat) (sk : Int32) (cu : Nat) (hz : Nat) (B : bX hd st sz pt ng dp dn se va of sl kp ds cn cu)   : Met l y_X_clear w_X_clear rm_X_clear (va_Pc [.ref h0] (Pw D (wX h0 ad ca hd st sz pt ng dp dn se va of sl wt kp ds cn sk cu) (yX ca) hz)) (va_Qi (fun (v : Int32) (u : Unit) => v = nI ds) (fun (u : Unit) => Bw D (wX h0 ad ca hd st sz pt ng dp dn se va of sl wt kp ds cn sk cu) (wX h0 ad ca hd st sz pt ng dp dn se va of sl wt kp 0 cn sk cu) (yX ca) hz) (va_A (wX h0 ad ca hd st sz pt ng dp dn se va of sl wt kp ds cn sk cu) hz)) 0 0 (va_A (wX h0 ad ca hd st sz pt ng dp dn se va of sl wt kp ds cn sk cu) hz) := by
  obtain ⟨b_hd, b_st, b_sz, b_pt, b_ng, b_dp, b_dn, b_se, b_va, b_of, b_sl, b_kp, b_ds, b_cn, b_cu⟩ := B
  refine ct_start (by decide) (Nat.le_of_ble_eq_true rfl) ?_
  intro p e s m args below meth c A Q ls hx hb hr hlocks hml hts hown hnm hA hAe hsz hS hP hD hK hl hQ
  have hown : s.vm.findClass R_X = some m.cls := hown
  have hl : lv_has ls 2 [(0, .ref h0)] := hl
  have hP : va_P D classes (wX h0 ad ca hd st sz pt ng dp dn se va of sl wt kp ds cn sk cu) s.heap := hP
  obtain ⟨H, hH⟩ : ∃ H, H = s.heap := ⟨_, rfl⟩
  obtain ⟨locs, hlc⟩ : ∃ locs : List Loc, locs = [] := ⟨_, rfl⟩
  have hS : va_S A s.heap H locs := by rw [hH, hlc]; exact hS
  have hP : va_P D classes (wX h0 ad ca hd st sz pt ng dp dn se va of sl wt kp ds cn sk cu) H := by rw [hH]; exact hP
  have hgo : W p l e rm_X_clear s m args below meth c H locs 0 0 Q (F0 m 0 ls []) := ?_
  · rw [hH, hlc] at hgo; exact hgo
  clear hH hlc
  refine lv_aload_n hx hb d_X_clear_0 rfl (lv_at hl 0 rfl) ?_
  refine gtX hx hb hts hown hK hP fl_X_58 rfl (k := 13) (by decide) ⟨rfl, rfl, rfl⟩ rfl d_X_clear_1 ?_
  refine lv_istore_n (lv' := [(1, .int (nI ds)), (0, .ref h0)]) hx hb d_X_clear_4 rfl hl (by decide) rfl (fun ls hl => ?_)
  refine lv_aload_n hx hb d_X_clear_5 rfl (lv_at hl 1 rfl) ?_
  refine lv_iconst (v := nI 0) hx hb d_X_clear_6 (by decide) ?_
  refine ptX hx hb hts hown hK hP hD hS fl_X_58 rfl (k := 13) (by decide) ⟨rfl, rfl, rfl, rfl⟩ (ty := .int) (by decide +kernel) rfl rfl (Nat.le_of_ble_eq_true rfl) d_X_clear_7 (fun H locs hP hD hS => ?_)
  have hP : va_P D classes (wX h0 ad ca hd st sz pt ng dp dn se va of sl wt kp 0 cn sk cu) H := hP
  have hD : va_D A (wX h0 ad ca hd st sz pt ng dp dn se va of sl wt kp 0 cn sk cu) := hD
  refine lv_iload_n hx hb d_X_clear_10 rfl (lv_at hl 0 rfl) ?_
  exact ct_iret () hQ hx hb hr hlocks hAe hK hP hD hS rfl d_X_clear_11

abbrev rm_X_rule : Room := { frames := 1, cells := 0, slots := 0, locals := 20 }
set_option maxHeartbeats 4000000 in
set_option maxRecDepth 100000 in
/-- rule(x, y) -/
theorem c_X_rule (l : Launch) (D : va_G) (h0 : Nat) (ad : Nat → Nat) (ca : Nat → ClassId) (hd : Nat → Nat) (st : Nat → Nat) (sz : Nat → Nat) (pt : Nat → Nat) (ng : Nat → Nat) (dp : Nat → Nat) (dn : Nat → Nat) (se : Nat → Nat) (va : Nat → Nat) (of : Nat → Nat) (sl : Nat → Nat) (wt : Nat → Int32) (kp : Nat → Nat) (ds : Nat) (cn : Nat) (sk : Int32) (cu : Nat) (hz : Nat) (B : bX hd st sz pt ng dp dn se va of sl kp ds cn cu) (x : Int32) (y : Int32)  : Met l y_X_rule w_X_rule rm_X_rule (va_Pc [.ref h0, .int x, .int y] (Pw D (wX h0 ad ca hd st sz pt ng dp dn se va of sl wt kp ds cn sk cu) (yX ca) hz)) (va_Qi (fun (v : Int32) (u : (Nat → Nat) × (Nat → Nat) × (Nat → Nat) × (Nat → Nat) × (Nat → Nat) × (Nat) × (Nat) × (Nat)) => v = (sp_rule x y dp dn ds cn).getD (nI cn) ∧ u = (if sp_rule x y dp dn ds cn = none then (ch_up hd cn (ch_tn x), ch_up st cn (ch_tn y), ch_up sz cn ds, ch_cp pt dp (3 * cn) ds, ch_cp ng dn (3 * cn) ds, 0, cn + 1, 0) else (hd, st, sz, pt, ng, ds, cn, cu))) (fun (u : (Nat → Nat) × (Nat → Nat) × (Nat → Nat) × (Nat → Nat) × (Nat → Nat) × (Nat) × (Nat) × (Nat)) => Bw D (wX h0 ad ca hd st sz pt ng dp dn se va of sl wt kp ds cn sk cu) (wX h0 ad ca u.1 u.2.1 u.2.2.1 u.2.2.2.1 u.2.2.2.2.1 dp dn se va of sl wt kp u.2.2.2.2.2.1 u.2.2.2.2.2.2.1 sk u.2.2.2.2.2.2.2) (yX ca) hz) (va_A (wX h0 ad ca hd st sz pt ng dp dn se va of sl wt kp ds cn sk cu) hz)) 0 0 (va_A (wX h0 ad ca hd st sz pt ng dp dn se va of sl wt kp ds cn sk cu) hz) := by
  obtain ⟨b_hd, b_st, b_sz, b_pt, b_ng, b_dp, b_dn, b_se, b_va, b_of, b_sl, b_kp, b_ds, b_cn, b_cu⟩ := B
  refine ct_start (by decide) (Nat.le_of_ble_eq_true rfl) ?_
  intro p e s m args below meth c A Q ls hx hb hr hlocks hml hts hown hnm hA hAe hsz hS hP hD hK hl hQ
  have hown : s.vm.findClass R_X = some m.cls := hown
  have hl : lv_has ls 5 [(0, .ref h0), (1, .int x), (2, .int y)] := hl
  have hP : va_P D classes (wX h0 ad ca hd st sz pt ng dp dn se va of sl wt kp ds cn sk cu) s.heap := hP
  obtain ⟨H, hH⟩ : ∃ H, H = s.heap := ⟨_, rfl⟩
  obtain ⟨locs, hlc⟩ : ∃ locs : List Loc, locs = [] := ⟨_, rfl⟩
  have hS : va_S A s.heap H locs := by rw [hH, hlc]; exact hS
  have hP : va_P D classes (wX h0 ad ca hd st sz pt ng dp dn se va of sl wt kp ds cn sk cu) H := by rw [hH]; exact hP
  have hgo : W p l e rm_X_rule s m args below meth c H locs 0 0 Q (F0 m 0 ls []) := ?_
  · rw [hH, hlc] at hgo; exact hgo
  clear hH hlc
  refine lv_iload_n hx hb d_X_rule_0 rfl (lv_at hl 1 rfl) ?_
  refine xc_iS (rest := []) ⟨hx, hb, hml, hown, hts⟩ (c_X_isClaim l x) (cwS 1 hts (gd_s ml_X_54 st_X_isClaim ini_X cd_X_isClaim) rfl rfl rfl (by decide +kernel) ⟨Nat.le_of_ble_eq_true rfl, Nat.le_of_ble_eq_true rfl⟩) hP hS rfl hl.1 rfl (Nat.le_of_ble_eq_true rfl) d_X_rule_1 ⟨Nat.le_of_ble_eq_true rfl, Nat.le_of_ble_eq_true rfl⟩ (fun r1 H locs hp1 hP hS => ?_)
  rcases hp1 with ⟨hc1, rfl⟩ | ⟨hc1, rfl⟩
  · obtain ⟨jx, hjx, rfl⟩ := ch_ic_get hc1 (by decide)
    refine nr_if_ne (tgt := 9) hx hb (by decide) d_X_rule_4 (by decide) (fun c4 => ?_) (fun c4 => ?_)
    · refine lv_iload_n hx hb d_X_rule_9 rfl (lv_at hl 2 rfl) ?_
      refine lv_iconst (v := nI 1) hx hb d_X_rule_10 (by decide) ?_
      refine lv_icmp_lt (tgt := 20) hx hb  d_X_rule_11 (by decide) (fun c11 => ?_) (fun c11 => ?_)
      · refine lv_bipush (v := (-2)) hx hb d_X_rule_20 (by decide) ?_
        exact ct_iret (hd, st, sz, pt, ng, ds, cn, cu) hQ hx hb hr hlocks hAe hK hP hD hS (sp_err (by rw [sp_rule, if_pos hc1, if_pos (Or.inl c11)]) rfl rfl) d_X_rule_22
      · refine lv_iload_n hx hb d_X_rule_14 rfl (lv_at hl 2 rfl) ?_
        refine lv_bipush (v := nI 100) hx hb d_X_rule_15 (by decide) ?_
        refine lv_icmp_le (tgt := 23) hx hb  d_X_rule_17 (by decide) (fun c17 => ?_) (fun c17 => ?_)
        · obtain ⟨sy, hsy, rfl⟩ := nr_rng1 c11 c17
          refine lv_iconst (v := nI 0) hx hb d_X_rule_23 (by decide) ?_
          refine lv_istore_n (lv' := [(3, .int (nI 0)), (0, .ref h0), (1, .int (nI jx)), (2, .int (nI sy))]) hx hb d_X_rule_24 rfl hl (by decide) rfl (fun ls hl => ?_)
          have lp25 : ∀ (n : Nat) (k : Nat) (H : Heap) (locs : List Loc) (ls : Array Slot), ds + 1 ≤ k + n → (k ≤ ds) → (sp_hi jx dp dn k = false) → va_P D classes (wX h0 ad ca hd st sz pt ng dp dn se va of sl wt kp ds cn sk cu) H → va_D A (wX h0 ad ca hd st sz pt ng dp dn se va of sl wt kp ds cn sk cu) → va_S A s.heap H locs → lv_has ls 5 [(0, .ref h0), (1, .int (nI jx)), (2, .int (nI sy)), (3, .int (nI k))] → W p l e rm_X_rule s m args below meth c H locs 0 0 Q (F0 m 25 ls []) := by
            intro n
            induction n with
            | zero =>
              intro k H locs ls hn25 hk hh
              exact absurd hn25 (by omega)
            | succ n ih25 =>
              intro k H locs ls hn25 hk hh hP hD hS hl
              refine lv_iload_n hx hb d_X_rule_25 rfl (lv_at hl 3 rfl) ?_
              refine lv_aload_n hx hb d_X_rule_26 rfl (lv_at hl 0 rfl) ?_
              refine gtX hx hb hts hown hK hP fl_X_58 rfl (k := 13) (by decide) ⟨rfl, rfl, rfl⟩ rfl d_X_rule_27 ?_
              refine nr_icmp_ge (tgt := 77) hx hb (nr_31 (B := 3) (Nat.le_trans hk b_ds) (by decide)) (nr_31 (B := 3) b_ds (by decide)) d_X_rule_30 (by decide) (fun c30 => ?_) (fun c30 => ?_)
              · have hh2 : sp_hi jx dp dn ds = false := (show k = ds by omega) ▸ hh
                refine lv_aload_n hx hb d_X_rule_77 rfl (lv_at hl 0 rfl) ?_
                refine gtX hx hb hts hown hK hP fl_X_61 rfl (k := 14) (by decide) ⟨rfl, rfl, rfl⟩ rfl d_X_rule_78 ?_
                refine lv_bipush (v := nI 20) hx hb d_X_rule_81 (by decide) ?_
                refine nr_icmp_ne (tgt := 89) hx hb (nr_31 (B := 20) b_cn (by decide)) (by decide) d_X_rule_83 (by decide) (fun c83 => ?_) (fun c83 => ?_)
                · refine lv_aload_n hx hb d_X_rule_89 rfl (lv_at hl 0 rfl) ?_
                  refine gtX hx hb hts hown hK hP fl_X_7 rfl (k := 0) (by decide) ⟨rfl, rfl, rfl⟩ rfl d_X_rule_90 ?_
                  refine lv_aload_n hx hb d_X_rule_93 rfl (lv_at hl 0 rfl) ?_
                  refine gtX hx hb hts hown hK hP fl_X_61 rfl (k := 14) (by decide) ⟨rfl, rfl, rfl⟩ rfl d_X_rule_94 ?_
                  refine lv_iload_n hx hb d_X_rule_97 rfl (lv_at hl 1 rfl) ?_
                  refine nr_iast hx hb hK hP hD hS 1 0 rfl rfl (by omega) (by decide) d_X_rule_98 (fun H locs hP hD hS => ?_)
                  have hP : va_P D classes (wX h0 ad ca (ch_up hd cn jx) st sz pt ng dp dn se va of sl wt kp ds cn sk cu) H := hP
                  have hD : va_D A (wX h0 ad ca (ch_up hd cn jx) st sz pt ng dp dn se va of sl wt kp ds cn sk cu) := hD
                  refine lv_aload_n hx hb d_X_rule_99 rfl (lv_at hl 0 rfl) ?_
                  refine gtX hx hb hts hown hK hP fl_X_13 rfl (k := 1) (by decide) ⟨rfl, rfl, rfl⟩ rfl d_X_rule_100 ?_
                  refine lv_aload_n hx hb d_X_rule_103 rfl (lv_at hl 0 rfl) ?_
                  refine gtX hx hb hts hown hK hP fl_X_61 rfl (k := 14) (by decide) ⟨rfl, rfl, rfl⟩ rfl d_X_rule_104 ?_
                  refine lv_iload_n hx hb d_X_rule_107 rfl (lv_at hl 2 rfl) ?_
                  refine nr_iast hx hb hK hP hD hS 2 1 rfl rfl (by omega) (by decide) d_X_rule_108 (fun H locs hP hD hS => ?_)
                  have hP : va_P D classes (wX h0 ad ca (ch_up hd cn jx) (ch_up st cn sy) sz pt ng dp dn se va of sl wt kp ds cn sk cu) H := hP
                  have hD : va_D A (wX h0 ad ca (ch_up hd cn jx) (ch_up st cn sy) sz pt ng dp dn se va of sl wt kp ds cn sk cu) := hD
                  refine lv_aload_n hx hb d_X_rule_109 rfl (lv_at hl 0 rfl) ?_
                  refine gtX hx hb hts hown hK hP fl_X_16 rfl (k := 2) (by decide) ⟨rfl, rfl, rfl⟩ rfl d_X_rule_110 ?_
                  refine lv_aload_n hx hb d_X_rule_113 rfl (lv_at hl 0 rfl) ?_
                  refine gtX hx hb hts hown hK hP fl_X_61 rfl (k := 14) (by decide) ⟨rfl, rfl, rfl⟩ rfl d_X_rule_114 ?_
                  refine lv_aload_n hx hb d_X_rule_117 rfl (lv_at hl 0 rfl) ?_
                  refine gtX hx hb hts hown hK hP fl_X_58 rfl (k := 13) (by decide) ⟨rfl, rfl, rfl⟩ rfl d_X_rule_118 ?_
                  refine nr_iast hx hb hK hP hD hS 3 2 rfl rfl (by omega) (by decide) d_X_rule_121 (fun H locs hP hD hS => ?_)
                  have hP : va_P D classes (wX h0 ad ca (ch_up hd cn jx) (ch_up st cn sy) (ch_up sz cn ds) pt ng dp dn se va of sl wt kp ds cn sk cu) H := hP
                  have hD : va_D A (wX h0 ad ca (ch_up hd cn jx) (ch_up st cn sy) (ch_up sz cn ds) pt ng dp dn se va of sl wt kp ds cn sk cu) := hD
                  refine lv_iconst (v := nI 0) hx hb d_X_rule_122 (by decide) ?_
                  refine lv_istore_n (lv' := [(3, .int (nI 0)), (0, .ref h0), (1, .int (nI jx)), (2, .int (nI sy))]) hx hb d_X_rule_123 rfl hl (by decide) rfl (fun ls hl => ?_)
                  have lp124 : ∀ (n : Nat) (k2 : Nat) (p1 : Nat → Nat) (n1 : Nat → Nat) (H : Heap) (locs : List Loc) (ls : Array Slot), ds + 1 ≤ k2 + n → (k2 ≤ ds) → (ch_bd 15 p1) → (ch_bd 1 n1) → (p1 = ch_cp pt dp (3 * cn) k2) → (n1 = ch_cp ng dn (3 * cn) k2) → va_P D classes (wX h0 ad ca (ch_up hd cn jx) (ch_up st cn sy) (ch_up sz cn ds) p1 n1 dp dn se va of sl wt kp ds cn sk cu) H → va_D A (wX h0 ad ca (ch_up hd cn jx) (ch_up st cn sy) (ch_up sz cn ds) p1 n1 dp dn se va of sl wt kp ds cn sk cu) → va_S A s.heap H locs → lv_has ls 5 [(0, .ref h0), (1, .int (nI jx)), (2, .int (nI sy)), (3, .int (nI k2))] → W p l e rm_X_rule s m args below meth c H locs 0 0 Q (F0 m 124 ls []) := by
                    intro n
                    induction n with
                    | zero =>
                      intro k2 p1 n1 H locs ls hn124 hk2 bp1 bn1 hp1 hn1
                      exact absurd hn124 (by omega)
                    | succ n ih124 =>
                      intro k2 p1 n1 H locs ls hn124 hk2 bp1 bn1 hp1 hn1 hP hD hS hl
                      refine lv_iload_n hx hb d_X_rule_124 rfl (lv_at hl 3 rfl) ?_
                      refine lv_aload_n hx hb d_X_rule_125 rfl (lv_at hl 0 rfl) ?_
                      refine gtX hx hb hts hown hK hP fl_X_58 rfl (k := 13) (by decide) ⟨rfl, rfl, rfl⟩ rfl d_X_rule_126 ?_
                      refine nr_icmp_ge (tgt := 176) hx hb (nr_31 (B := 3) (Nat.le_trans hk2 b_ds) (by decide)) (nr_31 (B := 3) b_ds (by decide)) d_X_rule_129 (by decide) (fun c129 => ?_) (fun c129 => ?_)
                      · refine lv_aload_n hx hb d_X_rule_176 rfl (lv_at hl 0 rfl) ?_
                        refine lv_iconst (v := nI 0) hx hb d_X_rule_177 (by decide) ?_
                        refine ptX hx hb hts hown hK hP hD hS fl_X_58 rfl (k := 13) (by decide) ⟨rfl, rfl, rfl, rfl⟩ (ty := .int) (by decide +kernel) rfl rfl (Nat.le_of_ble_eq_true rfl) d_X_rule_178 (fun H locs hP hD hS => ?_)
                        have hP : va_P D classes (wX h0 ad ca (ch_up hd cn jx) (ch_up st cn sy) (ch_up sz cn ds) p1 n1 dp dn se va of sl wt kp 0 cn sk cu) H := hP
                        have hD : va_D A (wX h0 ad ca (ch_up hd cn jx) (ch_up st cn sy) (ch_up sz cn ds) p1 n1 dp dn se va of sl wt kp 0 cn sk cu) := hD
                        refine lv_aload_n hx hb d_X_rule_181 rfl (lv_at hl 0 rfl) ?_
                        refine lv_dup hx hb d_X_rule_182 rfl ?_
                        refine gtX hx hb hts hown hK hP fl_X_61 rfl (k := 14) (by decide) ⟨rfl, rfl, rfl⟩ rfl d_X_rule_183 ?_
                        refine lv_iconst (v := nI 1) hx hb d_X_rule_186 (by decide) ?_
                        refine nr_iadd hx hb d_X_rule_187 ?_
                        refine ptX hx hb hts hown hK hP hD hS fl_X_61 rfl (k := 14) (by decide) ⟨rfl, rfl, rfl, rfl⟩ (ty := .int) (by decide +kernel) rfl rfl (Nat.le_of_ble_eq_true rfl) d_X_rule_188 (fun H locs hP hD hS => ?_)
                        have hP : va_P D classes (wX h0 ad ca (ch_up hd cn jx) (ch_up st cn sy) (ch_up sz cn ds) p1 n1 dp dn se va of sl wt kp 0 (cn + 1) sk cu) H := hP
                        have hD : va_D A (wX h0 ad ca (ch_up hd cn jx) (ch_up st cn sy) (ch_up sz cn ds) p1 n1 dp dn se va of sl wt kp 0 (cn + 1) sk cu) := hD
                        refine lv_aload_n hx hb d_X_rule_191 rfl (lv_at hl 0 rfl) ?_
                        refine lv_iconst (v := nI 0) hx hb d_X_rule_192 (by decide) ?_
                        refine ptX hx hb hts hown hK hP hD hS fl_X_64 rfl (k := 16) (by decide) ⟨rfl, rfl, rfl, rfl⟩ (ty := .boolean) (by decide +kernel) (by decide) (by decide) (Nat.le_of_ble_eq_true rfl) d_X_rule_193 (fun H locs hP hD hS => ?_)
                        have hP : va_P D classes (wX h0 ad ca (ch_up hd cn jx) (ch_up st cn sy) (ch_up sz cn ds) p1 n1 dp dn se va of sl wt kp 0 (cn + 1) sk 0) H := hP
                        have hD : va_D A (wX h0 ad ca (ch_up hd cn jx) (ch_up st cn sy) (ch_up sz cn ds) p1 n1 dp dn se va of sl wt kp 0 (cn + 1) sk 0) := hD
                        refine lv_aload_n hx hb d_X_rule_196 rfl (lv_at hl 0 rfl) ?_
                        refine gtX hx hb hts hown hK hP fl_X_61 rfl (k := 14) (by decide) ⟨rfl, rfl, rfl⟩ rfl d_X_rule_197 ?_
                        refine lv_iconst (v := nI 1) hx hb d_X_rule_200 (by decide) ?_
                        refine nr_isub hx hb (by omega) d_X_rule_201 ?_
                        exact ct_iret (ch_up hd cn jx, ch_up st cn sy, ch_up sz cn ds, p1, n1, 0, cn + 1, 0) hQ hx hb hr hlocks hAe hK hP hD hS (sp_suc (by rw [sp_rule, if_pos hc1, if_neg (fun z9 => z9.elim c11 (fun y9 => y9 c17)), if_neg (by rw [ch_tn_nI (by omega), hh2]; decide), if_neg (show ¬ cn = 20 by omega)]) rfl (by rw [ch_tn_nI (by omega), ch_tn_nI (by omega), hp1, hn1, show k2 = ds by omega])) d_X_rule_202
                      · refine lv_aload_n hx hb d_X_rule_132 rfl (lv_at hl 0 rfl) ?_
                        refine gtX hx hb hts hown hK hP fl_X_19 rfl (k := 3) (by decide) ⟨rfl, rfl, rfl⟩ rfl d_X_rule_133 ?_
                        refine lv_iconst (v := nI 3) hx hb d_X_rule_136 (by decide) ?_
                        refine lv_aload_n hx hb d_X_rule_137 rfl (lv_at hl 0 rfl) ?_
                        refine gtX hx hb hts hown hK hP fl_X_61 rfl (k := 14) (by decide) ⟨rfl, rfl, rfl⟩ rfl d_X_rule_138 ?_
                        refine nr_imul hx hb d_X_rule_141 ?_
                        refine lv_iload_n hx hb d_X_rule_142 rfl (lv_at hl 3 rfl) ?_
                        refine nr_iadd hx hb d_X_rule_143 ?_
                        refine lv_aload_n hx hb d_X_rule_144 rfl (lv_at hl 0 rfl) ?_
                        refine gtX hx hb hts hown hK hP fl_X_26 rfl (k := 5) (by decide) ⟨rfl, rfl, rfl⟩ rfl d_X_rule_145 ?_
                        refine lv_iload_n hx hb d_X_rule_148 rfl (lv_at hl 3 rfl) ?_
                        refine nr_iald hx hb hK hP 6 5 rfl rfl (by omega) (by decide) d_X_rule_149 ?_
                        refine nr_iast hx hb hK hP hD hS 4 3 rfl rfl (by omega) (by decide) d_X_rule_150 (fun H locs hP hD hS => ?_)
                        have hP : va_P D classes (wX h0 ad ca (ch_up hd cn jx) (ch_up st cn sy) (ch_up sz cn ds) (ch_up p1 ((3 * cn) + k2) (dp k2)) n1 dp dn se va of sl wt kp ds cn sk cu) H := hP
                        have hD : va_D A (wX h0 ad ca (ch_up hd cn jx) (ch_up st cn sy) (ch_up sz cn ds) (ch_up p1 ((3 * cn) + k2) (dp k2)) n1 dp dn se va of sl wt kp ds cn sk cu) := hD
                        refine lv_aload_n hx hb d_X_rule_151 rfl (lv_at hl 0 rfl) ?_
                        refine gtX hx hb hts hown hK hP fl_X_22 rfl (k := 4) (by decide) ⟨rfl, rfl, rfl⟩ rfl d_X_rule_152 ?_
                        refine lv_iconst (v := nI 3) hx hb d_X_rule_155 (by decide) ?_
                        refine lv_aload_n hx hb d_X_rule_156 rfl (lv_at hl 0 rfl) ?_
                        refine gtX hx hb hts hown hK hP fl_X_61 rfl (k := 14) (by decide) ⟨rfl, rfl, rfl⟩ rfl d_X_rule_157 ?_
                        refine nr_imul hx hb d_X_rule_160 ?_
                        refine lv_iload_n hx hb d_X_rule_161 rfl (lv_at hl 3 rfl) ?_
                        refine nr_iadd hx hb d_X_rule_162 ?_
                        refine lv_aload_n hx hb d_X_rule_163 rfl (lv_at hl 0 rfl) ?_
                        refine gtX hx hb hts hown hK hP fl_X_29 rfl (k := 6) (by decide) ⟨rfl, rfl, rfl⟩ rfl d_X_rule_164 ?_
                        refine lv_iload_n hx hb d_X_rule_167 rfl (lv_at hl 3 rfl) ?_
                        refine nr_zald hx hb hK hP 7 6 rfl rfl (by omega) (by decide) d_X_rule_168 ?_
                        refine nr_zast hx hb hK hP hD hS 5 4 rfl rfl (by omega) (by decide) (b_dn _) d_X_rule_169 (fun H locs hP hD hS => ?_)
                        have hP : va_P D classes (wX h0 ad ca (ch_up hd cn jx) (ch_up st cn sy) (ch_up sz cn ds) (ch_up p1 ((3 * cn) + k2) (dp k2)) (ch_up n1 ((3 * cn) + k2) (dn k2)) dp dn se va of sl wt kp ds cn sk cu) H := hP
                        have hD : va_D A (wX h0 ad ca (ch_up hd cn jx) (ch_up st cn sy) (ch_up sz cn ds) (ch_up p1 ((3 * cn) + k2) (dp k2)) (ch_up n1 ((3 * cn) + k2) (dn k2)) dp dn se va of sl wt kp ds cn sk cu) := hD
                        refine lv_iinc (v := nI (k2 + 1)) (lv' := [(3, .int (nI (k2 + 1))), (0, .ref h0), (1, .int (nI jx)), (2, .int (nI sy))]) hx hb d_X_rule_170 hl (k := 3) rfl (nI_1 _) (by decide) rfl (fun ls hl => ?_)
                        refine lv_goto (tgt := 124) hx hb d_X_rule_173 (by decide) ?_
                        exact ih124 (k2 + 1) (ch_up p1 ((3 * cn) + k2) (dp k2)) (ch_up n1 ((3 * cn) + k2) (dn k2)) _ _ _ (by omega) (by omega) (ch_bd_up bp1 (b_dp _)) (ch_bd_up bn1 (b_dn _)) (by rw [hp1, ch_cp_s]) (by rw [hn1, ch_cp_s]) hP hD hS (lv_sub hl [1, 2, 3, 0] rfl)
                  exact lp124 (ds + 1) 0 pt ng _ _ _ (by omega) (Nat.zero_le _) b_pt b_ng ((ch_cp_0 _ _ _).symm) ((ch_cp_0 _ _ _).symm) hP hD hS (lv_sub hl [1, 2, 3, 0] rfl)
                · refine lv_bipush (v := (-4)) hx hb d_X_rule_86 (by decide) ?_
                  exact ct_iret (hd, st, sz, pt, ng, ds, cn, cu) hQ hx hb hr hlocks hAe hK hP hD hS (sp_err (by rw [sp_rule, if_pos hc1, if_neg (fun z9 => z9.elim c11 (fun y9 => y9 c17)), if_neg (by rw [ch_tn_nI (by omega), hh2]; decide), if_pos (show cn = 20 by omega)]) rfl rfl) d_X_rule_88
              · refine lv_aload_n hx hb d_X_rule_33 rfl (lv_at hl 0 rfl) ?_
                refine gtX hx hb hts hown hK hP fl_X_29 rfl (k := 6) (by decide) ⟨rfl, rfl, rfl⟩ rfl d_X_rule_34 ?_
                refine lv_iload_n hx hb d_X_rule_37 rfl (lv_at hl 3 rfl) ?_
                refine nr_zald hx hb hK hP 7 6 rfl rfl (by omega) (by decide) d_X_rule_38 ?_
                refine nr_if_eq (tgt := 50) hx hb (nr_31 (B := 1) (b_dn _) (by decide)) d_X_rule_39 (by decide) (fun c39 => ?_) (fun c39 => ?_)
                · refine lv_iload_n hx hb d_X_rule_50 rfl (lv_at hl 1 rfl) ?_
                  refine lv_iconst (v := nI 2) hx hb d_X_rule_51 (by decide) ?_
                  refine nr_ishr2 hx hb (nr_31 (B := 15) (Nat.le_of_lt_succ hjx) (by decide)) d_X_rule_52 ?_
                  refine lv_istore (lv' := [(4, .int (nI (jx / 4))), (0, .ref h0), (1, .int (nI jx)), (2, .int (nI sy)), (3, .int (nI k))]) hx hb d_X_rule_53 hl (by decide) rfl (fun ls hl => ?_)
                  refine lv_aload_n hx hb d_X_rule_55 rfl (lv_at hl 1 rfl) ?_
                  refine gtX hx hb hts hown hK hP fl_X_26 rfl (k := 5) (by decide) ⟨rfl, rfl, rfl⟩ rfl d_X_rule_56 ?_
                  refine lv_iload_n hx hb d_X_rule_59 rfl (lv_at hl 4 rfl) ?_
                  refine nr_iald hx hb hK hP 6 5 rfl rfl (by omega) (by decide) d_X_rule_60 ?_
                  refine lv_iconst (v := nI 2) hx hb d_X_rule_61 (by decide) ?_
                  refine nr_ishr2 hx hb (nr_31 (B := 15) (b_dp _) (by decide)) d_X_rule_62 ?_
                  refine lv_iload hx hb d_X_rule_63 (lv_at hl 0 rfl) ?_
                  refine nr_icmp_le (tgt := 71) hx hb (nr_31 (B := 15) (Nat.le_trans (Nat.div_le_self _ _) (b_dp _)) (by decide)) (nr_31 (B := 15) (Nat.le_trans (Nat.div_le_self _ _) (Nat.le_of_lt_succ hjx)) (by decide)) d_X_rule_65 (by decide) (fun c65 => ?_) (fun c65 => ?_)
                  · refine lv_iinc (v := nI (k + 1)) (lv' := [(3, .int (nI (k + 1))), (4, .int (nI (jx / 4))), (0, .ref h0), (1, .int (nI jx)), (2, .int (nI sy))]) hx hb d_X_rule_71 hl (k := 4) rfl (nI_1 _) (by decide) rfl (fun ls hl => ?_)
                    refine lv_goto (tgt := 25) hx hb d_X_rule_74 (by decide) ?_
                    exact ih25 (k + 1) _ _ _ (by omega) (by omega) (sp_hi_f hh (by omega)) hP hD hS (lv_sub hl [2, 3, 4, 0] rfl)
                  · refine lv_bipush (v := (-3)) hx hb d_X_rule_68 (by decide) ?_
                    exact ct_iret (hd, st, sz, pt, ng, ds, cn, cu) hQ hx hb hr hlocks hAe hK hP hD hS (sp_err (by rw [sp_rule, if_pos hc1, if_neg (fun z9 => z9.elim c11 (fun y9 => y9 c17)), if_pos (by rw [ch_tn_nI (by omega)]; exact sp_hi_t (k := k) (by omega) ds (by omega))]) rfl rfl) d_X_rule_70
                · refine lv_iload_n hx hb d_X_rule_42 rfl (lv_at hl 1 rfl) ?_
                  refine lv_iconst (v := nI 2) hx hb d_X_rule_43 (by decide) ?_
                  refine nr_ishr2 hx hb (nr_31 (B := 15) (Nat.le_of_lt_succ hjx) (by decide)) d_X_rule_44 ?_
                  refine lv_iconst (v := nI 1) hx hb d_X_rule_45 (by decide) ?_
                  refine lv_isub hx hb d_X_rule_46 ?_
                  refine lv_goto (tgt := 53) hx hb d_X_rule_47 (by decide) ?_
                  refine lv_istore (lv' := [(4, .int ((nI (jx / 4)) - (nI 1))), (0, .ref h0), (1, .int (nI jx)), (2, .int (nI sy)), (3, .int (nI k))]) hx hb d_X_rule_53 hl (by decide) rfl (fun ls hl => ?_)
                  refine lv_aload_n hx hb d_X_rule_55 rfl (lv_at hl 1 rfl) ?_
                  refine gtX hx hb hts hown hK hP fl_X_26 rfl (k := 5) (by decide) ⟨rfl, rfl, rfl⟩ rfl d_X_rule_56 ?_
                  refine lv_iload_n hx hb d_X_rule_59 rfl (lv_at hl 4 rfl) ?_
                  refine nr_iald hx hb hK hP 6 5 rfl rfl (by omega) (by decide) d_X_rule_60 ?_
                  refine lv_iconst (v := nI 2) hx hb d_X_rule_61 (by decide) ?_
                  refine nr_ishr2 hx hb (nr_31 (B := 15) (b_dp _) (by decide)) d_X_rule_62 ?_
                  refine lv_iload hx hb d_X_rule_63 (lv_at hl 0 rfl) ?_
                  refine lv_icmp_le (tgt := 71) hx hb  d_X_rule_65 (by decide) (fun c65 => ?_) (fun c65 => ?_)
                  · have z9 := b_dp k
                    rw [nr_lem1 (by omega) (by omega)] at c65
                    refine lv_iinc (v := nI (k + 1)) (lv' := [(3, .int (nI (k + 1))), (4, .int ((nI (jx / 4)) - (nI 1))), (0, .ref h0), (1, .int (nI jx)), (2, .int (nI sy))]) hx hb d_X_rule_71 hl (k := 4) rfl (nI_1 _) (by decide) rfl (fun ls hl => ?_)
                    refine lv_goto (tgt := 25) hx hb d_X_rule_74 (by decide) ?_
                    exact ih25 (k + 1) _ _ _ (by omega) (by omega) (sp_hi_f hh (by omega)) hP hD hS (lv_sub hl [2, 3, 4, 0] rfl)
                  · have z9 := b_dp k
                    rw [nr_lem1 (by omega) (by omega)] at c65
                    refine lv_bipush (v := (-3)) hx hb d_X_rule_68 (by decide) ?_
                    exact ct_iret (hd, st, sz, pt, ng, ds, cn, cu) hQ hx hb hr hlocks hAe hK hP hD hS (sp_err (by rw [sp_rule, if_pos hc1, if_neg (fun z9 => z9.elim c11 (fun y9 => y9 c17)), if_pos (by rw [ch_tn_nI (by omega)]; exact sp_hi_t (k := k) (by omega) ds (by omega))]) rfl rfl) d_X_rule_70
          exact lp25 (ds + 1) 0 _ _ _ (by omega) (Nat.zero_le _) rfl hP hD hS (lv_sub hl [1, 2, 3, 0] rfl)
        · refine lv_bipush (v := (-2)) hx hb d_X_rule_20 (by decide) ?_
          exact ct_iret (hd, st, sz, pt, ng, ds, cn, cu) hQ hx hb hr hlocks hAe hK hP hD hS (sp_err (by rw [sp_rule, if_pos hc1, if_pos (Or.inr c17)]) rfl rfl) d_X_rule_22
    · exact absurd c4 (by decide)
  · refine nr_if_ne (tgt := 9) hx hb (by decide) d_X_rule_4 (by decide) (fun c4 => ?_) (fun c4 => ?_)
    · exact absurd c4 (by decide)
    · refine lv_iconst (v := (-1)) hx hb d_X_rule_7 (by decide) ?_
      exact ct_iret (hd, st, sz, pt, ng, ds, cn, cu) hQ hx hb hr hlocks hAe hK hP hD hS (sp_err (by rw [sp_rule, if_neg (by rw [hc1]; decide)]) rfl rfl) d_X_rule_8

abbrev rm_X_remove : Room := { frames := 1, cells := 0, slots := 0, locals := 21 }
set_option maxHeartbeats 4000000 in
set_option maxRecDepth 100000 in
/-- remove(x) -/
theorem c_X_remove (l : Launch) (D : va_G) (h0 : Nat) (ad : Nat → Nat) (ca : Nat → ClassId) (hd : Nat → Nat) (st : Nat → Nat) (sz : Nat → Nat) (pt : Nat → Nat) (ng : Nat → Nat) (dp : Nat → Nat) (dn : Nat → Nat) (se : Nat → Nat) (va : Nat → Nat) (of : Nat → Nat) (sl : Nat → Nat) (wt : Nat → Int32) (kp : Nat → Nat) (ds : Nat) (cn : Nat) (sk : Int32) (cu : Nat) (hz : Nat) (B : bX hd st sz pt ng dp dn se va of sl kp ds cn cu) (x : Int32)  : Met l y_X_remove w_X_remove rm_X_remove (va_Pc [.ref h0, .int x] (Pw D (wX h0 ad ca hd st sz pt ng dp dn se va of sl wt kp ds cn sk cu) (yX ca) hz)) (va_Qi (fun (v : Int32) (u : (Nat → Nat) × (Nat → Nat) × (Nat → Nat) × (Nat → Nat) × (Nat → Nat) × (Nat) × (Nat)) => v = (sp_rem x cn).getD (nI (cn - 1)) ∧ u = (if sp_rem x cn = none then (ch_sh hd (ch_tn x) (cn - 1) 1, ch_sh st (ch_tn x) (cn - 1) 1, ch_sh sz (ch_tn x) (cn - 1) 1, ch_sh pt (3 * ch_tn x) (3 * (cn - 1)) 3, ch_sh ng (3 * ch_tn x) (3 * (cn - 1)) 3, cn - 1, 0) else (hd, st, sz, pt, ng, cn, cu))) (fun (u : (Nat → Nat) × (Nat → Nat) × (Nat → Nat) × (Nat → Nat) × (Nat → Nat) × (Nat) × (Nat)) => Bw D (wX h0 ad ca hd st sz pt ng dp dn se va of sl wt kp ds cn sk cu) (wX h0 ad ca u.1 u.2.1 u.2.2.1 u.2.2.2.1 u.2.2.2.2.1 dp dn se va of sl wt kp ds u.2.2.2.2.2.1 sk u.2.2.2.2.2.2) (yX ca) hz) (va_A (wX h0 ad ca hd st sz pt ng dp dn se va of sl wt kp ds cn sk cu) hz)) 0 0 (va_A (wX h0 ad ca hd st sz pt ng dp dn se va of sl wt kp ds cn sk cu) hz) := by
  obtain ⟨b_hd, b_st, b_sz, b_pt, b_ng, b_dp, b_dn, b_se, b_va, b_of, b_sl, b_kp, b_ds, b_cn, b_cu⟩ := B
  refine ct_start (by decide) (Nat.le_of_ble_eq_true rfl) ?_
  intro p e s m args below meth c A Q ls hx hb hr hlocks hml hts hown hnm hA hAe hsz hS hP hD hK hl hQ
  have hown : s.vm.findClass R_X = some m.cls := hown
  have hl : lv_has ls 4 [(0, .ref h0), (1, .int x)] := hl
  have hP : va_P D classes (wX h0 ad ca hd st sz pt ng dp dn se va of sl wt kp ds cn sk cu) s.heap := hP
  obtain ⟨H, hH⟩ : ∃ H, H = s.heap := ⟨_, rfl⟩
  obtain ⟨locs, hlc⟩ : ∃ locs : List Loc, locs = [] := ⟨_, rfl⟩
  have hS : va_S A s.heap H locs := by rw [hH, hlc]; exact hS
  have hP : va_P D classes (wX h0 ad ca hd st sz pt ng dp dn se va of sl wt kp ds cn sk cu) H := by rw [hH]; exact hP
  have hgo : W p l e rm_X_remove s m args below meth c H locs 0 0 Q (F0 m 0 ls []) := ?_
  · rw [hH, hlc] at hgo; exact hgo
  clear hH hlc
  refine lv_aload_n hx hb d_X_remove_0 rfl (lv_at hl 0 rfl) ?_
  refine lv_iload_n hx hb d_X_remove_1 rfl (lv_at hl 1 rfl) ?_
  refine xc_iV (C := R_X) (rest := []) ⟨hx, hb, hml, hown, hts⟩ (c_X_isRule l D h0 ad ca hd st sz pt ng dp dn se va of sl wt kp ds cn sk cu H.size ⟨b_hd, b_st, b_sz, b_pt, b_ng, b_dp, b_dn, b_se, b_va, b_of, b_sl, b_kp, b_ds, b_cn, b_cu⟩ x) (cwV 1 hts (gd_v ml_X_68 im_X_isRule se_X_isRule ini_X cd_X_isRule) rfl rfl rfl (by decide +kernel) ⟨Nat.le_of_ble_eq_true rfl, Nat.le_of_ble_eq_true rfl⟩) (va_recv hK hP (ci := 0) (q0 := 0) rfl rfl) hK hP hD hS hA rfl hl.1 rfl (Nat.le_of_ble_eq_true rfl) d_X_remove_2 ⟨Nat.le_of_ble_eq_true rfl, Nat.le_of_ble_eq_true rfl⟩ (fun r2 u2 H locs hp2 hP hD hS => ?_)
  have hP : va_P D classes (wX h0 ad ca hd st sz pt ng dp dn se va of sl wt kp ds cn sk cu) H := hP
  have hD : va_D A (wX h0 ad ca hd st sz pt ng dp dn se va of sl wt kp ds cn sk cu) := hD
  rcases hp2 with ⟨hc2, rfl⟩ | ⟨hc2, rfl⟩
  · obtain ⟨jx, hjx, rfl⟩ := ch_ic_get hc2 (nr_31 b_cn (by decide))
    refine nr_if_ne (tgt := 10) hx hb (by decide) d_X_remove_5 (by decide) (fun c5 => ?_) (fun c5 => ?_)
    · refine lv_iload_n hx hb d_X_remove_10 rfl (lv_at hl 1 rfl) ?_
      refine lv_iconst (v := nI 1) hx hb d_X_remove_11 (by decide) ?_
      refine nr_iadd hx hb d_X_remove_12 ?_
      refine lv_istore_n (lv' := [(2, .int (nI (jx + 1))), (0, .ref h0), (1, .int (nI jx))]) hx hb d_X_remove_13 rfl hl (by decide) rfl (fun ls hl => ?_)
      have lp14 : ∀ (n : Nat) (q : Nat) (h1 : Nat → Nat) (s1 : Nat → Nat) (z1 : Nat → Nat) (p1 : Nat → Nat) (n1 : Nat → Nat) (H : Heap) (locs : List Loc) (ls : Array Slot), cn + 1 ≤ q + n → (jx ≤ q) → (q + 1 ≤ cn) → (ch_bd 15 h1) → (ch_bd 100 s1) → (ch_bd 3 z1) → (ch_bd 15 p1) → (ch_bd 1 n1) → (h1 = ch_sh hd jx q 1) → (s1 = ch_sh st jx q 1) → (z1 = ch_sh sz jx q 1) → (p1 = ch_sh pt (3 * jx) (3 * q) 3) → (n1 = ch_sh ng (3 * jx) (3 * q) 3) → va_P D classes (wX h0 ad ca h1 s1 z1 p1 n1 dp dn se va of sl wt kp ds cn sk cu) H → va_D A (wX h0 ad ca h1 s1 z1 p1 n1 dp dn se va of sl wt kp ds cn sk cu) → va_S A s.heap H locs → lv_has ls 4 [(0, .ref h0), (1, .int (nI jx)), (2, .int (nI (q + 1)))] → W p l e rm_X_remove s m args below meth c H locs 0 0 Q (F0 m 14 ls []) := by
        intro n
        induction n with
        | zero =>
          intro q h1 s1 z1 p1 n1 H locs ls hn14 hq1 hq bh1 bs1 bz1 bp1 bn1 eh es ez ep en
          exact absurd hn14 (by omega)
        | succ n ih14 =>
          intro q h1 s1 z1 p1 n1 H locs ls hn14 hq1 hq bh1 bs1 bz1 bp1 bn1 eh es ez ep en hP hD hS hl
          refine lv_iload_n hx hb d_X_remove_14 rfl (lv_at hl 2 rfl) ?_
          refine lv_aload_n hx hb d_X_remove_15 rfl (lv_at hl 0 rfl) ?_
          refine gtX hx hb hts hown hK hP fl_X_61 rfl (k := 14) (by decide) ⟨rfl, rfl, rfl⟩ rfl d_X_remove_16 ?_
          refine nr_icmp_ge (tgt := 127) hx hb (nr_31 (B := 20) (Nat.le_trans hq b_cn) (by decide)) (nr_31 (B := 20) b_cn (by decide)) d_X_remove_19 (by decide) (fun c19 => ?_) (fun c19 => ?_)
          · refine lv_aload_n hx hb d_X_remove_127 rfl (lv_at hl 0 rfl) ?_
            refine lv_dup hx hb d_X_remove_128 rfl ?_
            refine gtX hx hb hts hown hK hP fl_X_61 rfl (k := 14) (by decide) ⟨rfl, rfl, rfl⟩ rfl d_X_remove_129 ?_
            refine lv_iconst (v := nI 1) hx hb d_X_remove_132 (by decide) ?_
            refine nr_isub hx hb (by omega) d_X_remove_133 ?_
            refine ptX hx hb hts hown hK hP hD hS fl_X_61 rfl (k := 14) (by decide) ⟨rfl, rfl, rfl, rfl⟩ (ty := .int) (by decide +kernel) rfl rfl (Nat.le_of_ble_eq_true rfl) d_X_remove_134 (fun H locs hP hD hS => ?_)
            have hP : va_P D classes (wX h0 ad ca h1 s1 z1 p1 n1 dp dn se va of sl wt kp ds (cn - 1) sk cu) H := hP
            have hD : va_D A (wX h0 ad ca h1 s1 z1 p1 n1 dp dn se va of sl wt kp ds (cn - 1) sk cu) := hD
            refine lv_aload_n hx hb d_X_remove_137 rfl (lv_at hl 0 rfl) ?_
            refine lv_iconst (v := nI 0) hx hb d_X_remove_138 (by decide) ?_
            refine ptX hx hb hts hown hK hP hD hS fl_X_64 rfl (k := 16) (by decide) ⟨rfl, rfl, rfl, rfl⟩ (ty := .boolean) (by decide +kernel) (by decide) (by decide) (Nat.le_of_ble_eq_true rfl) d_X_remove_139 (fun H locs hP hD hS => ?_)
            have hP : va_P D classes (wX h0 ad ca h1 s1 z1 p1 n1 dp dn se va of sl wt kp ds (cn - 1) sk 0) H := hP
            have hD : va_D A (wX h0 ad ca h1 s1 z1 p1 n1 dp dn se va of sl wt kp ds (cn - 1) sk 0) := hD
            refine lv_aload_n hx hb d_X_remove_142 rfl (lv_at hl 0 rfl) ?_
            refine gtX hx hb hts hown hK hP fl_X_61 rfl (k := 14) (by decide) ⟨rfl, rfl, rfl⟩ rfl d_X_remove_143 ?_
            exact ct_iret (h1, s1, z1, p1, n1, cn - 1, 0) hQ hx hb hr hlocks hAe hK hP hD hS (sp_suc (by rw [sp_rem, if_pos hc2]) rfl (by rw [ch_tn_nI (by omega), eh, es, ez, ep, en, show q = cn - 1 by omega])) d_X_remove_146
          · refine lv_aload_n hx hb d_X_remove_22 rfl (lv_at hl 0 rfl) ?_
            refine gtX hx hb hts hown hK hP fl_X_7 rfl (k := 0) (by decide) ⟨rfl, rfl, rfl⟩ rfl d_X_remove_23 ?_
            refine lv_iload_n hx hb d_X_remove_26 rfl (lv_at hl 2 rfl) ?_
            refine lv_iconst (v := nI 1) hx hb d_X_remove_27 (by decide) ?_
            refine nr_isub hx hb (by omega) d_X_remove_28 ?_
            refine lv_aload_n hx hb d_X_remove_29 rfl (lv_at hl 0 rfl) ?_
            refine gtX hx hb hts hown hK hP fl_X_7 rfl (k := 0) (by decide) ⟨rfl, rfl, rfl⟩ rfl d_X_remove_30 ?_
            refine lv_iload_n hx hb d_X_remove_33 rfl (lv_at hl 2 rfl) ?_
            refine nr_iald hx hb hK hP 1 0 rfl rfl (by omega) (by decide) d_X_remove_34 ?_
            refine nr_iast hx hb hK hP hD hS 1 0 rfl rfl (by omega) (by decide) d_X_remove_35 (fun H locs hP hD hS => ?_)
            have hP : va_P D classes (wX h0 ad ca (ch_up h1 ((q + 1) - 1) (h1 (q + 1))) s1 z1 p1 n1 dp dn se va of sl wt kp ds cn sk cu) H := hP
            have hD : va_D A (wX h0 ad ca (ch_up h1 ((q + 1) - 1) (h1 (q + 1))) s1 z1 p1 n1 dp dn se va of sl wt kp ds cn sk cu) := hD
            refine lv_aload_n hx hb d_X_remove_36 rfl (lv_at hl 0 rfl) ?_
            refine gtX hx hb hts hown hK hP fl_X_13 rfl (k := 1) (by decide) ⟨rfl, rfl, rfl⟩ rfl d_X_remove_37 ?_
            refine lv_iload_n hx hb d_X_remove_40 rfl (lv_at hl 2 rfl) ?_
            refine lv_iconst (v := nI 1) hx hb d_X_remove_41 (by decide) ?_
            refine nr_isub hx hb (by omega) d_X_remove_42 ?_
            refine lv_aload_n hx hb d_X_remove_43 rfl (lv_at hl 0 rfl) ?_
            refine gtX hx hb hts hown hK hP fl_X_13 rfl (k := 1) (by decide) ⟨rfl, rfl, rfl⟩ rfl d_X_remove_44 ?_
            refine lv_iload_n hx hb d_X_remove_47 rfl (lv_at hl 2 rfl) ?_
            refine nr_iald hx hb hK hP 2 1 rfl rfl (by omega) (by decide) d_X_remove_48 ?_
            refine nr_iast hx hb hK hP hD hS 2 1 rfl rfl (by omega) (by decide) d_X_remove_49 (fun H locs hP hD hS => ?_)
            have hP : va_P D classes (wX h0 ad ca (ch_up h1 ((q + 1) - 1) (h1 (q + 1))) (ch_up s1 ((q + 1) - 1) (s1 (q + 1))) z1 p1 n1 dp dn se va of sl wt kp ds cn sk cu) H := hP
            have hD : va_D A (wX h0 ad ca (ch_up h1 ((q + 1) - 1) (h1 (q + 1))) (ch_up s1 ((q + 1) - 1) (s1 (q + 1))) z1 p1 n1 dp dn se va of sl wt kp ds cn sk cu) := hD
            refine lv_aload_n hx hb d_X_remove_50 rfl (lv_at hl 0 rfl) ?_
            refine gtX hx hb hts hown hK hP fl_X_16 rfl (k := 2) (by decide) ⟨rfl, rfl, rfl⟩ rfl d_X_remove_51 ?_
            refine lv_iload_n hx hb d_X_remove_54 rfl (lv_at hl 2 rfl) ?_
            refine lv_iconst (v := nI 1) hx hb d_X_remove_55 (by decide) ?_
            refine nr_isub hx hb (by omega) d_X_remove_56 ?_
            refine lv_aload_n hx hb d_X_remove_57 rfl (lv_at hl 0 rfl) ?_
            refine gtX hx hb hts hown hK hP fl_X_16 rfl (k := 2) (by decide) ⟨rfl, rfl, rfl⟩ rfl d_X_remove_58 ?_
            refine lv_iload_n hx hb d_X_remove_61 rfl (lv_at hl 2 rfl) ?_
            refine nr_iald hx hb hK hP 3 2 rfl rfl (by omega) (by decide) d_X_remove_62 ?_
            refine nr_iast hx hb hK hP hD hS 3 2 rfl rfl (by omega) (by decide) d_X_remove_63 (fun H locs hP hD hS => ?_)
            have hP : va_P D classes (wX h0 ad ca (ch_up h1 ((q + 1) - 1) (h1 (q + 1))) (ch_up s1 ((q + 1) - 1) (s1 (q + 1))) (ch_up z1 ((q + 1) - 1) (z1 (q + 1))) p1 n1 dp dn se va of sl wt kp ds cn sk cu) H := hP
            have hD : va_D A (wX h0 ad ca (ch_up h1 ((q + 1) - 1) (h1 (q + 1))) (ch_up s1 ((q + 1) - 1) (s1 (q + 1))) (ch_up z1 ((q + 1) - 1) (z1 (q + 1))) p1 n1 dp dn se va of sl wt kp ds cn sk cu) := hD
            refine lv_iconst (v := nI 0) hx hb d_X_remove_64 (by decide) ?_
            refine lv_istore_n (lv' := [(3, .int (nI 0)), (0, .ref h0), (1, .int (nI jx)), (2, .int (nI (q + 1)))]) hx hb d_X_remove_65 rfl hl (by decide) rfl (fun ls hl => ?_)
            have lp66 : ∀ (n : Nat) (k : Nat) (p2 : Nat → Nat) (n2 : Nat → Nat) (H : Heap) (locs : List Loc) (ls : Array Slot), 3 + 1 ≤ k + n → (k ≤ 3) → (ch_bd 15 p2) → (ch_bd 1 n2) → (p2 = ch_sh pt (3 * jx) (3 * q + k) 3) → (n2 = ch_sh ng (3 * jx) (3 * q + k) 3) → va_P D classes (wX h0 ad ca (ch_up h1 ((q + 1) - 1) (h1 (q + 1))) (ch_up s1 ((q + 1) - 1) (s1 (q + 1))) (ch_up z1 ((q + 1) - 1) (z1 (q + 1))) p2 n2 dp dn se va of sl wt kp ds cn sk cu) H → va_D A (wX h0 ad ca (ch_up h1 ((q + 1) - 1) (h1 (q + 1))) (ch_up s1 ((q + 1) - 1) (s1 (q + 1))) (ch_up z1 ((q + 1) - 1) (z1 (q + 1))) p2 n2 dp dn se va of sl wt kp ds cn sk cu) → va_S A s.heap H locs → lv_has ls 4 [(0, .ref h0), (1, .int (nI jx)), (2, .int (nI (q + 1))), (3, .int (nI k))] → W p l e rm_X_remove s m args below meth c H locs 0 0 Q (F0 m 66 ls []) := by
              intro n
              induction n with
              | zero =>
                intro k p2 n2 H locs ls hn66 hk bp2 bn2 ep2 en2
                exact absurd hn66 (by omega)
              | succ n ih66 =>
                intro k p2 n2 H locs ls hn66 hk bp2 bn2 ep2 en2 hP hD hS hl
                refine lv_iload_n hx hb d_X_remove_66 rfl (lv_at hl 3 rfl) ?_
                refine lv_iconst (v := nI 3) hx hb d_X_remove_67 (by decide) ?_
                refine nr_icmp_ge (tgt := 121) hx hb (nr_31 (B := 3) hk (by decide)) (by decide) d_X_remove_68 (by decide) (fun c68 => ?_) (fun c68 => ?_)
                · refine lv_iinc (v := nI ((q + 1) + 1)) (lv' := [(2, .int (nI ((q + 1) + 1))), (0, .ref h0), (1, .int (nI jx)), (3, .int (nI k))]) hx hb d_X_remove_121 hl (k := 2) rfl (nI_1 _) (by decide) rfl (fun ls hl => ?_)
                  refine lv_goto (tgt := 14) hx hb d_X_remove_124 (by decide) ?_
                  exact ih14 (q + 1) (ch_up h1 ((q + 1) - 1) (h1 (q + 1))) (ch_up s1 ((q + 1) - 1) (s1 (q + 1))) (ch_up z1 ((q + 1) - 1) (z1 (q + 1))) p2 n2 _ _ _ (by omega) (by omega) (by omega) (ch_bd_up bh1 (bh1 _)) (ch_bd_up bs1 (bs1 _)) (ch_bd_up bz1 (bz1 _)) bp2 bn2 (by rw [eh, Nat.add_sub_cancel]; exact ch_sh_s (by omega) rfl (by decide)) (by rw [es, Nat.add_sub_cancel]; exact ch_sh_s (by omega) rfl (by decide)) (by rw [ez, Nat.add_sub_cancel]; exact ch_sh_s (by omega) rfl (by decide)) (by rw [ep2, show 3 * q + k = 3 * (q + 1) by omega]) (by rw [en2, show 3 * q + k = 3 * (q + 1) by omega]) hP hD hS (lv_sub hl [1, 2, 0] rfl)
                · refine lv_aload_n hx hb d_X_remove_71 rfl (lv_at hl 0 rfl) ?_
                  refine gtX hx hb hts hown hK hP fl_X_19 rfl (k := 3) (by decide) ⟨rfl, rfl, rfl⟩ rfl d_X_remove_72 ?_
                  refine lv_iconst (v := nI 3) hx hb d_X_remove_75 (by decide) ?_
                  refine lv_iload_n hx hb d_X_remove_76 rfl (lv_at hl 2 rfl) ?_
                  refine lv_iconst (v := nI 1) hx hb d_X_remove_77 (by decide) ?_
                  refine nr_isub hx hb (by omega) d_X_remove_78 ?_
                  refine nr_imul hx hb d_X_remove_79 ?_
                  refine lv_iload_n hx hb d_X_remove_80 rfl (lv_at hl 3 rfl) ?_
                  refine nr_iadd hx hb d_X_remove_81 ?_
                  refine lv_aload_n hx hb d_X_remove_82 rfl (lv_at hl 0 rfl) ?_
                  refine gtX hx hb hts hown hK hP fl_X_19 rfl (k := 3) (by decide) ⟨rfl, rfl, rfl⟩ rfl d_X_remove_83 ?_
                  refine lv_iconst (v := nI 3) hx hb d_X_remove_86 (by decide) ?_
                  refine lv_iload_n hx hb d_X_remove_87 rfl (lv_at hl 2 rfl) ?_
                  refine nr_imul hx hb d_X_remove_88 ?_
                  refine lv_iload_n hx hb d_X_remove_89 rfl (lv_at hl 3 rfl) ?_
                  refine nr_iadd hx hb d_X_remove_90 ?_
                  refine nr_iald hx hb hK hP 4 3 rfl rfl (by omega) (by decide) d_X_remove_91 ?_
                  refine nr_iast hx hb hK hP hD hS 4 3 rfl rfl (by omega) (by decide) d_X_remove_92 (fun H locs hP hD hS => ?_)
                  have hP : va_P D classes (wX h0 ad ca (ch_up h1 ((q + 1) - 1) (h1 (q + 1))) (ch_up s1 ((q + 1) - 1) (s1 (q + 1))) (ch_up z1 ((q + 1) - 1) (z1 (q + 1))) (ch_up p2 ((3 * ((q + 1) - 1)) + k) (p2 ((3 * (q + 1)) + k))) n2 dp dn se va of sl wt kp ds cn sk cu) H := hP
                  have hD : va_D A (wX h0 ad ca (ch_up h1 ((q + 1) - 1) (h1 (q + 1))) (ch_up s1 ((q + 1) - 1) (s1 (q + 1))) (ch_up z1 ((q + 1) - 1) (z1 (q + 1))) (ch_up p2 ((3 * ((q + 1) - 1)) + k) (p2 ((3 * (q + 1)) + k))) n2 dp dn se va of sl wt kp ds cn sk cu) := hD
                  refine lv_aload_n hx hb d_X_remove_93 rfl (lv_at hl 0 rfl) ?_
                  refine gtX hx hb hts hown hK hP fl_X_22 rfl (k := 4) (by decide) ⟨rfl, rfl, rfl⟩ rfl d_X_remove_94 ?_
                  refine lv_iconst (v := nI 3) hx hb d_X_remove_97 (by decide) ?_
                  refine lv_iload_n hx hb d_X_remove_98 rfl (lv_at hl 2 rfl) ?_
                  refine lv_iconst (v := nI 1) hx hb d_X_remove_99 (by decide) ?_
                  refine nr_isub hx hb (by omega) d_X_remove_100 ?_
                  refine nr_imul hx hb d_X_remove_101 ?_
                  refine lv_iload_n hx hb d_X_remove_102 rfl (lv_at hl 3 rfl) ?_
                  refine nr_iadd hx hb d_X_remove_103 ?_
                  refine lv_aload_n hx hb d_X_remove_104 rfl (lv_at hl 0 rfl) ?_
                  refine gtX hx hb hts hown hK hP fl_X_22 rfl (k := 4) (by decide) ⟨rfl, rfl, rfl⟩ rfl d_X_remove_105 ?_
                  refine lv_iconst (v := nI 3) hx hb d_X_remove_108 (by decide) ?_
                  refine lv_iload_n hx hb d_X_remove_109 rfl (lv_at hl 2 rfl) ?_
                  refine nr_imul hx hb d_X_remove_110 ?_
                  refine lv_iload_n hx hb d_X_remove_111 rfl (lv_at hl 3 rfl) ?_
                  refine nr_iadd hx hb d_X_remove_112 ?_
                  refine nr_zald hx hb hK hP 5 4 rfl rfl (by omega) (by decide) d_X_remove_113 ?_
                  refine nr_zast hx hb hK hP hD hS 5 4 rfl rfl (by omega) (by decide) (bn2 _) d_X_remove_114 (fun H locs hP hD hS => ?_)
                  have hP : va_P D classes (wX h0 ad ca (ch_up h1 ((q + 1) - 1) (h1 (q + 1))) (ch_up s1 ((q + 1) - 1) (s1 (q + 1))) (ch_up z1 ((q + 1) - 1) (z1 (q + 1))) (ch_up p2 ((3 * ((q + 1) - 1)) + k) (p2 ((3 * (q + 1)) + k))) (ch_up n2 ((3 * ((q + 1) - 1)) + k) (n2 ((3 * (q + 1)) + k))) dp dn se va of sl wt kp ds cn sk cu) H := hP
                  have hD : va_D A (wX h0 ad ca (ch_up h1 ((q + 1) - 1) (h1 (q + 1))) (ch_up s1 ((q + 1) - 1) (s1 (q + 1))) (ch_up z1 ((q + 1) - 1) (z1 (q + 1))) (ch_up p2 ((3 * ((q + 1) - 1)) + k) (p2 ((3 * (q + 1)) + k))) (ch_up n2 ((3 * ((q + 1) - 1)) + k) (n2 ((3 * (q + 1)) + k))) dp dn se va of sl wt kp ds cn sk cu) := hD
                  refine lv_iinc (v := nI (k + 1)) (lv' := [(3, .int (nI (k + 1))), (0, .ref h0), (1, .int (nI jx)), (2, .int (nI (q + 1)))]) hx hb d_X_remove_115 hl (k := 3) rfl (nI_1 _) (by decide) rfl (fun ls hl => ?_)
                  refine lv_goto (tgt := 66) hx hb d_X_remove_118 (by decide) ?_
                  exact ih66 (k + 1) (ch_up p2 ((3 * ((q + 1) - 1)) + k) (p2 ((3 * (q + 1)) + k))) (ch_up n2 ((3 * ((q + 1) - 1)) + k) (n2 ((3 * (q + 1)) + k))) _ _ _ (by omega) (by omega) (ch_bd_up bp2 (bp2 _)) (ch_bd_up bn2 (bn2 _)) (by rw [ep2, Nat.add_sub_cancel]; exact ch_sh_s (h := 3 * q + k) (by omega) (by omega) (by decide)) (by rw [en2, Nat.add_sub_cancel]; exact ch_sh_s (h := 3 * q + k) (by omega) (by omega) (by decide)) hP hD hS (lv_sub hl [1, 2, 3, 0] rfl)
            exact lp66 (3 + 1) 0 p1 n1 _ _ _ (by omega) (by decide) bp1 bn1 ep en hP hD hS (lv_sub hl [1, 2, 3, 0] rfl)
      exact lp14 (cn + 1) jx hd st sz pt ng _ _ _ (by omega) (Nat.le_refl _) hjx b_hd b_st b_sz b_pt b_ng ((ch_sh_0 _ _ _).symm) ((ch_sh_0 _ _ _).symm) ((ch_sh_0 _ _ _).symm) ((ch_sh_0 _ _ _).symm) ((ch_sh_0 _ _ _).symm) hP hD hS (lv_sub hl [1, 2, 0] rfl)
    · exact absurd c5 (by decide)
  · refine nr_if_ne (tgt := 10) hx hb (by decide) d_X_remove_5 (by decide) (fun c5 => ?_) (fun c5 => ?_)
    · exact absurd c5 (by decide)
    · refine lv_iconst (v := (-1)) hx hb d_X_remove_8 (by decide) ?_
      exact ct_iret (hd, st, sz, pt, ng, cn, cu) hQ hx hb hr hlocks hAe hK hP hD hS (sp_err (by rw [sp_rem, if_neg (by rw [hc2]; decide)]) rfl rfl) d_X_remove_9

abbrev rm_X_strengthen : Room := { frames := 1, cells := 0, slots := 0, locals := 21 }
set_option maxHeartbeats 4000000 in
set_option maxRecDepth 100000 in
/-- strengthen(x, y) -/
theorem c_X_strengthen (l : Launch) (D : va_G) (h0 : Nat) (ad : Nat → Nat) (ca : Nat → ClassId) (hd : Nat → Nat) (st : Nat → Nat) (sz : Nat → Nat) (pt : Nat → Nat) (ng : Nat → Nat) (dp : Nat → Nat) (dn : Nat → Nat) (se : Nat → Nat) (va : Nat → Nat) (of : Nat → Nat) (sl : Nat → Nat) (wt : Nat → Int32) (kp : Nat → Nat) (ds : Nat) (cn : Nat) (sk : Int32) (cu : Nat) (hz : Nat) (B : bX hd st sz pt ng dp dn se va of sl kp ds cn cu) (x : Int32) (y : Int32)  : Met l y_X_strengthen w_X_strengthen rm_X_strengthen (va_Pc [.ref h0, .int x, .int y] (Pw D (wX h0 ad ca hd st sz pt ng dp dn se va of sl wt kp ds cn sk cu) (yX ca) hz)) (va_Qi (fun (v : Int32) (u : (Nat → Nat) × (Nat)) => v = (sp_str x y cn).getD (nI (st (ch_tn x))) ∧ u = (if sp_str x y cn = none then (ch_up st (ch_tn x) (ch_tn y), 0) else (st, cu))) (fun (u : (Nat → Nat) × (Nat)) => Bw D (wX h0 ad ca hd st sz pt ng dp dn se va of sl wt kp ds cn sk cu) (wX h0 ad ca hd u.1 sz pt ng dp dn se va of sl wt kp ds cn sk u.2) (yX ca) hz) (va_A (wX h0 ad ca hd st sz pt ng dp dn se va of sl wt kp ds cn sk cu) hz)) 0 0 (va_A (wX h0 ad ca hd st sz pt ng dp dn se va of sl wt kp ds cn sk cu) hz) := by
  obtain ⟨b_hd, b_st, b_sz, b_pt, b_ng, b_dp, b_dn, b_se, b_va, b_of, b_sl, b_kp, b_ds, b_cn, b_cu⟩ := B
  refine ct_start (by decide) (Nat.le_of_ble_eq_true rfl) ?_
  intro p e s m args below meth c A Q ls hx hb hr hlocks hml hts hown hnm hA hAe hsz hS hP hD hK hl hQ
  have hown : s.vm.findClass R_X = some m.cls := hown
  have hl : lv_has ls 4 [(0, .ref h0), (1, .int x), (2, .int y)] := hl
  have hP : va_P D classes (wX h0 ad ca hd st sz pt ng dp dn se va of sl wt kp ds cn sk cu) s.heap := hP
  obtain ⟨H, hH⟩ : ∃ H, H = s.heap := ⟨_, rfl⟩
  obtain ⟨locs, hlc⟩ : ∃ locs : List Loc, locs = [] := ⟨_, rfl⟩
  have hS : va_S A s.heap H locs := by rw [hH, hlc]; exact hS
  have hP : va_P D classes (wX h0 ad ca hd st sz pt ng dp dn se va of sl wt kp ds cn sk cu) H := by rw [hH]; exact hP
  have hgo : W p l e rm_X_strengthen s m args below meth c H locs 0 0 Q (F0 m 0 ls []) := ?_
  · rw [hH, hlc] at hgo; exact hgo
  clear hH hlc
  refine lv_aload_n hx hb d_X_strengthen_0 rfl (lv_at hl 0 rfl) ?_
  refine lv_iload_n hx hb d_X_strengthen_1 rfl (lv_at hl 1 rfl) ?_
  refine xc_iV (C := R_X) (rest := []) ⟨hx, hb, hml, hown, hts⟩ (c_X_isRule l D h0 ad ca hd st sz pt ng dp dn se va of sl wt kp ds cn sk cu H.size ⟨b_hd, b_st, b_sz, b_pt, b_ng, b_dp, b_dn, b_se, b_va, b_of, b_sl, b_kp, b_ds, b_cn, b_cu⟩ x) (cwV 1 hts (gd_v ml_X_68 im_X_isRule se_X_isRule ini_X cd_X_isRule) rfl rfl rfl (by decide +kernel) ⟨Nat.le_of_ble_eq_true rfl, Nat.le_of_ble_eq_true rfl⟩) (va_recv hK hP (ci := 0) (q0 := 0) rfl rfl) hK hP hD hS hA rfl hl.1 rfl (Nat.le_of_ble_eq_true rfl) d_X_strengthen_2 ⟨Nat.le_of_ble_eq_true rfl, Nat.le_of_ble_eq_true rfl⟩ (fun r2 u2 H locs hp2 hP hD hS => ?_)
  have hP : va_P D classes (wX h0 ad ca hd st sz pt ng dp dn se va of sl wt kp ds cn sk cu) H := hP
  have hD : va_D A (wX h0 ad ca hd st sz pt ng dp dn se va of sl wt kp ds cn sk cu) := hD
  rcases hp2 with ⟨hc2, rfl⟩ | ⟨hc2, rfl⟩
  · obtain ⟨jx, hjx, rfl⟩ := ch_ic_get hc2 (nr_31 b_cn (by decide))
    refine nr_if_ne (tgt := 10) hx hb (by decide) d_X_strengthen_5 (by decide) (fun c5 => ?_) (fun c5 => ?_)
    · refine lv_iload_n hx hb d_X_strengthen_10 rfl (lv_at hl 2 rfl) ?_
      refine lv_iconst (v := nI 1) hx hb d_X_strengthen_11 (by decide) ?_
      refine lv_icmp_lt (tgt := 21) hx hb  d_X_strengthen_12 (by decide) (fun c12 => ?_) (fun c12 => ?_)
      · refine lv_bipush (v := (-2)) hx hb d_X_strengthen_21 (by decide) ?_
        exact ct_iret (st, cu) hQ hx hb hr hlocks hAe hK hP hD hS (sp_err (by rw [sp_str, if_pos hc2, if_pos (Or.inl c12)]) rfl rfl) d_X_strengthen_23
      · refine lv_iload_n hx hb d_X_strengthen_15 rfl (lv_at hl 2 rfl) ?_
        refine lv_bipush (v := nI 100) hx hb d_X_strengthen_16 (by decide) ?_
        refine lv_icmp_le (tgt := 24) hx hb  d_X_strengthen_18 (by decide) (fun c18 => ?_) (fun c18 => ?_)
        · obtain ⟨sy, hsy, rfl⟩ := nr_rng1 c12 c18
          refine lv_aload_n hx hb d_X_strengthen_24 rfl (lv_at hl 0 rfl) ?_
          refine gtX hx hb hts hown hK hP fl_X_13 rfl (k := 1) (by decide) ⟨rfl, rfl, rfl⟩ rfl d_X_strengthen_25 ?_
          refine lv_iload_n hx hb d_X_strengthen_28 rfl (lv_at hl 1 rfl) ?_
          refine nr_iald hx hb hK hP 2 1 rfl rfl (by omega) (by decide) d_X_strengthen_29 ?_
          refine lv_istore_n (lv' := [(3, .int (nI (st jx))), (0, .ref h0), (1, .int (nI jx)), (2, .int (nI sy))]) hx hb d_X_strengthen_30 rfl hl (by decide) rfl (fun ls hl => ?_)
          refine lv_aload_n hx hb d_X_strengthen_31 rfl (lv_at hl 1 rfl) ?_
          refine gtX hx hb hts hown hK hP fl_X_13 rfl (k := 1) (by decide) ⟨rfl, rfl, rfl⟩ rfl d_X_strengthen_32 ?_
          refine lv_iload_n hx hb d_X_strengthen_35 rfl (lv_at hl 2 rfl) ?_
          refine lv_iload_n hx hb d_X_strengthen_36 rfl (lv_at hl 3 rfl) ?_
          refine nr_iast hx hb hK hP hD hS 2 1 rfl rfl (by omega) (by decide) d_X_strengthen_37 (fun H locs hP hD hS => ?_)
          have hP : va_P D classes (wX h0 ad ca hd (ch_up st jx sy) sz pt ng dp dn se va of sl wt kp ds cn sk cu) H := hP
          have hD : va_D A (wX h0 ad ca hd (ch_up st jx sy) sz pt ng dp dn se va of sl wt kp ds cn sk cu) := hD
          refine lv_aload_n hx hb d_X_strengthen_38 rfl (lv_at hl 1 rfl) ?_
          refine lv_iconst (v := nI 0) hx hb d_X_strengthen_39 (by decide) ?_
          refine ptX hx hb hts hown hK hP hD hS fl_X_64 rfl (k := 16) (by decide) ⟨rfl, rfl, rfl, rfl⟩ (ty := .boolean) (by decide +kernel) (by decide) (by decide) (Nat.le_of_ble_eq_true rfl) d_X_strengthen_40 (fun H locs hP hD hS => ?_)
          have hP : va_P D classes (wX h0 ad ca hd (ch_up st jx sy) sz pt ng dp dn se va of sl wt kp ds cn sk 0) H := hP
          have hD : va_D A (wX h0 ad ca hd (ch_up st jx sy) sz pt ng dp dn se va of sl wt kp ds cn sk 0) := hD
          refine lv_iload_n hx hb d_X_strengthen_43 rfl (lv_at hl 0 rfl) ?_
          exact ct_iret (ch_up st jx sy, 0) hQ hx hb hr hlocks hAe hK hP hD hS (sp_suc (by rw [sp_str, if_pos hc2, if_neg (fun z9 => z9.elim c12 (fun y9 => y9 c18))]) (by rw [ch_tn_nI (by omega)]) (by rw [ch_tn_nI (by omega), ch_tn_nI (by omega)])) d_X_strengthen_44
        · refine lv_bipush (v := (-2)) hx hb d_X_strengthen_21 (by decide) ?_
          exact ct_iret (st, cu) hQ hx hb hr hlocks hAe hK hP hD hS (sp_err (by rw [sp_str, if_pos hc2, if_pos (Or.inr c18)]) rfl rfl) d_X_strengthen_23
    · exact absurd c5 (by decide)
  · refine nr_if_ne (tgt := 10) hx hb (by decide) d_X_strengthen_5 (by decide) (fun c5 => ?_) (fun c5 => ?_)
    · exact absurd c5 (by decide)
    · refine lv_iconst (v := (-1)) hx hb d_X_strengthen_8 (by decide) ?_
      exact ct_iret (st, cu) hQ hx hb hr hlocks hAe hK hP hD hS (sp_err (by rw [sp_str, if_neg (by rw [hc2]; decide)]) rfl rfl) d_X_strengthen_9

abbrev rm_X_observe : Room := { frames := 1, cells := 0, slots := 0, locals := 20 }
set_option maxHeartbeats 4000000 in
set_option maxRecDepth 100000 in
/-- observe(x, y) -/
theorem c_X_observe (l : Launch) (D : va_G) (h0 : Nat) (ad : Nat → Nat) (ca : Nat → ClassId) (hd : Nat → Nat) (st : Nat → Nat) (sz : Nat → Nat) (pt : Nat → Nat) (ng : Nat → Nat) (dp : Nat → Nat) (dn : Nat → Nat) (se : Nat → Nat) (va : Nat → Nat) (of : Nat → Nat) (sl : Nat → Nat) (wt : Nat → Int32) (kp : Nat → Nat) (ds : Nat) (cn : Nat) (sk : Int32) (cu : Nat) (hz : Nat) (B : bX hd st sz pt ng dp dn se va of sl kp ds cn cu) (x : Int32) (y : Int32)  : Met l y_X_observe w_X_observe rm_X_observe (va_Pc [.ref h0, .int x, .int y] (Pw D (wX h0 ad ca hd st sz pt ng dp dn se va of sl wt kp ds cn sk cu) (yX ca) hz)) (va_Qi (fun (v : Int32) (u : (Nat → Nat) × (Nat)) => v = (sp_obs x y).getD (nI (se (ch_tn x))) ∧ u = (if sp_obs x y = none then (ch_up se (ch_tn x) (ch_tn y), 0) else (se, cu))) (fun (u : (Nat → Nat) × (Nat)) => Bw D (wX h0 ad ca hd st sz pt ng dp dn se va of sl wt kp ds cn sk cu) (wX h0 ad ca hd st sz pt ng dp dn u.1 va of sl wt kp ds cn sk u.2) (yX ca) hz) (va_A (wX h0 ad ca hd st sz pt ng dp dn se va of sl wt kp ds cn sk cu) hz)) 0 0 (va_A (wX h0 ad ca hd st sz pt ng dp dn se va of sl wt kp ds cn sk cu) hz) := by
  obtain ⟨b_hd, b_st, b_sz, b_pt, b_ng, b_dp, b_dn, b_se, b_va, b_of, b_sl, b_kp, b_ds, b_cn, b_cu⟩ := B
  refine ct_start (by decide) (Nat.le_of_ble_eq_true rfl) ?_
  intro p e s m args below meth c A Q ls hx hb hr hlocks hml hts hown hnm hA hAe hsz hS hP hD hK hl hQ
  have hown : s.vm.findClass R_X = some m.cls := hown
  have hl : lv_has ls 4 [(0, .ref h0), (1, .int x), (2, .int y)] := hl
  have hP : va_P D classes (wX h0 ad ca hd st sz pt ng dp dn se va of sl wt kp ds cn sk cu) s.heap := hP
  obtain ⟨H, hH⟩ : ∃ H, H = s.heap := ⟨_, rfl⟩
  obtain ⟨locs, hlc⟩ : ∃ locs : List Loc, locs = [] := ⟨_, rfl⟩
  have hS : va_S A s.heap H locs := by rw [hH, hlc]; exact hS
  have hP : va_P D classes (wX h0 ad ca hd st sz pt ng dp dn se va of sl wt kp ds cn sk cu) H := by rw [hH]; exact hP
  have hgo : W p l e rm_X_observe s m args below meth c H locs 0 0 Q (F0 m 0 ls []) := ?_
  · rw [hH, hlc] at hgo; exact hgo
  clear hH hlc
  refine lv_iload_n hx hb d_X_observe_0 rfl (lv_at hl 1 rfl) ?_
  refine xc_iS (rest := []) ⟨hx, hb, hml, hown, hts⟩ (c_X_isClaim l x) (cwS 1 hts (gd_s ml_X_54 st_X_isClaim ini_X cd_X_isClaim) rfl rfl rfl (by decide +kernel) ⟨Nat.le_of_ble_eq_true rfl, Nat.le_of_ble_eq_true rfl⟩) hP hS rfl hl.1 rfl (Nat.le_of_ble_eq_true rfl) d_X_observe_1 ⟨Nat.le_of_ble_eq_true rfl, Nat.le_of_ble_eq_true rfl⟩ (fun r1 H locs hp1 hP hS => ?_)
  rcases hp1 with ⟨hc1, rfl⟩ | ⟨hc1, rfl⟩
  · obtain ⟨jx, hjx, rfl⟩ := ch_ic_get hc1 (by decide)
    refine nr_if_ne (tgt := 9) hx hb (by decide) d_X_observe_4 (by decide) (fun c4 => ?_) (fun c4 => ?_)
    · refine lv_iload_n hx hb d_X_observe_9 rfl (lv_at hl 2 rfl) ?_
      refine lv_if_lt (tgt := 19) hx hb  d_X_observe_10 (by decide) (fun c10 => ?_) (fun c10 => ?_)
      · refine lv_bipush (v := (-2)) hx hb d_X_observe_19 (by decide) ?_
        exact ct_iret (se, cu) hQ hx hb hr hlocks hAe hK hP hD hS (sp_err (by rw [sp_obs, if_pos hc1, if_pos (Or.inl c10)]) rfl rfl) d_X_observe_21
      · refine lv_iload_n hx hb d_X_observe_13 rfl (lv_at hl 2 rfl) ?_
        refine lv_bipush (v := nI 100) hx hb d_X_observe_14 (by decide) ?_
        refine lv_icmp_le (tgt := 22) hx hb  d_X_observe_16 (by decide) (fun c16 => ?_) (fun c16 => ?_)
        · obtain ⟨sy, hsy, rfl⟩ := nr_rng0 c10 c16
          refine lv_aload_n hx hb d_X_observe_22 rfl (lv_at hl 0 rfl) ?_
          refine gtX hx hb hts hown hK hP fl_X_32 rfl (k := 7) (by decide) ⟨rfl, rfl, rfl⟩ rfl d_X_observe_23 ?_
          refine lv_iload_n hx hb d_X_observe_26 rfl (lv_at hl 1 rfl) ?_
          refine nr_iald hx hb hK hP 8 7 rfl rfl (Nat.lt_of_le_of_lt (Nat.le_of_lt_succ hjx) (by decide)) (by decide) d_X_observe_27 ?_
          refine lv_istore_n (lv' := [(3, .int (nI (se jx))), (0, .ref h0), (1, .int (nI jx)), (2, .int (nI sy))]) hx hb d_X_observe_28 rfl hl (by decide) rfl (fun ls hl => ?_)
          refine lv_aload_n hx hb d_X_observe_29 rfl (lv_at hl 1 rfl) ?_
          refine gtX hx hb hts hown hK hP fl_X_32 rfl (k := 7) (by decide) ⟨rfl, rfl, rfl⟩ rfl d_X_observe_30 ?_
          refine lv_iload_n hx hb d_X_observe_33 rfl (lv_at hl 2 rfl) ?_
          refine lv_iload_n hx hb d_X_observe_34 rfl (lv_at hl 3 rfl) ?_
          refine nr_iast hx hb hK hP hD hS 8 7 rfl rfl (Nat.lt_of_le_of_lt (Nat.le_of_lt_succ hjx) (by decide)) (by decide) d_X_observe_35 (fun H locs hP hD hS => ?_)
          have hP : va_P D classes (wX h0 ad ca hd st sz pt ng dp dn (ch_up se jx sy) va of sl wt kp ds cn sk cu) H := hP
          have hD : va_D A (wX h0 ad ca hd st sz pt ng dp dn (ch_up se jx sy) va of sl wt kp ds cn sk cu) := hD
          refine lv_aload_n hx hb d_X_observe_36 rfl (lv_at hl 1 rfl) ?_
          refine lv_iconst (v := nI 0) hx hb d_X_observe_37 (by decide) ?_
          refine ptX hx hb hts hown hK hP hD hS fl_X_64 rfl (k := 16) (by decide) ⟨rfl, rfl, rfl, rfl⟩ (ty := .boolean) (by decide +kernel) (by decide) (by decide) (Nat.le_of_ble_eq_true rfl) d_X_observe_38 (fun H locs hP hD hS => ?_)
          have hP : va_P D classes (wX h0 ad ca hd st sz pt ng dp dn (ch_up se jx sy) va of sl wt kp ds cn sk 0) H := hP
          have hD : va_D A (wX h0 ad ca hd st sz pt ng dp dn (ch_up se jx sy) va of sl wt kp ds cn sk 0) := hD
          refine lv_iload_n hx hb d_X_observe_41 rfl (lv_at hl 0 rfl) ?_
          exact ct_iret (ch_up se jx sy, 0) hQ hx hb hr hlocks hAe hK hP hD hS (sp_suc (by rw [sp_obs, if_pos hc1, if_neg (fun z9 => z9.elim c10 (fun y9 => y9 c16))]) (by rw [ch_tn_nI (by omega)]) (by rw [ch_tn_nI (by omega), ch_tn_nI (by omega)])) d_X_observe_42
        · refine lv_bipush (v := (-2)) hx hb d_X_observe_19 (by decide) ?_
          exact ct_iret (se, cu) hQ hx hb hr hlocks hAe hK hP hD hS (sp_err (by rw [sp_obs, if_pos hc1, if_pos (Or.inr c16)]) rfl rfl) d_X_observe_21
    · exact absurd c4 (by decide)
  · refine nr_if_ne (tgt := 9) hx hb (by decide) d_X_observe_4 (by decide) (fun c4 => ?_) (fun c4 => ?_)
    · exact absurd c4 (by decide)
    · refine lv_iconst (v := (-1)) hx hb d_X_observe_7 (by decide) ?_
      exact ct_iret (se, cu) hQ hx hb hr hlocks hAe hK hP hD hS (sp_err (by rw [sp_obs, if_neg (by rw [hc1]; decide)]) rfl rfl) d_X_observe_8

abbrev rm_X_rules : Room := { frames := 0, cells := 0, slots := 0, locals := 0 }
set_option maxHeartbeats 4000000 in
set_option maxRecDepth 100000 in
/-- rules() -/
theorem c_X_rules (l : Launch) (D : va_G) (h0 : Nat) (ad : Nat → Nat) (ca : Nat → ClassId) (hd : Nat → Nat) (st : Nat → Nat) (sz : Nat → Nat) (pt : Nat → Nat) (ng : Nat → Nat) (dp : Nat → Nat) (dn : Nat → Nat) (se : Nat → Nat) (va : Nat → Nat) (of : Nat → Nat) (sl : Nat → Nat) (wt : Nat → Int32) (kp : Nat → Nat) (ds : Nat) (cn : Nat) (sk : Int32) (cu : Nat) (hz : Nat) (B : bX hd st sz pt ng dp dn se va of sl kp ds cn cu)   : Met l y_X_rules w_X_rules rm_X_rules (va_Pc [.ref h0] (Pw D (wX h0 ad ca hd st sz pt ng dp dn se va of sl wt kp ds cn sk cu) (yX ca) hz)) (va_Qi (fun (v : Int32) (u : Unit) => v = nI cn) (fun (u : Unit) => Bw D (wX h0 ad ca hd st sz pt ng dp dn se va of sl wt kp ds cn sk cu) (wX h0 ad ca hd st sz pt ng dp dn se va of sl wt kp ds cn sk cu) (yX ca) hz) (va_A (wX h0 ad ca hd st sz pt ng dp dn se va of sl wt kp ds cn sk cu) hz)) 0 0 (va_A (wX h0 ad ca hd st sz pt ng dp dn se va of sl wt kp ds cn sk cu) hz) := by
  obtain ⟨b_hd, b_st, b_sz, b_pt, b_ng, b_dp, b_dn, b_se, b_va, b_of, b_sl, b_kp, b_ds, b_cn, b_cu⟩ := B
  refine ct_start (by decide) (Nat.le_of_ble_eq_true rfl) ?_
  intro p e s m args below meth c A Q ls hx hb hr hlocks hml hts hown hnm hA hAe hsz hS hP hD hK hl hQ
  have hown : s.vm.findClass R_X = some m.cls := hown
  have hl : lv_has ls 1 [(0, .ref h0)] := hl
  have hP : va_P D classes (wX h0 ad ca hd st sz pt ng dp dn se va of sl wt kp ds cn sk cu) s.heap := hP
  obtain ⟨H, hH⟩ : ∃ H, H = s.heap := ⟨_, rfl⟩
  obtain ⟨locs, hlc⟩ : ∃ locs : List Loc, locs = [] := ⟨_, rfl⟩
  have hS : va_S A s.heap H locs := by rw [hH, hlc]; exact hS
  have hP : va_P D classes (wX h0 ad ca hd st sz pt ng dp dn se va of sl wt kp ds cn sk cu) H := by rw [hH]; exact hP
  have hgo : W p l e rm_X_rules s m args below meth c H locs 0 0 Q (F0 m 0 ls []) := ?_
  · rw [hH, hlc] at hgo; exact hgo
  clear hH hlc
  refine lv_aload_n hx hb d_X_rules_0 rfl (lv_at hl 0 rfl) ?_
  refine gtX hx hb hts hown hK hP fl_X_61 rfl (k := 14) (by decide) ⟨rfl, rfl, rfl⟩ rfl d_X_rules_1 ?_
  exact ct_iret () hQ hx hb hr hlocks hAe hK hP hD hS rfl d_X_rules_4

abbrev rm_X_headOf : Room := { frames := 1, cells := 0, slots := 0, locals := 21 }
set_option maxHeartbeats 4000000 in
set_option maxRecDepth 100000 in
/-- headOf(x) -/
theorem c_X_headOf (l : Launch) (D : va_G) (h0 : Nat) (ad : Nat → Nat) (ca : Nat → ClassId) (hd : Nat → Nat) (st : Nat → Nat) (sz : Nat → Nat) (pt : Nat → Nat) (ng : Nat → Nat) (dp : Nat → Nat) (dn : Nat → Nat) (se : Nat → Nat) (va : Nat → Nat) (of : Nat → Nat) (sl : Nat → Nat) (wt : Nat → Int32) (kp : Nat → Nat) (ds : Nat) (cn : Nat) (sk : Int32) (cu : Nat) (hz : Nat) (B : bX hd st sz pt ng dp dn se va of sl kp ds cn cu) (x : Int32)  : Met l y_X_headOf w_X_headOf rm_X_headOf (va_Pc [.ref h0, .int x] (Pw D (wX h0 ad ca hd st sz pt ng dp dn se va of sl wt kp ds cn sk cu) (yX ca) hz)) (va_Qi (fun (v : Int32) (u : Unit) => v = sp_at x cn hd) (fun (u : Unit) => Bw D (wX h0 ad ca hd st sz pt ng dp dn se va of sl wt kp ds cn sk cu) (wX h0 ad ca hd st sz pt ng dp dn se va of sl wt kp ds cn sk cu) (yX ca) hz) (va_A (wX h0 ad ca hd st sz pt ng dp dn se va of sl wt kp ds cn sk cu) hz)) 0 0 (va_A (wX h0 ad ca hd st sz pt ng dp dn se va of sl wt kp ds cn sk cu) hz) := by
  obtain ⟨b_hd, b_st, b_sz, b_pt, b_ng, b_dp, b_dn, b_se, b_va, b_of, b_sl, b_kp, b_ds, b_cn, b_cu⟩ := B
  refine ct_start (by decide) (Nat.le_of_ble_eq_true rfl) ?_
  intro p e s m args below meth c A Q ls hx hb hr hlocks hml hts hown hnm hA hAe hsz hS hP hD hK hl hQ
  have hown : s.vm.findClass R_X = some m.cls := hown
  have hl : lv_has ls 2 [(0, .ref h0), (1, .int x)] := hl
  have hP : va_P D classes (wX h0 ad ca hd st sz pt ng dp dn se va of sl wt kp ds cn sk cu) s.heap := hP
  obtain ⟨H, hH⟩ : ∃ H, H = s.heap := ⟨_, rfl⟩
  obtain ⟨locs, hlc⟩ : ∃ locs : List Loc, locs = [] := ⟨_, rfl⟩
  have hS : va_S A s.heap H locs := by rw [hH, hlc]; exact hS
  have hP : va_P D classes (wX h0 ad ca hd st sz pt ng dp dn se va of sl wt kp ds cn sk cu) H := by rw [hH]; exact hP
  have hgo : W p l e rm_X_headOf s m args below meth c H locs 0 0 Q (F0 m 0 ls []) := ?_
  · rw [hH, hlc] at hgo; exact hgo
  clear hH hlc
  refine lv_aload_n hx hb d_X_headOf_0 rfl (lv_at hl 0 rfl) ?_
  refine lv_iload_n hx hb d_X_headOf_1 rfl (lv_at hl 1 rfl) ?_
  refine xc_iV (C := R_X) (rest := []) ⟨hx, hb, hml, hown, hts⟩ (c_X_isRule l D h0 ad ca hd st sz pt ng dp dn se va of sl wt kp ds cn sk cu H.size ⟨b_hd, b_st, b_sz, b_pt, b_ng, b_dp, b_dn, b_se, b_va, b_of, b_sl, b_kp, b_ds, b_cn, b_cu⟩ x) (cwV 1 hts (gd_v ml_X_68 im_X_isRule se_X_isRule ini_X cd_X_isRule) rfl rfl rfl (by decide +kernel) ⟨Nat.le_of_ble_eq_true rfl, Nat.le_of_ble_eq_true rfl⟩) (va_recv hK hP (ci := 0) (q0 := 0) rfl rfl) hK hP hD hS hA rfl hl.1 rfl (Nat.le_of_ble_eq_true rfl) d_X_headOf_2 ⟨Nat.le_of_ble_eq_true rfl, Nat.le_of_ble_eq_true rfl⟩ (fun r2 u2 H locs hp2 hP hD hS => ?_)
  have hP : va_P D classes (wX h0 ad ca hd st sz pt ng dp dn se va of sl wt kp ds cn sk cu) H := hP
  have hD : va_D A (wX h0 ad ca hd st sz pt ng dp dn se va of sl wt kp ds cn sk cu) := hD
  rcases hp2 with ⟨hc2, rfl⟩ | ⟨hc2, rfl⟩
  · obtain ⟨jx, hjx, rfl⟩ := ch_ic_get hc2 (nr_31 b_cn (by decide))
    refine nr_if_eq (tgt := 17) hx hb (by decide) d_X_headOf_5 (by decide) (fun c5 => ?_) (fun c5 => ?_)
    · exact absurd c5 (by decide)
    · refine lv_aload_n hx hb d_X_headOf_8 rfl (lv_at hl 0 rfl) ?_
      refine gtX hx hb hts hown hK hP fl_X_7 rfl (k := 0) (by decide) ⟨rfl, rfl, rfl⟩ rfl d_X_headOf_9 ?_
      refine lv_iload_n hx hb d_X_headOf_12 rfl (lv_at hl 1 rfl) ?_
      refine nr_iald hx hb hK hP 1 0 rfl rfl (by omega) (by decide) d_X_headOf_13 ?_
      refine lv_goto (tgt := 18) hx hb d_X_headOf_14 (by decide) ?_
      exact ct_iret () hQ hx hb hr hlocks hAe hK hP hD hS ((sp_at_t hjx (nr_31 b_cn (by decide))).symm) d_X_headOf_18
  · refine nr_if_eq (tgt := 17) hx hb (by decide) d_X_headOf_5 (by decide) (fun c5 => ?_) (fun c5 => ?_)
    · refine lv_iconst (v := (-1)) hx hb d_X_headOf_17 (by decide) ?_
      exact ct_iret () hQ hx hb hr hlocks hAe hK hP hD hS ((sp_at_f hc2).symm) d_X_headOf_18
    · exact absurd c5 (by decide)

abbrev rm_X_observed : Room := { frames := 1, cells := 0, slots := 0, locals := 20 }
set_option maxHeartbeats 4000000 in
set_option maxRecDepth 100000 in
/-- observed(x) -/
theorem c_X_observed (l : Launch) (D : va_G) (h0 : Nat) (ad : Nat → Nat) (ca : Nat → ClassId) (hd : Nat → Nat) (st : Nat → Nat) (sz : Nat → Nat) (pt : Nat → Nat) (ng : Nat → Nat) (dp : Nat → Nat) (dn : Nat → Nat) (se : Nat → Nat) (va : Nat → Nat) (of : Nat → Nat) (sl : Nat → Nat) (wt : Nat → Int32) (kp : Nat → Nat) (ds : Nat) (cn : Nat) (sk : Int32) (cu : Nat) (hz : Nat) (B : bX hd st sz pt ng dp dn se va of sl kp ds cn cu) (x : Int32)  : Met l y_X_observed w_X_observed rm_X_observed (va_Pc [.ref h0, .int x] (Pw D (wX h0 ad ca hd st sz pt ng dp dn se va of sl wt kp ds cn sk cu) (yX ca) hz)) (va_Qi (fun (v : Int32) (u : Unit) => v = sp_at x 16 se) (fun (u : Unit) => Bw D (wX h0 ad ca hd st sz pt ng dp dn se va of sl wt kp ds cn sk cu) (wX h0 ad ca hd st sz pt ng dp dn se va of sl wt kp ds cn sk cu) (yX ca) hz) (va_A (wX h0 ad ca hd st sz pt ng dp dn se va of sl wt kp ds cn sk cu) hz)) 0 0 (va_A (wX h0 ad ca hd st sz pt ng dp dn se va of sl wt kp ds cn sk cu) hz) := by
  obtain ⟨b_hd, b_st, b_sz, b_pt, b_ng, b_dp, b_dn, b_se, b_va, b_of, b_sl, b_kp, b_ds, b_cn, b_cu⟩ := B
  refine ct_start (by decide) (Nat.le_of_ble_eq_true rfl) ?_
  intro p e s m args below meth c A Q ls hx hb hr hlocks hml hts hown hnm hA hAe hsz hS hP hD hK hl hQ
  have hown : s.vm.findClass R_X = some m.cls := hown
  have hl : lv_has ls 2 [(0, .ref h0), (1, .int x)] := hl
  have hP : va_P D classes (wX h0 ad ca hd st sz pt ng dp dn se va of sl wt kp ds cn sk cu) s.heap := hP
  obtain ⟨H, hH⟩ : ∃ H, H = s.heap := ⟨_, rfl⟩
  obtain ⟨locs, hlc⟩ : ∃ locs : List Loc, locs = [] := ⟨_, rfl⟩
  have hS : va_S A s.heap H locs := by rw [hH, hlc]; exact hS
  have hP : va_P D classes (wX h0 ad ca hd st sz pt ng dp dn se va of sl wt kp ds cn sk cu) H := by rw [hH]; exact hP
  have hgo : W p l e rm_X_observed s m args below meth c H locs 0 0 Q (F0 m 0 ls []) := ?_
  · rw [hH, hlc] at hgo; exact hgo
  clear hH hlc
  refine lv_iload_n hx hb d_X_observed_0 rfl (lv_at hl 1 rfl) ?_
  refine xc_iS (rest := []) ⟨hx, hb, hml, hown, hts⟩ (c_X_isClaim l x) (cwS 1 hts (gd_s ml_X_54 st_X_isClaim ini_X cd_X_isClaim) rfl rfl rfl (by decide +kernel) ⟨Nat.le_of_ble_eq_true rfl, Nat.le_of_ble_eq_true rfl⟩) hP hS rfl hl.1 rfl (Nat.le_of_ble_eq_true rfl) d_X_observed_1 ⟨Nat.le_of_ble_eq_true rfl, Nat.le_of_ble_eq_true rfl⟩ (fun r1 H locs hp1 hP hS => ?_)
  rcases hp1 with ⟨hc1, rfl⟩ | ⟨hc1, rfl⟩
  · obtain ⟨jx, hjx, rfl⟩ := ch_ic_get hc1 (by decide)
    refine nr_if_eq (tgt := 16) hx hb (by decide) d_X_observed_4 (by decide) (fun c4 => ?_) (fun c4 => ?_)
    · exact absurd c4 (by decide)
    · refine lv_aload_n hx hb d_X_observed_7 rfl (lv_at hl 0 rfl) ?_
      refine gtX hx hb hts hown hK hP fl_X_32 rfl (k := 7) (by decide) ⟨rfl, rfl, rfl⟩ rfl d_X_observed_8 ?_
      refine lv_iload_n hx hb d_X_observed_11 rfl (lv_at hl 1 rfl) ?_
      refine nr_iald hx hb hK hP 8 7 rfl rfl (Nat.lt_of_le_of_lt (Nat.le_of_lt_succ hjx) (by decide)) (by decide) d_X_observed_12 ?_
      refine lv_goto (tgt := 17) hx hb d_X_observed_13 (by decide) ?_
      exact ct_iret () hQ hx hb hr hlocks hAe hK hP hD hS ((sp_at_t hjx (by decide)).symm) d_X_observed_17
  · refine nr_if_eq (tgt := 16) hx hb (by decide) d_X_observed_4 (by decide) (fun c4 => ?_) (fun c4 => ?_)
    · refine lv_iconst (v := (-1)) hx hb d_X_observed_16 (by decide) ?_
      exact ct_iret () hQ hx hb hr hlocks hAe hK hP hD hS ((sp_at_f hc1).symm) d_X_observed_17
    · exact absurd c4 (by decide)
end
section
/-! ===== the reference: premise, clear, rule, remove, strengthen, observe, rules, headOf, observed ===== -/
abbrev rm_M_premise : Room := { frames := 1, cells := 0, slots := 0, locals := 21 }
set_option maxHeartbeats 4000000 in
set_option maxRecDepth 100000 in
/-- premise(x, y) -/
theorem c_M_premise (l : Launch) (D : va_G) (h0 : Nat) (ad : Nat → Nat) (ca : Nat → ClassId) (se : Nat → Nat) (dp : Nat → Nat) (dn : Nat → Nat) (hd : Nat → Nat) (st : Nat → Nat) (sz : Nat → Nat) (pt : Nat → Nat) (ng : Nat → Nat) (va : Nat → Nat) (kp : Nat → Nat) (ds : Nat) (cn : Nat) (hz : Nat) (B : bM se dp dn hd st sz pt ng va kp ds cn) (x : Int32) (y : Int32)  : Met l y_M_premise w_M_premise rm_M_premise (va_Pc [.ref h0, .int x, .int y] (Pw D (wM h0 ad ca se dp dn hd st sz pt ng va kp ds cn) (yM ca) hz)) (va_Qi (fun (v : Int32) (u : (Nat) × (Nat → Nat) × (Nat → Nat)) => v = (sp_prem x ds).getD (nI (ds + 1)) ∧ u = (if sp_prem x ds = none then (ds + 1, ch_up dp ds (ch_tn x), ch_up dn ds (ch_b y)) else (ds, dp, dn))) (fun (u : (Nat) × (Nat → Nat) × (Nat → Nat)) => Bw D (wM h0 ad ca se dp dn hd st sz pt ng va kp ds cn) (wM h0 ad ca se u.2.1 u.2.2 hd st sz pt ng va kp u.1 cn) (yM ca) hz) (va_A (wM h0 ad ca se dp dn hd st sz pt ng va kp ds cn) hz)) 0 0 (va_A (wM h0 ad ca se dp dn hd st sz pt ng va kp ds cn) hz) := by
  obtain ⟨b_se, b_dp, b_dn, b_hd, b_st, b_sz, b_pt, b_ng, b_va, b_kp, b_ds, b_cn⟩ := B
  refine ct_start (by decide) (Nat.le_of_ble_eq_true rfl) ?_
  intro p e s m args below meth c A Q ls hx hb hr hlocks hml hts hown hnm hA hAe hsz hS hP hD hK hl hQ
  have hown : s.vm.findClass R_M = some m.cls := hown
  have hl : lv_has ls 3 [(0, .ref h0), (1, .int x), (2, .int y)] := hl
  have hP : va_P D classes (wM h0 ad ca se dp dn hd st sz pt ng va kp ds cn) s.heap := hP
  obtain ⟨H, hH⟩ : ∃ H, H = s.heap := ⟨_, rfl⟩
  obtain ⟨locs, hlc⟩ : ∃ locs : List Loc, locs = [] := ⟨_, rfl⟩
  have hS : va_S A s.heap H locs := by rw [hH, hlc]; exact hS
  have hP : va_P D classes (wM h0 ad ca se dp dn hd st sz pt ng va kp ds cn) H := by rw [hH]; exact hP
  have hgo : W p l e rm_M_premise s m args below meth c H locs 0 0 Q (F0 m 0 ls []) := ?_
  · rw [hH, hlc] at hgo; exact hgo
  clear hH hlc
  refine lv_aload_n hx hb d_M_premise_0 rfl (lv_at hl 0 rfl) ?_
  refine lv_iload_n hx hb d_M_premise_1 rfl (lv_at hl 1 rfl) ?_
  refine xc_iV (C := R_M) (rest := []) ⟨hx, hb, hml, hown, hts⟩ (c_M_bad l D h0 ad ca se dp dn hd st sz pt ng va kp ds cn H.size ⟨b_se, b_dp, b_dn, b_hd, b_st, b_sz, b_pt, b_ng, b_va, b_kp, b_ds, b_cn⟩ x) (cwV 1 hts (gd_v ml_M_45 im_M_bad se_M_bad ini_M cd_M_bad) rfl rfl rfl (by decide +kernel) ⟨Nat.le_of_ble_eq_true rfl, Nat.le_of_ble_eq_true rfl⟩) (va_recv hK hP (ci := 1) (q0 := 0) rfl rfl) hK hP hD hS hA rfl hl.1 rfl (Nat.le_of_ble_eq_true rfl) d_M_premise_2 ⟨Nat.le_of_ble_eq_true rfl, Nat.le_of_ble_eq_true rfl⟩ (fun r2 u2 H locs hp2 hP hD hS => ?_)
  have hP : va_P D classes (wM h0 ad ca se dp dn hd st sz pt ng va kp ds cn) H := hP
  have hD : va_D A (wM h0 ad ca se dp dn hd st sz pt ng va kp ds cn) := hD
  rcases hp2 with ⟨hc2, rfl⟩ | ⟨hc2, rfl⟩
  · obtain ⟨jx, hjx, rfl⟩ := ch_ic_get hc2 (by decide)
    refine nr_if_eq (tgt := 10) hx hb (by decide) d_M_premise_5 (by decide) (fun c5 => ?_) (fun c5 => ?_)
    · refine lv_aload_n hx hb d_M_premise_10 rfl (lv_at hl 0 rfl) ?_
      refine gtM hx hb hts hown hK hP fl_M_49 rfl (k := 1) (by decide) ⟨rfl, rfl, rfl⟩ rfl d_M_premise_11 ?_
      refine lv_iconst (v := nI 3) hx hb d_M_premise_14 (by decide) ?_
      refine nr_icmp_lt (tgt := 21) hx hb (nr_31 (B := 3) b_ds (by decide)) (by decide) d_M_premise_15 (by decide) (fun c15 => ?_) (fun c15 => ?_)
      · refine lv_aload_n hx hb d_M_premise_21 rfl (lv_at hl 0 rfl) ?_
        refine gtM hx hb hts hown hK hP fl_M_13 rfl (k := 2) (by decide) ⟨rfl, rfl, rfl⟩ rfl d_M_premise_22 ?_
        refine lv_aload_n hx hb d_M_premise_25 rfl (lv_at hl 0 rfl) ?_
        refine gtM hx hb hts hown hK hP fl_M_49 rfl (k := 1) (by decide) ⟨rfl, rfl, rfl⟩ rfl d_M_premise_26 ?_
        refine lv_iload_n hx hb d_M_premise_29 rfl (lv_at hl 1 rfl) ?_
        refine nr_iast hx hb hK hP hD hS 2 1 rfl rfl (by omega) (by decide) d_M_premise_30 (fun H locs hP hD hS => ?_)
        have hP : va_P D classes (wM h0 ad ca se (ch_up dp ds jx) dn hd st sz pt ng va kp ds cn) H := hP
        have hD : va_D A (wM h0 ad ca se (ch_up dp ds jx) dn hd st sz pt ng va kp ds cn) := hD
        refine lv_aload_n hx hb d_M_premise_31 rfl (lv_at hl 0 rfl) ?_
        refine gtM hx hb hts hown hK hP fl_M_16 rfl (k := 3) (by decide) ⟨rfl, rfl, rfl⟩ rfl d_M_premise_32 ?_
        refine lv_aload_n hx hb d_M_premise_35 rfl (lv_at hl 0 rfl) ?_
        refine gtM hx hb hts hown hK hP fl_M_49 rfl (k := 1) (by decide) ⟨rfl, rfl, rfl⟩ rfl d_M_premise_36 ?_
        refine lv_iload_n hx hb d_M_premise_39 rfl (lv_at hl 2 rfl) ?_
        refine lv_if_eq (tgt := 47) hx hb  d_M_premise_40 (by decide) (fun c40 => ?_) (fun c40 => ?_)
        · refine lv_iconst (v := nI 0) hx hb d_M_premise_47 (by decide) ?_
          refine nr_zast hx hb hK hP hD hS 3 2 rfl rfl (by omega) (by decide) (by decide) d_M_premise_48 (fun H locs hP hD hS => ?_)
          have hP : va_P D classes (wM h0 ad ca se (ch_up dp ds jx) (ch_up dn ds 0) hd st sz pt ng va kp ds cn) H := hP
          have hD : va_D A (wM h0 ad ca se (ch_up dp ds jx) (ch_up dn ds 0) hd st sz pt ng va kp ds cn) := hD
          refine lv_aload_n hx hb d_M_premise_49 rfl (lv_at hl 0 rfl) ?_
          refine lv_dup hx hb d_M_premise_50 rfl ?_
          refine gtM hx hb hts hown hK hP fl_M_49 rfl (k := 1) (by decide) ⟨rfl, rfl, rfl⟩ rfl d_M_premise_51 ?_
          refine lv_iconst (v := nI 1) hx hb d_M_premise_54 (by decide) ?_
          refine nr_iadd hx hb d_M_premise_55 ?_
          refine ptM hx hb hts hown hK hP hD hS fl_M_49 rfl (k := 1) (by decide) ⟨rfl, rfl, rfl, rfl⟩ (ty := .int) (by decide +kernel) rfl rfl (Nat.le_of_ble_eq_true rfl) d_M_premise_56 (fun H locs hP hD hS => ?_)
          have hP : va_P D classes (wM h0 ad ca se (ch_up dp ds jx) (ch_up dn ds 0) hd st sz pt ng va kp (ds + 1) cn) H := hP
          have hD : va_D A (wM h0 ad ca se (ch_up dp ds jx) (ch_up dn ds 0) hd st sz pt ng va kp (ds + 1) cn) := hD
          refine lv_aload_n hx hb d_M_premise_59 rfl (lv_at hl 0 rfl) ?_
          refine gtM hx hb hts hown hK hP fl_M_49 rfl (k := 1) (by decide) ⟨rfl, rfl, rfl⟩ rfl d_M_premise_60 ?_
          exact ct_iret (ds + 1, ch_up dp ds jx, ch_up dn ds 0) hQ hx hb hr hlocks hAe hK hP hD hS (sp_suc (by rw [sp_prem, if_pos hc2, if_neg (show ¬ ds = 3 by omega)]) rfl (by rw [ch_tn_nI (by omega), ch_b, if_pos c40])) d_M_premise_63
        · refine lv_iconst (v := nI 1) hx hb d_M_premise_43 (by decide) ?_
          refine lv_goto (tgt := 48) hx hb d_M_premise_44 (by decide) ?_
          refine nr_zast hx hb hK hP hD hS 3 2 rfl rfl (by omega) (by decide) (by decide) d_M_premise_48 (fun H locs hP hD hS => ?_)
          have hP : va_P D classes (wM h0 ad ca se (ch_up dp ds jx) (ch_up dn ds 1) hd st sz pt ng va kp ds cn) H := hP
          have hD : va_D A (wM h0 ad ca se (ch_up dp ds jx) (ch_up dn ds 1) hd st sz pt ng va kp ds cn) := hD
          refine lv_aload_n hx hb d_M_premise_49 rfl (lv_at hl 0 rfl) ?_
          refine lv_dup hx hb d_M_premise_50 rfl ?_
          refine gtM hx hb hts hown hK hP fl_M_49 rfl (k := 1) (by decide) ⟨rfl, rfl, rfl⟩ rfl d_M_premise_51 ?_
          refine lv_iconst (v := nI 1) hx hb d_M_premise_54 (by decide) ?_
          refine nr_iadd hx hb d_M_premise_55 ?_
          refine ptM hx hb hts hown hK hP hD hS fl_M_49 rfl (k := 1) (by decide) ⟨rfl, rfl, rfl, rfl⟩ (ty := .int) (by decide +kernel) rfl rfl (Nat.le_of_ble_eq_true rfl) d_M_premise_56 (fun H locs hP hD hS => ?_)
          have hP : va_P D classes (wM h0 ad ca se (ch_up dp ds jx) (ch_up dn ds 1) hd st sz pt ng va kp (ds + 1) cn) H := hP
          have hD : va_D A (wM h0 ad ca se (ch_up dp ds jx) (ch_up dn ds 1) hd st sz pt ng va kp (ds + 1) cn) := hD
          refine lv_aload_n hx hb d_M_premise_59 rfl (lv_at hl 0 rfl) ?_
          refine gtM hx hb hts hown hK hP fl_M_49 rfl (k := 1) (by decide) ⟨rfl, rfl, rfl⟩ rfl d_M_premise_60 ?_
          exact ct_iret (ds + 1, ch_up dp ds jx, ch_up dn ds 1) hQ hx hb hr hlocks hAe hK hP hD hS (sp_suc (by rw [sp_prem, if_pos hc2, if_neg (show ¬ ds = 3 by omega)]) rfl (by rw [ch_tn_nI (by omega), ch_b, if_neg c40])) d_M_premise_63
      · refine lv_bipush (v := (-2)) hx hb d_M_premise_18 (by decide) ?_
        exact ct_iret (ds, dp, dn) hQ hx hb hr hlocks hAe hK hP hD hS (sp_err (by rw [sp_prem, if_pos hc2, if_pos (show ds = 3 by omega)]) rfl rfl) d_M_premise_20
    · exact absurd c5 (by decide)
  · refine nr_if_eq (tgt := 10) hx hb (by decide) d_M_premise_5 (by decide) (fun c5 => ?_) (fun c5 => ?_)
    · exact absurd c5 (by decide)
    · refine lv_iconst (v := (-1)) hx hb d_M_premise_8 (by decide) ?_
      exact ct_iret (ds, dp, dn) hQ hx hb hr hlocks hAe hK hP hD hS (sp_err (by rw [sp_prem, if_neg (by rw [hc2]; decide)]) rfl rfl) d_M_premise_9

abbrev rm_M_clear : Room := { frames := 0, cells := 0, slots := 0, locals := 0 }
set_option maxHeartbeats 4000000 in
set_option maxRecDepth 100000 in
/-- clear() -/
theorem c_M_clear (l : Launch) (D : va_G) (h0 : Nat) (ad : Nat → Nat) (ca : Nat → ClassId) (se : Nat → Nat) (dp : Nat → Nat) (dn : Nat → Nat) (hd : Nat → Nat) (st : Nat → Nat) (sz : Nat → Nat) (pt : Nat → Nat) (ng : Nat → Nat) (va : Nat → Nat) (kp : Nat → Nat) (ds : Nat) (cn : Nat) (hz : Nat) (B : bM se dp dn hd st sz pt ng va kp ds cn)   : Met l y_M_clear w_M_clear rm_M_clear (va_Pc [.ref h0] (Pw D (wM h0 ad ca se dp dn hd st sz pt ng va kp ds cn) (yM ca) hz)) (va_Qi (fun (v : Int32) (u : Unit) => v = nI ds) (fun (u : Unit) => Bw D (wM h0 ad ca se dp dn hd st sz pt ng va kp ds cn) (wM h0 ad ca se dp dn hd st sz pt ng va kp 0 cn) (yM ca) hz) (va_A (wM h0 ad ca se dp dn hd st sz pt ng va kp ds cn) hz)) 0 0 (va_A (wM h0 ad ca se dp dn hd st sz pt ng va kp ds cn) hz) := by
  obtain ⟨b_se, b_dp, b_dn, b_hd, b_st, b_sz, b_pt, b_ng, b_va, b_kp, b_ds, b_cn⟩ := B
  refine ct_start (by decide) (Nat.le_of_ble_eq_true rfl) ?_
  intro p e s m args below meth c A Q ls hx hb hr hlocks hml hts hown hnm hA hAe hsz hS hP hD hK hl hQ
  have hown : s.vm.findClass R_M = some m.cls := hown
  have hl : lv_has ls 2 [(0, .ref h0)] := hl
  have hP : va_P D classes (wM h0 ad ca se dp dn hd st sz pt ng va kp ds cn) s.heap := hP
  obtain ⟨H, hH⟩ : ∃ H, H = s.heap := ⟨_, rfl⟩
  obtain ⟨locs, hlc⟩ : ∃ locs : List Loc, locs = [] := ⟨_, rfl⟩
  have hS : va_S A s.heap H locs := by rw [hH, hlc]; exact hS
  have hP : va_P D classes (wM h0 ad ca se dp dn hd st sz pt ng va kp ds cn) H := by rw [hH]; exact hP
  have hgo : W p l e rm_M_clear s m args below meth c H locs 0 0 Q (F0 m 0 ls []) := ?_
  · rw [hH, hlc] at hgo; exact hgo
  clear hH hlc
  refine lv_aload_n hx hb d_M_clear_0 rfl (lv_at hl 0 rfl) ?_
  refine gtM hx hb hts hown hK hP fl_M_49 rfl (k := 1) (by decide) ⟨rfl, rfl, rfl⟩ rfl d_M_clear_1 ?_
  refine lv_istore_n (lv' := [(1, .int (nI ds)), (0, .ref h0)]) hx hb d_M_clear_4 rfl hl (by decide) rfl (fun ls hl => ?_)
  refine lv_aload_n hx hb d_M_clear_5 rfl (lv_at hl 1 rfl) ?_
  refine lv_iconst (v := nI 0) hx hb d_M_clear_6 (by decide) ?_
  refine ptM hx hb hts hown hK hP hD hS fl_M_49 rfl (k := 1) (by decide) ⟨rfl, rfl, rfl, rfl⟩ (ty := .int) (by decide +kernel) rfl rfl (Nat.le_of_ble_eq_true rfl) d_M_clear_7 (fun H locs hP hD hS => ?_)
  have hP : va_P D classes (wM h0 ad ca se dp dn hd st sz pt ng va kp 0 cn) H := hP
  have hD : va_D A (wM h0 ad ca se dp dn hd st sz pt ng va kp 0 cn) := hD
  refine lv_iload_n hx hb d_M_clear_10 rfl (lv_at hl 0 rfl) ?_
  exact ct_iret () hQ hx hb hr hlocks hAe hK hP hD hS rfl d_M_clear_11

abbrev rm_M_rule : Room := { frames := 1, cells := 0, slots := 0, locals := 21 }
set_option maxHeartbeats 4000000 in
set_option maxRecDepth 100000 in
/-- rule(x, y) -/
theorem c_M_rule (l : Launch) (D : va_G) (h0 : Nat) (ad : Nat → Nat) (ca : Nat → ClassId) (se : Nat → Nat) (dp : Nat → Nat) (dn : Nat → Nat) (hd : Nat → Nat) (st : Nat → Nat) (sz : Nat → Nat) (pt : Nat → Nat) (ng : Nat → Nat) (va : Nat → Nat) (kp : Nat → Nat) (ds : Nat) (cn : Nat) (hz : Nat) (B : bM se dp dn hd st sz pt ng va kp ds cn) (x : Int32) (y : Int32)  : Met l y_M_rule w_M_rule rm_M_rule (va_Pc [.ref h0, .int x, .int y] (Pw D (wM h0 ad ca se dp dn hd st sz pt ng va kp ds cn) (yM ca) hz)) (va_Qi (fun (v : Int32) (u : (Nat → Nat) × (Nat → Nat) × (Nat → Nat) × (Nat → Nat) × (Nat → Nat) × (Nat) × (Nat)) => v = (sp_rule x y dp dn ds cn).getD (nI cn) ∧ u = (if sp_rule x y dp dn ds cn = none then (ch_up hd cn (ch_tn x), ch_up st cn (ch_tn y), ch_up sz cn ds, ch_cp pt dp (3 * cn) 3, ch_cp ng dn (3 * cn) 3, 0, cn + 1) else (hd, st, sz, pt, ng, ds, cn))) (fun (u : (Nat → Nat) × (Nat → Nat) × (Nat → Nat) × (Nat → Nat) × (Nat → Nat) × (Nat) × (Nat)) => Bw D (wM h0 ad ca se dp dn hd st sz pt ng va kp ds cn) (wM h0 ad ca se dp dn u.1 u.2.1 u.2.2.1 u.2.2.2.1 u.2.2.2.2.1 va kp u.2.2.2.2.2.1 u.2.2.2.2.2.2) (yM ca) hz) (va_A (wM h0 ad ca se dp dn hd st sz pt ng va kp ds cn) hz)) 0 0 (va_A (wM h0 ad ca se dp dn hd st sz pt ng va kp ds cn) hz) := by
  obtain ⟨b_se, b_dp, b_dn, b_hd, b_st, b_sz, b_pt, b_ng, b_va, b_kp, b_ds, b_cn⟩ := B
  refine ct_start (by decide) (Nat.le_of_ble_eq_true rfl) ?_
  intro p e s m args below meth c A Q ls hx hb hr hlocks hml hts hown hnm hA hAe hsz hS hP hD hK hl hQ
  have hown : s.vm.findClass R_M = some m.cls := hown
  have hl : lv_has ls 5 [(0, .ref h0), (1, .int x), (2, .int y)] := hl
  have hP : va_P D classes (wM h0 ad ca se dp dn hd st sz pt ng va kp ds cn) s.heap := hP
  obtain ⟨H, hH⟩ : ∃ H, H = s.heap := ⟨_, rfl⟩
  obtain ⟨locs, hlc⟩ : ∃ locs : List Loc, locs = [] := ⟨_, rfl⟩
  have hS : va_S A s.heap H locs := by rw [hH, hlc]; exact hS
  have hP : va_P D classes (wM h0 ad ca se dp dn hd st sz pt ng va kp ds cn) H := by rw [hH]; exact hP
  have hgo : W p l e rm_M_rule s m args below meth c H locs 0 0 Q (F0 m 0 ls []) := ?_
  · rw [hH, hlc] at hgo; exact hgo
  clear hH hlc
  refine lv_aload_n hx hb d_M_rule_0 rfl (lv_at hl 0 rfl) ?_
  refine lv_iload_n hx hb d_M_rule_1 rfl (lv_at hl 1 rfl) ?_
  refine xc_iV (C := R_M) (rest := []) ⟨hx, hb, hml, hown, hts⟩ (c_M_bad l D h0 ad ca se dp dn hd st sz pt ng va kp ds cn H.size ⟨b_se, b_dp, b_dn, b_hd, b_st, b_sz, b_pt, b_ng, b_va, b_kp, b_ds, b_cn⟩ x) (cwV 1 hts (gd_v ml_M_45 im_M_bad se_M_bad ini_M cd_M_bad) rfl rfl rfl (by decide +kernel) ⟨Nat.le_of_ble_eq_true rfl, Nat.le_of_ble_eq_true rfl⟩) (va_recv hK hP (ci := 1) (q0 := 0) rfl rfl) hK hP hD hS hA rfl hl.1 rfl (Nat.le_of_ble_eq_true rfl) d_M_rule_2 ⟨Nat.le_of_ble_eq_true rfl, Nat.le_of_ble_eq_true rfl⟩ (fun r2 u2 H locs hp2 hP hD hS => ?_)
  have hP : va_P D classes (wM h0 ad ca se dp dn hd st sz pt ng va kp ds cn) H := hP
  have hD : va_D A (wM h0 ad ca se dp dn hd st sz pt ng va kp ds cn) := hD
  rcases hp2 with ⟨hc2, rfl⟩ | ⟨hc2, rfl⟩
  · obtain ⟨jx, hjx, rfl⟩ := ch_ic_get hc2 (by decide)
    refine nr_if_eq (tgt := 10) hx hb (by decide) d_M_rule_5 (by decide) (fun c5 => ?_) (fun c5 => ?_)
    · refine lv_iload_n hx hb d_M_rule_10 rfl (lv_at hl 2 rfl) ?_
      refine lv_iconst (v := nI 1) hx hb d_M_rule_11 (by decide) ?_
      refine lv_icmp_lt (tgt := 21) hx hb  d_M_rule_12 (by decide) (fun c12 => ?_) (fun c12 => ?_)
      · refine lv_bipush (v := (-2)) hx hb d_M_rule_21 (by decide) ?_
        exact ct_iret (hd, st, sz, pt, ng, ds, cn) hQ hx hb hr hlocks hAe hK hP hD hS (sp_err (by rw [sp_rule, if_pos hc2, if_pos (Or.inl c12)]) rfl rfl) d_M_rule_23
      · refine lv_iload_n hx hb d_M_rule_15 rfl (lv_at hl 2 rfl) ?_
        refine lv_bipush (v := nI 100) hx hb d_M_rule_16 (by decide) ?_
        refine lv_icmp_le (tgt := 24) hx hb  d_M_rule_18 (by decide) (fun c18 => ?_) (fun c18 => ?_)
        · obtain ⟨sy, hsy, rfl⟩ := nr_rng1 c12 c18
          refine lv_iconst (v := nI 0) hx hb d_M_rule_24 (by decide) ?_
          refine lv_istore_n (lv' := [(3, .int (nI 0)), (0, .ref h0), (1, .int (nI jx)), (2, .int (nI sy))]) hx hb d_M_rule_25 rfl hl (by decide) rfl (fun ls hl => ?_)
          have lp26 : ∀ (n : Nat) (k : Nat) (H : Heap) (locs : List Loc) (ls : Array Slot), ds + 1 ≤ k + n → (k ≤ ds) → (sp_hi jx dp dn k = false) → va_P D classes (wM h0 ad ca se dp dn hd st sz pt ng va kp ds cn) H → va_D A (wM h0 ad ca se dp dn hd st sz pt ng va kp ds cn) → va_S A s.heap H locs → lv_has ls 5 [(0, .ref h0), (1, .int (nI jx)), (2, .int (nI sy)), (3, .int (nI k))] → W p l e rm_M_rule s m args below meth c H locs 0 0 Q (F0 m 26 ls []) := by
            intro n
            induction n with
            | zero =>
              intro k H locs ls hn26 hk hh
              exact absurd hn26 (by omega)
            | succ n ih26 =>
              intro k H locs ls hn26 hk hh hP hD hS hl
              refine lv_iload_n hx hb d_M_rule_26 rfl (lv_at hl 3 rfl) ?_
              refine lv_aload_n hx hb d_M_rule_27 rfl (lv_at hl 0 rfl) ?_
              refine gtM hx hb hts hown hK hP fl_M_49 rfl (k := 1) (by decide) ⟨rfl, rfl, rfl⟩ rfl d_M_rule_28 ?_
              refine nr_icmp_ge (tgt := 83) hx hb (nr_31 (B := 3) (Nat.le_trans hk b_ds) (by decide)) (nr_31 (B := 3) b_ds (by decide)) d_M_rule_31 (by decide) (fun c31 => ?_) (fun c31 => ?_)
              · have hh2 : sp_hi jx dp dn ds = false := (show k = ds by omega) ▸ hh
                refine lv_aload_n hx hb d_M_rule_83 rfl (lv_at hl 0 rfl) ?_
                refine gtM hx hb hts hown hK hP fl_M_41 rfl (k := 4) (by decide) ⟨rfl, rfl, rfl⟩ rfl d_M_rule_84 ?_
                refine lv_istore_n (lv' := [(3, .int (nI cn)), (0, .ref h0), (1, .int (nI jx)), (2, .int (nI sy))]) hx hb d_M_rule_87 rfl hl (by decide) rfl (fun ls hl => ?_)
                refine lv_iload_n hx hb d_M_rule_88 rfl (lv_at hl 0 rfl) ?_
                refine lv_bipush (v := nI 20) hx hb d_M_rule_89 (by decide) ?_
                refine nr_icmp_lt (tgt := 97) hx hb (nr_31 (B := 20) b_cn (by decide)) (by decide) d_M_rule_91 (by decide) (fun c91 => ?_) (fun c91 => ?_)
                · refine lv_aload_n hx hb d_M_rule_97 rfl (lv_at hl 1 rfl) ?_
                  refine gtM hx hb hts hown hK hP fl_M_20 rfl (k := 5) (by decide) ⟨rfl, rfl, rfl⟩ rfl d_M_rule_98 ?_
                  refine lv_iload_n hx hb d_M_rule_101 rfl (lv_at hl 0 rfl) ?_
                  refine lv_iload_n hx hb d_M_rule_102 rfl (lv_at hl 2 rfl) ?_
                  refine nr_iast hx hb hK hP hD hS 4 3 rfl rfl (by omega) (by decide) d_M_rule_103 (fun H locs hP hD hS => ?_)
                  have hP : va_P D classes (wM h0 ad ca se dp dn (ch_up hd cn jx) st sz pt ng va kp ds cn) H := hP
                  have hD : va_D A (wM h0 ad ca se dp dn (ch_up hd cn jx) st sz pt ng va kp ds cn) := hD
                  refine lv_aload_n hx hb d_M_rule_104 rfl (lv_at hl 1 rfl) ?_
                  refine gtM hx hb hts hown hK hP fl_M_23 rfl (k := 6) (by decide) ⟨rfl, rfl, rfl⟩ rfl d_M_rule_105 ?_
                  refine lv_iload_n hx hb d_M_rule_108 rfl (lv_at hl 0 rfl) ?_
                  refine lv_iload_n hx hb d_M_rule_109 rfl (lv_at hl 3 rfl) ?_
                  refine nr_iast hx hb hK hP hD hS 5 4 rfl rfl (by omega) (by decide) d_M_rule_110 (fun H locs hP hD hS => ?_)
                  have hP : va_P D classes (wM h0 ad ca se dp dn (ch_up hd cn jx) (ch_up st cn sy) sz pt ng va kp ds cn) H := hP
                  have hD : va_D A (wM h0 ad ca se dp dn (ch_up hd cn jx) (ch_up st cn sy) sz pt ng va kp ds cn) := hD
                  refine lv_aload_n hx hb d_M_rule_111 rfl (lv_at hl 1 rfl) ?_
                  refine gtM hx hb hts hown hK hP fl_M_26 rfl (k := 7) (by decide) ⟨rfl, rfl, rfl⟩ rfl d_M_rule_112 ?_
                  refine lv_iload_n hx hb d_M_rule_115 rfl (lv_at hl 0 rfl) ?_
                  refine lv_aload_n hx hb d_M_rule_116 rfl (lv_at hl 1 rfl) ?_
                  refine gtM hx hb hts hown hK hP fl_M_49 rfl (k := 1) (by decide) ⟨rfl, rfl, rfl⟩ rfl d_M_rule_117 ?_
                  refine nr_iast hx hb hK hP hD hS 6 5 rfl rfl (by omega) (by decide) d_M_rule_120 (fun H locs hP hD hS => ?_)
                  have hP : va_P D classes (wM h0 ad ca se dp dn (ch_up hd cn jx) (ch_up st cn sy) (ch_up sz cn ds) pt ng va kp ds cn) H := hP
                  have hD : va_D A (wM h0 ad ca se dp dn (ch_up hd cn jx) (ch_up st cn sy) (ch_up sz cn ds) pt ng va kp ds cn) := hD
                  refine lv_iconst (v := nI 0) hx hb d_M_rule_121 (by decide) ?_
                  refine lv_istore (lv' := [(4, .int (nI 0)), (3, .int (nI cn)), (0, .ref h0), (1, .int (nI jx)), (2, .int (nI sy))]) hx hb d_M_rule_122 hl (by decide) rfl (fun ls hl => ?_)
                  have lp124 : ∀ (n : Nat) (k2 : Nat) (p1 : Nat → Nat) (n1 : Nat → Nat) (H : Heap) (locs : List Loc) (ls : Array Slot), 3 + 1 ≤ k2 + n → (k2 ≤ 3) → (ch_bd 15 p1) → (ch_bd 1 n1) → (p1 = ch_cp pt dp (3 * cn) k2) → (n1 = ch_cp ng dn (3 * cn) k2) → va_P D classes (wM h0 ad ca se dp dn (ch_up hd cn jx) (ch_up st cn sy) (ch_up sz cn ds) p1 n1 va kp ds cn) H → va_D A (wM h0 ad ca se dp dn (ch_up hd cn jx) (ch_up st cn sy) (ch_up sz cn ds) p1 n1 va kp ds cn) → va_S A s.heap H locs → lv_has ls 5 [(0, .ref h0), (1, .int (nI jx)), (2, .int (nI sy)), (3, .int (nI cn)), (4, .int (nI k2))] → W p l e rm_M_rule s m args below meth c H locs 0 0 Q (F0 m 124 ls []) := by
                    intro n
                    induction n with
                    | zero =>
                      intro k2 p1 n1 H locs ls hn124 hk2 bp1 bn1 hp1 hn1
                      exact absurd hn124 (by omega)
                    | succ n ih124 =>
                      intro k2 p1 n1 H locs ls hn124 hk2 bp1 bn1 hp1 hn1 hP hD hS hl
                      refine lv_iload hx hb d_M_rule_124 (lv_at hl 4 rfl) ?_
                      refine lv_iconst (v := nI 3) hx hb d_M_rule_126 (by decide) ?_
                      refine nr_icmp_ge (tgt := 172) hx hb (nr_31 (B := 3) hk2 (by decide)) (by decide) d_M_rule_127 (by decide) (fun c127 => ?_) (fun c127 => ?_)
                      · refine lv_aload_n hx hb d_M_rule_172 rfl (lv_at hl 0 rfl) ?_
                        refine lv_iload_n hx hb d_M_rule_173 rfl (lv_at hl 3 rfl) ?_
                        refine lv_iconst (v := nI 1) hx hb d_M_rule_174 (by decide) ?_
                        refine nr_iadd hx hb d_M_rule_175 ?_
                        refine ptM hx hb hts hown hK hP hD hS fl_M_41 rfl (k := 4) (by decide) ⟨rfl, rfl, rfl, rfl⟩ (ty := .int) (by decide +kernel) rfl rfl (Nat.le_of_ble_eq_true rfl) d_M_rule_176 (fun H locs hP hD hS => ?_)
                        have hP : va_P D classes (wM h0 ad ca se dp dn (ch_up hd cn jx) (ch_up st cn sy) (ch_up sz cn ds) p1 n1 va kp ds (cn + 1)) H := hP
                        have hD : va_D A (wM h0 ad ca se dp dn (ch_up hd cn jx) (ch_up st cn sy) (ch_up sz cn ds) p1 n1 va kp ds (cn + 1)) := hD
                        refine lv_aload_n hx hb d_M_rule_179 rfl (lv_at hl 0 rfl) ?_
                        refine lv_iconst (v := nI 0) hx hb d_M_rule_180 (by decide) ?_
                        refine ptM hx hb hts hown hK hP hD hS fl_M_49 rfl (k := 1) (by decide) ⟨rfl, rfl, rfl, rfl⟩ (ty := .int) (by decide +kernel) rfl rfl (Nat.le_of_ble_eq_true rfl) d_M_rule_181 (fun H locs hP hD hS => ?_)
                        have hP : va_P D classes (wM h0 ad ca se dp dn (ch_up hd cn jx) (ch_up st cn sy) (ch_up sz cn ds) p1 n1 va kp 0 (cn + 1)) H := hP
                        have hD : va_D A (wM h0 ad ca se dp dn (ch_up hd cn jx) (ch_up st cn sy) (ch_up sz cn ds) p1 n1 va kp 0 (cn + 1)) := hD
                        refine lv_iload_n hx hb d_M_rule_184 rfl (lv_at hl 3 rfl) ?_
                        exact ct_iret (ch_up hd cn jx, ch_up st cn sy, ch_up sz cn ds, p1, n1, 0, cn + 1) hQ hx hb hr hlocks hAe hK hP hD hS (sp_suc (by rw [sp_rule, if_pos hc2, if_neg (fun z9 => z9.elim c12 (fun y9 => y9 c18)), if_neg (by rw [ch_tn_nI (by omega), hh2]; decide), if_neg (show ¬ cn = 20 by omega)]) rfl (by rw [ch_tn_nI (by omega), ch_tn_nI (by omega), hp1, hn1, show k2 = 3 by omega])) d_M_rule_185
                      · refine lv_aload_n hx hb d_M_rule_130 rfl (lv_at hl 0 rfl) ?_
                        refine gtM hx hb hts hown hK hP fl_M_29 rfl (k := 8) (by decide) ⟨rfl, rfl, rfl⟩ rfl d_M_rule_131 ?_
                        refine lv_iconst (v := nI 3) hx hb d_M_rule_134 (by decide) ?_
                        refine lv_iload_n hx hb d_M_rule_135 rfl (lv_at hl 3 rfl) ?_
                        refine nr_imul hx hb d_M_rule_136 ?_
                        refine lv_iload hx hb d_M_rule_137 (lv_at hl 4 rfl) ?_
                        refine nr_iadd hx hb d_M_rule_139 ?_
                        refine lv_aload_n hx hb d_M_rule_140 rfl (lv_at hl 0 rfl) ?_
                        refine gtM hx hb hts hown hK hP fl_M_13 rfl (k := 2) (by decide) ⟨rfl, rfl, rfl⟩ rfl d_M_rule_141 ?_
                        refine lv_iload hx hb d_M_rule_144 (lv_at hl 4 rfl) ?_
                        refine nr_iald hx hb hK hP 2 1 rfl rfl (by omega) (by decide) d_M_rule_146 ?_
                        refine nr_iast hx hb hK hP hD hS 7 6 rfl rfl (by omega) (by decide) d_M_rule_147 (fun H locs hP hD hS => ?_)
                        have hP : va_P D classes (wM h0 ad ca se dp dn (ch_up hd cn jx) (ch_up st cn sy) (ch_up sz cn ds) (ch_up p1 ((3 * cn) + k2) (dp k2)) n1 va kp ds cn) H := hP
                        have hD : va_D A (wM h0 ad ca se dp dn (ch_up hd cn jx) (ch_up st cn sy) (ch_up sz cn ds) (ch_up p1 ((3 * cn) + k2) (dp k2)) n1 va kp ds cn) := hD
                        refine lv_aload_n hx hb d_M_rule_148 rfl (lv_at hl 0 rfl) ?_
                        refine gtM hx hb hts hown hK hP fl_M_32 rfl (k := 9) (by decide) ⟨rfl, rfl, rfl⟩ rfl d_M_rule_149 ?_
                        refine lv_iconst (v := nI 3) hx hb d_M_rule_152 (by decide) ?_
                        refine lv_iload_n hx hb d_M_rule_153 rfl (lv_at hl 3 rfl) ?_
                        refine nr_imul hx hb d_M_rule_154 ?_
                        refine lv_iload hx hb d_M_rule_155 (lv_at hl 4 rfl) ?_
                        refine nr_iadd hx hb d_M_rule_157 ?_
                        refine lv_aload_n hx hb d_M_rule_158 rfl (lv_at hl 0 rfl) ?_
                        refine gtM hx hb hts hown hK hP fl_M_16 rfl (k := 3) (by decide) ⟨rfl, rfl, rfl⟩ rfl d_M_rule_159 ?_
                        refine lv_iload hx hb d_M_rule_162 (lv_at hl 4 rfl) ?_
                        refine nr_zald hx hb hK hP 3 2 rfl rfl (by omega) (by decide) d_M_rule_164 ?_
                        refine nr_zast hx hb hK hP hD hS 8 7 rfl rfl (by omega) (by decide) (b_dn _) d_M_rule_165 (fun H locs hP hD hS => ?_)
                        have hP : va_P D classes (wM h0 ad ca se dp dn (ch_up hd cn jx) (ch_up st cn sy) (ch_up sz cn ds) (ch_up p1 ((3 * cn) + k2) (dp k2)) (ch_up n1 ((3 * cn) + k2) (dn k2)) va kp ds cn) H := hP
                        have hD : va_D A (wM h0 ad ca se dp dn (ch_up hd cn jx) (ch_up st cn sy) (ch_up sz cn ds) (ch_up p1 ((3 * cn) + k2) (dp k2)) (ch_up n1 ((3 * cn) + k2) (dn k2)) va kp ds cn) := hD
                        refine lv_iinc (v := nI (k2 + 1)) (lv' := [(4, .int (nI (k2 + 1))), (0, .ref h0), (1, .int (nI jx)), (2, .int (nI sy)), (3, .int (nI cn))]) hx hb d_M_rule_166 hl (k := 4) rfl (nI_1 _) (by decide) rfl (fun ls hl => ?_)
                        refine lv_goto (tgt := 124) hx hb d_M_rule_169 (by decide) ?_
                        exact ih124 (k2 + 1) (ch_up p1 ((3 * cn) + k2) (dp k2)) (ch_up n1 ((3 * cn) + k2) (dn k2)) _ _ _ (by omega) (by omega) (ch_bd_up bp1 (b_dp _)) (ch_bd_up bn1 (b_dn _)) (by rw [hp1, ch_cp_s]) (by rw [hn1, ch_cp_s]) hP hD hS (lv_sub hl [1, 2, 3, 4, 0] rfl)
                  exact lp124 (3 + 1) 0 pt ng _ _ _ (by omega) (Nat.zero_le _) b_pt b_ng ((ch_cp_0 _ _ _).symm) ((ch_cp_0 _ _ _).symm) hP hD hS (lv_sub hl [2, 3, 4, 1, 0] rfl)
                · refine lv_bipush (v := (-4)) hx hb d_M_rule_94 (by decide) ?_
                  exact ct_iret (hd, st, sz, pt, ng, ds, cn) hQ hx hb hr hlocks hAe hK hP hD hS (sp_err (by rw [sp_rule, if_pos hc2, if_neg (fun z9 => z9.elim c12 (fun y9 => y9 c18)), if_neg (by rw [ch_tn_nI (by omega), hh2]; decide), if_pos (show cn = 20 by omega)]) rfl rfl) d_M_rule_96
              · refine lv_iload_n hx hb d_M_rule_34 rfl (lv_at hl 3 rfl) ?_
                refine lv_iconst (v := nI 3) hx hb d_M_rule_35 (by decide) ?_
                refine nr_icmp_ge (tgt := 83) hx hb (nr_31 (B := 3) (Nat.le_trans hk b_ds) (by decide)) (by decide) d_M_rule_36 (by decide) (fun c36 => ?_) (fun c36 => ?_)
                · exact absurd c36 (by omega)
                · refine lv_aload_n hx hb d_M_rule_39 rfl (lv_at hl 0 rfl) ?_
                  refine gtM hx hb hts hown hK hP fl_M_13 rfl (k := 2) (by decide) ⟨rfl, rfl, rfl⟩ rfl d_M_rule_40 ?_
                  refine lv_iload_n hx hb d_M_rule_43 rfl (lv_at hl 3 rfl) ?_
                  refine nr_iald hx hb hK hP 2 1 rfl rfl (by omega) (by decide) d_M_rule_44 ?_
                  refine lv_iconst (v := nI 4) hx hb d_M_rule_45 (by decide) ?_
                  refine nr_idiv hx hb (nr_31 (B := 15) (b_dp _) (by decide)) (by decide) (by decide) d_M_rule_46 ?_
                  refine lv_istore (lv' := [(4, .int (nI ((dp k) / 4))), (0, .ref h0), (1, .int (nI jx)), (2, .int (nI sy)), (3, .int (nI k))]) hx hb d_M_rule_47 hl (by decide) rfl (fun ls hl => ?_)
                  refine lv_iload hx hb d_M_rule_49 (lv_at hl 0 rfl) ?_
                  refine lv_iload_n hx hb d_M_rule_51 rfl (lv_at hl 2 rfl) ?_
                  refine lv_iconst (v := nI 4) hx hb d_M_rule_52 (by decide) ?_
                  refine nr_idiv hx hb (nr_31 (B := 15) (Nat.le_of_lt_succ hjx) (by decide)) (by decide) (by decide) d_M_rule_53 ?_
                  refine nr_icmp_gt (tgt := 74) hx hb (nr_31 (B := 15) (Nat.le_trans (Nat.div_le_self _ _) (b_dp _)) (by decide)) (nr_31 (B := 15) (Nat.le_trans (Nat.div_le_self _ _) (Nat.le_of_lt_succ hjx)) (by decide)) d_M_rule_54 (by decide) (fun c54 => ?_) (fun c54 => ?_)
                  · refine lv_bipush (v := (-3)) hx hb d_M_rule_74 (by decide) ?_
                    exact ct_iret (hd, st, sz, pt, ng, ds, cn) hQ hx hb hr hlocks hAe hK hP hD hS (sp_err (by rw [sp_rule, if_pos hc2, if_neg (fun z9 => z9.elim c12 (fun y9 => y9 c18)), if_pos (by rw [ch_tn_nI (by omega)]; exact sp_hi_t (k := k) (Or.inl c54) ds (by omega))]) rfl rfl) d_M_rule_76
                  · refine lv_aload_n hx hb d_M_rule_57 rfl (lv_at hl 1 rfl) ?_
                    refine gtM hx hb hts hown hK hP fl_M_16 rfl (k := 3) (by decide) ⟨rfl, rfl, rfl⟩ rfl d_M_rule_58 ?_
                    refine lv_iload_n hx hb d_M_rule_61 rfl (lv_at hl 4 rfl) ?_
                    refine nr_zald hx hb hK hP 3 2 rfl rfl (by omega) (by decide) d_M_rule_62 ?_
                    refine nr_if_eq (tgt := 77) hx hb (nr_31 (B := 1) (b_dn _) (by decide)) d_M_rule_63 (by decide) (fun c63 => ?_) (fun c63 => ?_)
                    · refine lv_iinc (v := nI (k + 1)) (lv' := [(3, .int (nI (k + 1))), (4, .int (nI ((dp k) / 4))), (0, .ref h0), (1, .int (nI jx)), (2, .int (nI sy))]) hx hb d_M_rule_77 hl (k := 4) rfl (nI_1 _) (by decide) rfl (fun ls hl => ?_)
                      refine lv_goto (tgt := 26) hx hb d_M_rule_80 (by decide) ?_
                      exact ih26 (k + 1) _ _ _ (by omega) (by omega) (sp_hi_f hh (fun z9 => z9.elim c54 (fun y9 => y9.1 c63))) hP hD hS (lv_sub hl [2, 3, 4, 0] rfl)
                    · refine lv_iload hx hb d_M_rule_66 (lv_at hl 0 rfl) ?_
                      refine lv_iload_n hx hb d_M_rule_68 rfl (lv_at hl 2 rfl) ?_
                      refine lv_iconst (v := nI 4) hx hb d_M_rule_69 (by decide) ?_
                      refine nr_idiv hx hb (nr_31 (B := 15) (Nat.le_of_lt_succ hjx) (by decide)) (by decide) (by decide) d_M_rule_70 ?_
                      refine nr_icmp_ne (tgt := 77) hx hb (nr_31 (B := 15) (Nat.le_trans (Nat.div_le_self _ _) (b_dp _)) (by decide)) (nr_31 (B := 15) (Nat.le_trans (Nat.div_le_self _ _) (Nat.le_of_lt_succ hjx)) (by decide)) d_M_rule_71 (by decide) (fun c71 => ?_) (fun c71 => ?_)
                      · refine lv_iinc (v := nI (k + 1)) (lv' := [(3, .int (nI (k + 1))), (4, .int (nI ((dp k) / 4))), (0, .ref h0), (1, .int (nI jx)), (2, .int (nI sy))]) hx hb d_M_rule_77 hl (k := 4) rfl (nI_1 _) (by decide) rfl (fun ls hl => ?_)
                        refine lv_goto (tgt := 26) hx hb d_M_rule_80 (by decide) ?_
                        exact ih26 (k + 1) _ _ _ (by omega) (by omega) (sp_hi_f hh (fun z9 => z9.elim c54 (fun y9 => c71 y9.2))) hP hD hS (lv_sub hl [2, 3, 4, 0] rfl)
                      · refine lv_bipush (v := (-3)) hx hb d_M_rule_74 (by decide) ?_
                        exact ct_iret (hd, st, sz, pt, ng, ds, cn) hQ hx hb hr hlocks hAe hK hP hD hS (sp_err (by rw [sp_rule, if_pos hc2, if_neg (fun z9 => z9.elim c12 (fun y9 => y9 c18)), if_pos (by rw [ch_tn_nI (by omega)]; exact sp_hi_t (k := k) (Or.inr ⟨c63, c71⟩) ds (by omega))]) rfl rfl) d_M_rule_76
          exact lp26 (ds + 1) 0 _ _ _ (by omega) (Nat.zero_le _) rfl hP hD hS (lv_sub hl [1, 2, 3, 0] rfl)
        · refine lv_bipush (v := (-2)) hx hb d_M_rule_21 (by decide) ?_
          exact ct_iret (hd, st, sz, pt, ng, ds, cn) hQ hx hb hr hlocks hAe hK hP hD hS (sp_err (by rw [sp_rule, if_pos hc2, if_pos (Or.inr c18)]) rfl rfl) d_M_rule_23
    · exact absurd c5 (by decide)
  · refine nr_if_eq (tgt := 10) hx hb (by decide) d_M_rule_5 (by decide) (fun c5 => ?_) (fun c5 => ?_)
    · exact absurd c5 (by decide)
    · refine lv_iconst (v := (-1)) hx hb d_M_rule_8 (by decide) ?_
      exact ct_iret (hd, st, sz, pt, ng, ds, cn) hQ hx hb hr hlocks hAe hK hP hD hS (sp_err (by rw [sp_rule, if_neg (by rw [hc2]; decide)]) rfl rfl) d_M_rule_9

abbrev rm_M_remove : Room := { frames := 1, cells := 0, slots := 0, locals := 21 }
set_option maxHeartbeats 4000000 in
set_option maxRecDepth 100000 in
/-- remove(x) -/
theorem c_M_remove (l : Launch) (D : va_G) (h0 : Nat) (ad : Nat → Nat) (ca : Nat → ClassId) (se : Nat → Nat) (dp : Nat → Nat) (dn : Nat → Nat) (hd : Nat → Nat) (st : Nat → Nat) (sz : Nat → Nat) (pt : Nat → Nat) (ng : Nat → Nat) (va : Nat → Nat) (kp : Nat → Nat) (ds : Nat) (cn : Nat) (hz : Nat) (B : bM se dp dn hd st sz pt ng va kp ds cn) (x : Int32)  : Met l y_M_remove w_M_remove rm_M_remove (va_Pc [.ref h0, .int x] (Pw D (wM h0 ad ca se dp dn hd st sz pt ng va kp ds cn) (yM ca) hz)) (va_Qi (fun (v : Int32) (u : (Nat → Nat) × (Nat → Nat) × (Nat → Nat) × (Nat → Nat) × (Nat → Nat) × (Nat)) => v = (sp_rem x cn).getD (nI (cn - 1)) ∧ u = (if sp_rem x cn = none then (ch_sh hd (ch_tn x) (cn - 1) 1, ch_sh st (ch_tn x) (cn - 1) 1, ch_sh sz (ch_tn x) (cn - 1) 1, ch_sh pt (3 * ch_tn x) (3 * (cn - 1)) 3, ch_sh ng (3 * ch_tn x) (3 * (cn - 1)) 3, cn - 1) else (hd, st, sz, pt, ng, cn))) (fun (u : (Nat → Nat) × (Nat → Nat) × (Nat → Nat) × (Nat → Nat) × (Nat → Nat) × (Nat)) => Bw D (wM h0 ad ca se dp dn hd st sz pt ng va kp ds cn) (wM h0 ad ca se dp dn u.1 u.2.1 u.2.2.1 u.2.2.2.1 u.2.2.2.2.1 va kp ds u.2.2.2.2.2) (yM ca) hz) (va_A (wM h0 ad ca se dp dn hd st sz pt ng va kp ds cn) hz)) 0 0 (va_A (wM h0 ad ca se dp dn hd st sz pt ng va kp ds cn) hz) := by
  obtain ⟨b_se, b_dp, b_dn, b_hd, b_st, b_sz, b_pt, b_ng, b_va, b_kp, b_ds, b_cn⟩ := B
  refine ct_start (by decide) (Nat.le_of_ble_eq_true rfl) ?_
  intro p e s m args below meth c A Q ls hx hb hr hlocks hml hts hown hnm hA hAe hsz hS hP hD hK hl hQ
  have hown : s.vm.findClass R_M = some m.cls := hown
  have hl : lv_has ls 4 [(0, .ref h0), (1, .int x)] := hl
  have hP : va_P D classes (wM h0 ad ca se dp dn hd st sz pt ng va kp ds cn) s.heap := hP
  obtain ⟨H, hH⟩ : ∃ H, H = s.heap := ⟨_, rfl⟩
  obtain ⟨locs, hlc⟩ : ∃ locs : List Loc, locs = [] := ⟨_, rfl⟩
  have hS : va_S A s.heap H locs := by rw [hH, hlc]; exact hS
  have hP : va_P D classes (wM h0 ad ca se dp dn hd st sz pt ng va kp ds cn) H := by rw [hH]; exact hP
  have hgo : W p l e rm_M_remove s m args below meth c H locs 0 0 Q (F0 m 0 ls []) := ?_
  · rw [hH, hlc] at hgo; exact hgo
  clear hH hlc
  refine lv_aload_n hx hb d_M_remove_0 rfl (lv_at hl 0 rfl) ?_
  refine lv_iload_n hx hb d_M_remove_1 rfl (lv_at hl 1 rfl) ?_
  refine xc_iV (C := R_M) (rest := []) ⟨hx, hb, hml, hown, hts⟩ (c_M_badRule l D h0 ad ca se dp dn hd st sz pt ng va kp ds cn H.size ⟨b_se, b_dp, b_dn, b_hd, b_st, b_sz, b_pt, b_ng, b_va, b_kp, b_ds, b_cn⟩ x) (cwV 1 hts (gd_v ml_M_52 im_M_badRule se_M_badRule ini_M cd_M_badRule) rfl rfl rfl (by decide +kernel) ⟨Nat.le_of_ble_eq_true rfl, Nat.le_of_ble_eq_true rfl⟩) (va_recv hK hP (ci := 1) (q0 := 0) rfl rfl) hK hP hD hS hA rfl hl.1 rfl (Nat.le_of_ble_eq_true rfl) d_M_remove_2 ⟨Nat.le_of_ble_eq_true rfl, Nat.le_of_ble_eq_true rfl⟩ (fun r2 u2 H locs hp2 hP hD hS => ?_)
  have hP : va_P D classes (wM h0 ad ca se dp dn hd st sz pt ng va kp ds cn) H := hP
  have hD : va_D A (wM h0 ad ca se dp dn hd st sz pt ng va kp ds cn) := hD
  rcases hp2 with ⟨hc2, rfl⟩ | ⟨hc2, rfl⟩
  · obtain ⟨jx, hjx, rfl⟩ := ch_ic_get hc2 (nr_31 b_cn (by decide))
    refine nr_if_eq (tgt := 10) hx hb (by decide) d_M_remove_5 (by decide) (fun c5 => ?_) (fun c5 => ?_)
    · refine lv_iload_n hx hb d_M_remove_10 rfl (lv_at hl 1 rfl) ?_
      refine lv_istore_n (lv' := [(2, .int (nI jx)), (0, .ref h0), (1, .int (nI jx))]) hx hb d_M_remove_11 rfl hl (by decide) rfl (fun ls hl => ?_)
      have lp12 : ∀ (n : Nat) (q : Nat) (h1 : Nat → Nat) (s1 : Nat → Nat) (z1 : Nat → Nat) (p1 : Nat → Nat) (n1 : Nat → Nat) (H : Heap) (locs : List Loc) (ls : Array Slot), cn + 1 ≤ q + n → (jx ≤ q) → (q + 1 ≤ cn) → (ch_bd 15 h1) → (ch_bd 100 s1) → (ch_bd 3 z1) → (ch_bd 15 p1) → (ch_bd 1 n1) → (h1 = ch_sh hd jx q 1) → (s1 = ch_sh st jx q 1) → (z1 = ch_sh sz jx q 1) → (p1 = ch_sh pt (3 * jx) (3 * q) 3) → (n1 = ch_sh ng (3 * jx) (3 * q) 3) → va_P D classes (wM h0 ad ca se dp dn h1 s1 z1 p1 n1 va kp ds cn) H → va_D A (wM h0 ad ca se dp dn h1 s1 z1 p1 n1 va kp ds cn) → va_S A s.heap H locs → lv_has ls 4 [(0, .ref h0), (1, .int (nI jx)), (2, .int (nI q))] → W p l e rm_M_remove s m args below meth c H locs 0 0 Q (F0 m 12 ls []) := by
        intro n
        induction n with
        | zero =>
          intro q h1 s1 z1 p1 n1 H locs ls hn12 hq1 hq bh1 bs1 bz1 bp1 bn1 eh es ez ep en
          exact absurd hn12 (by omega)
        | succ n ih12 =>
          intro q h1 s1 z1 p1 n1 H locs ls hn12 hq1 hq bh1 bs1 bz1 bp1 bn1 eh es ez ep en hP hD hS hl
          refine lv_iload_n hx hb d_M_remove_12 rfl (lv_at hl 2 rfl) ?_
          refine lv_aload_n hx hb d_M_remove_13 rfl (lv_at hl 0 rfl) ?_
          refine gtM hx hb hts hown hK hP fl_M_41 rfl (k := 4) (by decide) ⟨rfl, rfl, rfl⟩ rfl d_M_remove_14 ?_
          refine lv_iconst (v := nI 1) hx hb d_M_remove_17 (by decide) ?_
          refine nr_isub hx hb (by omega) d_M_remove_18 ?_
          refine nr_icmp_ge (tgt := 133) hx hb (nr_31 (B := 20) (show q ≤ 20 by omega) (by decide)) (nr_31 (B := 20) (Nat.le_trans (Nat.sub_le _ _) b_cn) (by decide)) d_M_remove_19 (by decide) (fun c19 => ?_) (fun c19 => ?_)
          · refine lv_aload_n hx hb d_M_remove_133 rfl (lv_at hl 0 rfl) ?_
            refine lv_dup hx hb d_M_remove_134 rfl ?_
            refine gtM hx hb hts hown hK hP fl_M_41 rfl (k := 4) (by decide) ⟨rfl, rfl, rfl⟩ rfl d_M_remove_135 ?_
            refine lv_iconst (v := nI 1) hx hb d_M_remove_138 (by decide) ?_
            refine nr_isub hx hb (by omega) d_M_remove_139 ?_
            refine ptM hx hb hts hown hK hP hD hS fl_M_41 rfl (k := 4) (by decide) ⟨rfl, rfl, rfl, rfl⟩ (ty := .int) (by decide +kernel) rfl rfl (Nat.le_of_ble_eq_true rfl) d_M_remove_140 (fun H locs hP hD hS => ?_)
            have hP : va_P D classes (wM h0 ad ca se dp dn h1 s1 z1 p1 n1 va kp ds (cn - 1)) H := hP
            have hD : va_D A (wM h0 ad ca se dp dn h1 s1 z1 p1 n1 va kp ds (cn - 1)) := hD
            refine lv_aload_n hx hb d_M_remove_143 rfl (lv_at hl 0 rfl) ?_
            refine gtM hx hb hts hown hK hP fl_M_41 rfl (k := 4) (by decide) ⟨rfl, rfl, rfl⟩ rfl d_M_remove_144 ?_
            exact ct_iret (h1, s1, z1, p1, n1, cn - 1) hQ hx hb hr hlocks hAe hK hP hD hS (sp_suc (by rw [sp_rem, if_pos hc2]) rfl (by rw [ch_tn_nI (by omega), eh, es, ez, ep, en, show q = cn - 1 by omega])) d_M_remove_147
          · refine lv_iload_n hx hb d_M_remove_22 rfl (lv_at hl 2 rfl) ?_
            refine lv_bipush (v := nI 19) hx hb d_M_remove_23 (by decide) ?_
            refine nr_icmp_ge (tgt := 133) hx hb (nr_31 (B := 20) (show q ≤ 20 by omega) (by decide)) (by decide) d_M_remove_25 (by decide) (fun c25 => ?_) (fun c25 => ?_)
            · exact absurd c25 (by omega)
            · refine lv_aload_n hx hb d_M_remove_28 rfl (lv_at hl 0 rfl) ?_
              refine gtM hx hb hts hown hK hP fl_M_20 rfl (k := 5) (by decide) ⟨rfl, rfl, rfl⟩ rfl d_M_remove_29 ?_
              refine lv_iload_n hx hb d_M_remove_32 rfl (lv_at hl 2 rfl) ?_
              refine lv_aload_n hx hb d_M_remove_33 rfl (lv_at hl 0 rfl) ?_
              refine gtM hx hb hts hown hK hP fl_M_20 rfl (k := 5) (by decide) ⟨rfl, rfl, rfl⟩ rfl d_M_remove_34 ?_
              refine lv_iload_n hx hb d_M_remove_37 rfl (lv_at hl 2 rfl) ?_
              refine lv_iconst (v := nI 1) hx hb d_M_remove_38 (by decide) ?_
              refine nr_iadd hx hb d_M_remove_39 ?_
              refine nr_iald hx hb hK hP 4 3 rfl rfl (by omega) (by decide) d_M_remove_40 ?_
              refine nr_iast hx hb hK hP hD hS 4 3 rfl rfl (by omega) (by decide) d_M_remove_41 (fun H locs hP hD hS => ?_)
              have hP : va_P D classes (wM h0 ad ca se dp dn (ch_up h1 q (h1 (q + 1))) s1 z1 p1 n1 va kp ds cn) H := hP
              have hD : va_D A (wM h0 ad ca se dp dn (ch_up h1 q (h1 (q + 1))) s1 z1 p1 n1 va kp ds cn) := hD
              refine lv_aload_n hx hb d_M_remove_42 rfl (lv_at hl 0 rfl) ?_
              refine gtM hx hb hts hown hK hP fl_M_23 rfl (k := 6) (by decide) ⟨rfl, rfl, rfl⟩ rfl d_M_remove_43 ?_
              refine lv_iload_n hx hb d_M_remove_46 rfl (lv_at hl 2 rfl) ?_
              refine lv_aload_n hx hb d_M_remove_47 rfl (lv_at hl 0 rfl) ?_
              refine gtM hx hb hts hown hK hP fl_M_23 rfl (k := 6) (by decide) ⟨rfl, rfl, rfl⟩ rfl d_M_remove_48 ?_
              refine lv_iload_n hx hb d_M_remove_51 rfl (lv_at hl 2 rfl) ?_
              refine lv_iconst (v := nI 1) hx hb d_M_remove_52 (by decide) ?_
              refine nr_iadd hx hb d_M_remove_53 ?_
              refine nr_iald hx hb hK hP 5 4 rfl rfl (by omega) (by decide) d_M_remove_54 ?_
              refine nr_iast hx hb hK hP hD hS 5 4 rfl rfl (by omega) (by decide) d_M_remove_55 (fun H locs hP hD hS => ?_)
              have hP : va_P D classes (wM h0 ad ca se dp dn (ch_up h1 q (h1 (q + 1))) (ch_up s1 q (s1 (q + 1))) z1 p1 n1 va kp ds cn) H := hP
              have hD : va_D A (wM h0 ad ca se dp dn (ch_up h1 q (h1 (q + 1))) (ch_up s1 q (s1 (q + 1))) z1 p1 n1 va kp ds cn) := hD
              refine lv_aload_n hx hb d_M_remove_56 rfl (lv_at hl 0 rfl) ?_
              refine gtM hx hb hts hown hK hP fl_M_26 rfl (k := 7) (by decide) ⟨rfl, rfl, rfl⟩ rfl d_M_remove_57 ?_
              refine lv_iload_n hx hb d_M_remove_60 rfl (lv_at hl 2 rfl) ?_
              refine lv_aload_n hx hb d_M_remove_61 rfl (lv_at hl 0 rfl) ?_
              refine gtM hx hb hts hown hK hP fl_M_26 rfl (k := 7) (by decide) ⟨rfl, rfl, rfl⟩ rfl d_M_remove_62 ?_
              refine lv_iload_n hx hb d_M_remove_65 rfl (lv_at hl 2 rfl) ?_
              refine lv_iconst (v := nI 1) hx hb d_M_remove_66 (by decide) ?_
              refine nr_iadd hx hb d_M_remove_67 ?_
              refine nr_iald hx hb hK hP 6 5 rfl rfl (by omega) (by decide) d_M_remove_68 ?_
              refine nr_iast hx hb hK hP hD hS 6 5 rfl rfl (by omega) (by decide) d_M_remove_69 (fun H locs hP hD hS => ?_)
              have hP : va_P D classes (wM h0 ad ca se dp dn (ch_up h1 q (h1 (q + 1))) (ch_up s1 q (s1 (q + 1))) (ch_up z1 q (z1 (q + 1))) p1 n1 va kp ds cn) H := hP
              have hD : va_D A (wM h0 ad ca se dp dn (ch_up h1 q (h1 (q + 1))) (ch_up s1 q (s1 (q + 1))) (ch_up z1 q (z1 (q + 1))) p1 n1 va kp ds cn) := hD
              refine lv_iconst (v := nI 0) hx hb d_M_remove_70 (by decide) ?_
              refine lv_istore_n (lv' := [(3, .int (nI 0)), (0, .ref h0), (1, .int (nI jx)), (2, .int (nI q))]) hx hb d_M_remove_71 rfl hl (by decide) rfl (fun ls hl => ?_)
              have lp72 : ∀ (n : Nat) (k : Nat) (p2 : Nat → Nat) (n2 : Nat → Nat) (H : Heap) (locs : List Loc) (ls : Array Slot), 3 + 1 ≤ k + n → (k ≤ 3) → (ch_bd 15 p2) → (ch_bd 1 n2) → (p2 = ch_sh pt (3 * jx) (3 * q + k) 3) → (n2 = ch_sh ng (3 * jx) (3 * q + k) 3) → va_P D classes (wM h0 ad ca se dp dn (ch_up h1 q (h1 (q + 1))) (ch_up s1 q (s1 (q + 1))) (ch_up z1 q (z1 (q + 1))) p2 n2 va kp ds cn) H → va_D A (wM h0 ad ca se dp dn (ch_up h1 q (h1 (q + 1))) (ch_up s1 q (s1 (q + 1))) (ch_up z1 q (z1 (q + 1))) p2 n2 va kp ds cn) → va_S A s.heap H locs → lv_has ls 4 [(0, .ref h0), (1, .int (nI jx)), (2, .int (nI q)), (3, .int (nI k))] → W p l e rm_M_remove s m args below meth c H locs 0 0 Q (F0 m 72 ls []) := by
                intro n
                induction n with
                | zero =>
                  intro k p2 n2 H locs ls hn72 hk bp2 bn2 ep2 en2
                  exact absurd hn72 (by omega)
                | succ n ih72 =>
                  intro k p2 n2 H locs ls hn72 hk bp2 bn2 ep2 en2 hP hD hS hl
                  refine lv_iload_n hx hb d_M_remove_72 rfl (lv_at hl 3 rfl) ?_
                  refine lv_iconst (v := nI 3) hx hb d_M_remove_73 (by decide) ?_
                  refine nr_icmp_ge (tgt := 127) hx hb (nr_31 (B := 3) hk (by decide)) (by decide) d_M_remove_74 (by decide) (fun c74 => ?_) (fun c74 => ?_)
                  · refine lv_iinc (v := nI (q + 1)) (lv' := [(2, .int (nI (q + 1))), (0, .ref h0), (1, .int (nI jx)), (3, .int (nI k))]) hx hb d_M_remove_127 hl (k := 2) rfl (nI_1 _) (by decide) rfl (fun ls hl => ?_)
                    refine lv_goto (tgt := 12) hx hb d_M_remove_130 (by decide) ?_
                    exact ih12 (q + 1) (ch_up h1 q (h1 (q + 1))) (ch_up s1 q (s1 (q + 1))) (ch_up z1 q (z1 (q + 1))) p2 n2 _ _ _ (by omega) (by omega) (by omega) (ch_bd_up bh1 (bh1 _)) (ch_bd_up bs1 (bs1 _)) (ch_bd_up bz1 (bz1 _)) bp2 bn2 (by rw [eh]; exact ch_sh_s (by omega) rfl (by decide)) (by rw [es]; exact ch_sh_s (by omega) rfl (by decide)) (by rw [ez]; exact ch_sh_s (by omega) rfl (by decide)) (by rw [ep2, show 3 * q + k = 3 * (q + 1) by omega]) (by rw [en2, show 3 * q + k = 3 * (q + 1) by omega]) hP hD hS (lv_sub hl [1, 2, 0] rfl)
                  · refine lv_aload_n hx hb d_M_remove_77 rfl (lv_at hl 0 rfl) ?_
                    refine gtM hx hb hts hown hK hP fl_M_29 rfl (k := 8) (by decide) ⟨rfl, rfl, rfl⟩ rfl d_M_remove_78 ?_
                    refine lv_iconst (v := nI 3) hx hb d_M_remove_81 (by decide) ?_
                    refine lv_iload_n hx hb d_M_remove_82 rfl (lv_at hl 2 rfl) ?_
                    refine nr_imul hx hb d_M_remove_83 ?_
                    refine lv_iload_n hx hb d_M_remove_84 rfl (lv_at hl 3 rfl) ?_
                    refine nr_iadd hx hb d_M_remove_85 ?_
                    refine lv_aload_n hx hb d_M_remove_86 rfl (lv_at hl 0 rfl) ?_
                    refine gtM hx hb hts hown hK hP fl_M_29 rfl (k := 8) (by decide) ⟨rfl, rfl, rfl⟩ rfl d_M_remove_87 ?_
                    refine lv_iconst (v := nI 3) hx hb d_M_remove_90 (by decide) ?_
                    refine lv_iload_n hx hb d_M_remove_91 rfl (lv_at hl 2 rfl) ?_
                    refine nr_imul hx hb d_M_remove_92 ?_
                    refine lv_iconst (v := nI 3) hx hb d_M_remove_93 (by decide) ?_
                    refine nr_iadd hx hb d_M_remove_94 ?_
                    refine lv_iload_n hx hb d_M_remove_95 rfl (lv_at hl 3 rfl) ?_
                    refine nr_iadd hx hb d_M_remove_96 ?_
                    refine nr_iald hx hb hK hP 7 6 rfl rfl (by omega) (by decide) d_M_remove_97 ?_
                    refine nr_iast hx hb hK hP hD hS 7 6 rfl rfl (by omega) (by decide) d_M_remove_98 (fun H locs hP hD hS => ?_)
                    have hP : va_P D classes (wM h0 ad ca se dp dn (ch_up h1 q (h1 (q + 1))) (ch_up s1 q (s1 (q + 1))) (ch_up z1 q (z1 (q + 1))) (ch_up p2 ((3 * q) + k) (p2 (((3 * q) + 3) + k))) n2 va kp ds cn) H := hP
                    have hD : va_D A (wM h0 ad ca se dp dn (ch_up h1 q (h1 (q + 1))) (ch_up s1 q (s1 (q + 1))) (ch_up z1 q (z1 (q + 1))) (ch_up p2 ((3 * q) + k) (p2 (((3 * q) + 3) + k))) n2 va kp ds cn) := hD
                    refine lv_aload_n hx hb d_M_remove_99 rfl (lv_at hl 0 rfl) ?_
                    refine gtM hx hb hts hown hK hP fl_M_32 rfl (k := 9) (by decide) ⟨rfl, rfl, rfl⟩ rfl d_M_remove_100 ?_
                    refine lv_iconst (v := nI 3) hx hb d_M_remove_103 (by decide) ?_
                    refine lv_iload_n hx hb d_M_remove_104 rfl (lv_at hl 2 rfl) ?_
                    refine nr_imul hx hb d_M_remove_105 ?_
                    refine lv_iload_n hx hb d_M_remove_106 rfl (lv_at hl 3 rfl) ?_
                    refine nr_iadd hx hb d_M_remove_107 ?_
                    refine lv_aload_n hx hb d_M_remove_108 rfl (lv_at hl 0 rfl) ?_
                    refine gtM hx hb hts hown hK hP fl_M_32 rfl (k := 9) (by decide) ⟨rfl, rfl, rfl⟩ rfl d_M_remove_109 ?_
                    refine lv_iconst (v := nI 3) hx hb d_M_remove_112 (by decide) ?_
                    refine lv_iload_n hx hb d_M_remove_113 rfl (lv_at hl 2 rfl) ?_
                    refine nr_imul hx hb d_M_remove_114 ?_
                    refine lv_iconst (v := nI 3) hx hb d_M_remove_115 (by decide) ?_
                    refine nr_iadd hx hb d_M_remove_116 ?_
                    refine lv_iload_n hx hb d_M_remove_117 rfl (lv_at hl 3 rfl) ?_
                    refine nr_iadd hx hb d_M_remove_118 ?_
                    refine nr_zald hx hb hK hP 8 7 rfl rfl (by omega) (by decide) d_M_remove_119 ?_
                    refine nr_zast hx hb hK hP hD hS 8 7 rfl rfl (by omega) (by decide) (bn2 _) d_M_remove_120 (fun H locs hP hD hS => ?_)
                    have hP : va_P D classes (wM h0 ad ca se dp dn (ch_up h1 q (h1 (q + 1))) (ch_up s1 q (s1 (q + 1))) (ch_up z1 q (z1 (q + 1))) (ch_up p2 ((3 * q) + k) (p2 (((3 * q) + 3) + k))) (ch_up n2 ((3 * q) + k) (n2 (((3 * q) + 3) + k))) va kp ds cn) H := hP
                    have hD : va_D A (wM h0 ad ca se dp dn (ch_up h1 q (h1 (q + 1))) (ch_up s1 q (s1 (q + 1))) (ch_up z1 q (z1 (q + 1))) (ch_up p2 ((3 * q) + k) (p2 (((3 * q) + 3) + k))) (ch_up n2 ((3 * q) + k) (n2 (((3 * q) + 3) + k))) va kp ds cn) := hD
                    refine lv_iinc (v := nI (k + 1)) (lv' := [(3, .int (nI (k + 1))), (0, .ref h0), (1, .int (nI jx)), (2, .int (nI q))]) hx hb d_M_remove_121 hl (k := 3) rfl (nI_1 _) (by decide) rfl (fun ls hl => ?_)
                    refine lv_goto (tgt := 72) hx hb d_M_remove_124 (by decide) ?_
                    exact ih72 (k + 1) (ch_up p2 ((3 * q) + k) (p2 (((3 * q) + 3) + k))) (ch_up n2 ((3 * q) + k) (n2 (((3 * q) + 3) + k))) _ _ _ (by omega) (by omega) (ch_bd_up bp2 (bp2 _)) (ch_bd_up bn2 (bn2 _)) (by rw [ep2]; exact ch_sh_s (h := 3 * q + k) (by omega) (by omega) (by decide)) (by rw [en2]; exact ch_sh_s (h := 3 * q + k) (by omega) (by omega) (by decide)) hP hD hS (lv_sub hl [1, 2, 3, 0] rfl)
              exact lp72 (3 + 1) 0 p1 n1 _ _ _ (by omega) (by decide) bp1 bn1 ep en hP hD hS (lv_sub hl [1, 2, 3, 0] rfl)
      exact lp12 (cn + 1) jx hd st sz pt ng _ _ _ (by omega) (Nat.le_refl _) hjx b_hd b_st b_sz b_pt b_ng ((ch_sh_0 _ _ _).symm) ((ch_sh_0 _ _ _).symm) ((ch_sh_0 _ _ _).symm) ((ch_sh_0 _ _ _).symm) ((ch_sh_0 _ _ _).symm) hP hD hS (lv_sub hl [1, 2, 0] rfl)
    · exact absurd c5 (by decide)
  · refine nr_if_eq (tgt := 10) hx hb (by decide) d_M_remove_5 (by decide) (fun c5 => ?_) (fun c5 => ?_)
    · exact absurd c5 (by decide)
    · refine lv_iconst (v := (-1)) hx hb d_M_remove_8 (by decide) ?_
      exact ct_iret (hd, st, sz, pt, ng, cn) hQ hx hb hr hlocks hAe hK hP hD hS (sp_err (by rw [sp_rem, if_neg (by rw [hc2]; decide)]) rfl rfl) d_M_remove_9

abbrev rm_M_strengthen : Room := { frames := 1, cells := 0, slots := 0, locals := 21 }
set_option maxHeartbeats 4000000 in
set_option maxRecDepth 100000 in
/-- strengthen(x, y) -/
theorem c_M_strengthen (l : Launch) (D : va_G) (h0 : Nat) (ad : Nat → Nat) (ca : Nat → ClassId) (se : Nat → Nat) (dp : Nat → Nat) (dn : Nat → Nat) (hd : Nat → Nat) (st : Nat → Nat) (sz : Nat → Nat) (pt : Nat → Nat) (ng : Nat → Nat) (va : Nat → Nat) (kp : Nat → Nat) (ds : Nat) (cn : Nat) (hz : Nat) (B : bM se dp dn hd st sz pt ng va kp ds cn) (x : Int32) (y : Int32)  : Met l y_M_strengthen w_M_strengthen rm_M_strengthen (va_Pc [.ref h0, .int x, .int y] (Pw D (wM h0 ad ca se dp dn hd st sz pt ng va kp ds cn) (yM ca) hz)) (va_Qi (fun (v : Int32) (u : (Nat → Nat)) => v = (sp_str x y cn).getD (nI (st (ch_tn x))) ∧ u = (if sp_str x y cn = none then ch_up st (ch_tn x) (ch_tn y) else st)) (fun (u : (Nat → Nat)) => Bw D (wM h0 ad ca se dp dn hd st sz pt ng va kp ds cn) (wM h0 ad ca se dp dn hd u sz pt ng va kp ds cn) (yM ca) hz) (va_A (wM h0 ad ca se dp dn hd st sz pt ng va kp ds cn) hz)) 0 0 (va_A (wM h0 ad ca se dp dn hd st sz pt ng va kp ds cn) hz) := by
  obtain ⟨b_se, b_dp, b_dn, b_hd, b_st, b_sz, b_pt, b_ng, b_va, b_kp, b_ds, b_cn⟩ := B
  refine ct_start (by decide) (Nat.le_of_ble_eq_true rfl) ?_
  intro p e s m args below meth c A Q ls hx hb hr hlocks hml hts hown hnm hA hAe hsz hS hP hD hK hl hQ
  have hown : s.vm.findClass R_M = some m.cls := hown
  have hl : lv_has ls 4 [(0, .ref h0), (1, .int x), (2, .int y)] := hl
  have hP : va_P D classes (wM h0 ad ca se dp dn hd st sz pt ng va kp ds cn) s.heap := hP
  obtain ⟨H, hH⟩ : ∃ H, H = s.heap := ⟨_, rfl⟩
  obtain ⟨locs, hlc⟩ : ∃ locs : List Loc, locs = [] := ⟨_, rfl⟩
  have hS : va_S A s.heap H locs := by rw [hH, hlc]; exact hS
  have hP : va_P D classes (wM h0 ad ca se dp dn hd st sz pt ng va kp ds cn) H := by rw [hH]; exact hP
  have hgo : W p l e rm_M_strengthen s m args below meth c H locs 0 0 Q (F0 m 0 ls []) := ?_
  · rw [hH, hlc] at hgo; exact hgo
  clear hH hlc
  refine lv_aload_n hx hb d_M_strengthen_0 rfl (lv_at hl 0 rfl) ?_
  refine lv_iload_n hx hb d_M_strengthen_1 rfl (lv_at hl 1 rfl) ?_
  refine xc_iV (C := R_M) (rest := []) ⟨hx, hb, hml, hown, hts⟩ (c_M_badRule l D h0 ad ca se dp dn hd st sz pt ng va kp ds cn H.size ⟨b_se, b_dp, b_dn, b_hd, b_st, b_sz, b_pt, b_ng, b_va, b_kp, b_ds, b_cn⟩ x) (cwV 1 hts (gd_v ml_M_52 im_M_badRule se_M_badRule ini_M cd_M_badRule) rfl rfl rfl (by decide +kernel) ⟨Nat.le_of_ble_eq_true rfl, Nat.le_of_ble_eq_true rfl⟩) (va_recv hK hP (ci := 1) (q0 := 0) rfl rfl) hK hP hD hS hA rfl hl.1 rfl (Nat.le_of_ble_eq_true rfl) d_M_strengthen_2 ⟨Nat.le_of_ble_eq_true rfl, Nat.le_of_ble_eq_true rfl⟩ (fun r2 u2 H locs hp2 hP hD hS => ?_)
  have hP : va_P D classes (wM h0 ad ca se dp dn hd st sz pt ng va kp ds cn) H := hP
  have hD : va_D A (wM h0 ad ca se dp dn hd st sz pt ng va kp ds cn) := hD
  rcases hp2 with ⟨hc2, rfl⟩ | ⟨hc2, rfl⟩
  · obtain ⟨jx, hjx, rfl⟩ := ch_ic_get hc2 (nr_31 b_cn (by decide))
    refine nr_if_eq (tgt := 10) hx hb (by decide) d_M_strengthen_5 (by decide) (fun c5 => ?_) (fun c5 => ?_)
    · refine lv_iload_n hx hb d_M_strengthen_10 rfl (lv_at hl 2 rfl) ?_
      refine lv_iconst (v := nI 1) hx hb d_M_strengthen_11 (by decide) ?_
      refine lv_icmp_lt (tgt := 21) hx hb  d_M_strengthen_12 (by decide) (fun c12 => ?_) (fun c12 => ?_)
      · refine lv_bipush (v := (-2)) hx hb d_M_strengthen_21 (by decide) ?_
        exact ct_iret (st) hQ hx hb hr hlocks hAe hK hP hD hS (sp_err (by rw [sp_str, if_pos hc2, if_pos (Or.inl c12)]) rfl rfl) d_M_strengthen_23
      · refine lv_iload_n hx hb d_M_strengthen_15 rfl (lv_at hl 2 rfl) ?_
        refine lv_bipush (v := nI 100) hx hb d_M_strengthen_16 (by decide) ?_
        refine lv_icmp_le (tgt := 24) hx hb  d_M_strengthen_18 (by decide) (fun c18 => ?_) (fun c18 => ?_)
        · obtain ⟨sy, hsy, rfl⟩ := nr_rng1 c12 c18
          refine lv_aload_n hx hb d_M_strengthen_24 rfl (lv_at hl 0 rfl) ?_
          refine gtM hx hb hts hown hK hP fl_M_23 rfl (k := 6) (by decide) ⟨rfl, rfl, rfl⟩ rfl d_M_strengthen_25 ?_
          refine lv_iload_n hx hb d_M_strengthen_28 rfl (lv_at hl 1 rfl) ?_
          refine nr_iald hx hb hK hP 5 4 rfl rfl (by omega) (by decide) d_M_strengthen_29 ?_
          refine lv_istore_n (lv' := [(3, .int (nI (st jx))), (0, .ref h0), (1, .int (nI jx)), (2, .int (nI sy))]) hx hb d_M_strengthen_30 rfl hl (by decide) rfl (fun ls hl => ?_)
          refine lv_aload_n hx hb d_M_strengthen_31 rfl (lv_at hl 1 rfl) ?_
          refine gtM hx hb hts hown hK hP fl_M_23 rfl (k := 6) (by decide) ⟨rfl, rfl, rfl⟩ rfl d_M_strengthen_32 ?_
          refine lv_iload_n hx hb d_M_strengthen_35 rfl (lv_at hl 2 rfl) ?_
          refine lv_iload_n hx hb d_M_strengthen_36 rfl (lv_at hl 3 rfl) ?_
          refine nr_iast hx hb hK hP hD hS 5 4 rfl rfl (by omega) (by decide) d_M_strengthen_37 (fun H locs hP hD hS => ?_)
          have hP : va_P D classes (wM h0 ad ca se dp dn hd (ch_up st jx sy) sz pt ng va kp ds cn) H := hP
          have hD : va_D A (wM h0 ad ca se dp dn hd (ch_up st jx sy) sz pt ng va kp ds cn) := hD
          refine lv_iload_n hx hb d_M_strengthen_38 rfl (lv_at hl 0 rfl) ?_
          exact ct_iret (ch_up st jx sy) hQ hx hb hr hlocks hAe hK hP hD hS (sp_suc (by rw [sp_str, if_pos hc2, if_neg (fun z9 => z9.elim c12 (fun y9 => y9 c18))]) (by rw [ch_tn_nI (by omega)]) (by rw [ch_tn_nI (by omega), ch_tn_nI (by omega)])) d_M_strengthen_39
        · refine lv_bipush (v := (-2)) hx hb d_M_strengthen_21 (by decide) ?_
          exact ct_iret (st) hQ hx hb hr hlocks hAe hK hP hD hS (sp_err (by rw [sp_str, if_pos hc2, if_pos (Or.inr c18)]) rfl rfl) d_M_strengthen_23
    · exact absurd c5 (by decide)
  · refine nr_if_eq (tgt := 10) hx hb (by decide) d_M_strengthen_5 (by decide) (fun c5 => ?_) (fun c5 => ?_)
    · exact absurd c5 (by decide)
    · refine lv_iconst (v := (-1)) hx hb d_M_strengthen_8 (by decide) ?_
      exact ct_iret (st) hQ hx hb hr hlocks hAe hK hP hD hS (sp_err (by rw [sp_str, if_neg (by rw [hc2]; decide)]) rfl rfl) d_M_strengthen_9

abbrev rm_M_observe : Room := { frames := 1, cells := 0, slots := 0, locals := 21 }
set_option maxHeartbeats 4000000 in
set_option maxRecDepth 100000 in
/-- observe(x, y) -/
theorem c_M_observe (l : Launch) (D : va_G) (h0 : Nat) (ad : Nat → Nat) (ca : Nat → ClassId) (se : Nat → Nat) (dp : Nat → Nat) (dn : Nat → Nat) (hd : Nat → Nat) (st : Nat → Nat) (sz : Nat → Nat) (pt : Nat → Nat) (ng : Nat → Nat) (va : Nat → Nat) (kp : Nat → Nat) (ds : Nat) (cn : Nat) (hz : Nat) (B : bM se dp dn hd st sz pt ng va kp ds cn) (x : Int32) (y : Int32)  : Met l y_M_observe w_M_observe rm_M_observe (va_Pc [.ref h0, .int x, .int y] (Pw D (wM h0 ad ca se dp dn hd st sz pt ng va kp ds cn) (yM ca) hz)) (va_Qi (fun (v : Int32) (u : (Nat → Nat)) => v = (sp_obs x y).getD (nI (se (ch_tn x))) ∧ u = (if sp_obs x y = none then ch_up se (ch_tn x) (ch_tn y) else se)) (fun (u : (Nat → Nat)) => Bw D (wM h0 ad ca se dp dn hd st sz pt ng va kp ds cn) (wM h0 ad ca u dp dn hd st sz pt ng va kp ds cn) (yM ca) hz) (va_A (wM h0 ad ca se dp dn hd st sz pt ng va kp ds cn) hz)) 0 0 (va_A (wM h0 ad ca se dp dn hd st sz pt ng va kp ds cn) hz) := by
  obtain ⟨b_se, b_dp, b_dn, b_hd, b_st, b_sz, b_pt, b_ng, b_va, b_kp, b_ds, b_cn⟩ := B
  refine ct_start (by decide) (Nat.le_of_ble_eq_true rfl) ?_
  intro p e s m args below meth c A Q ls hx hb hr hlocks hml hts hown hnm hA hAe hsz hS hP hD hK hl hQ
  have hown : s.vm.findClass R_M = some m.cls := hown
  have hl : lv_has ls 4 [(0, .ref h0), (1, .int x), (2, .int y)] := hl
  have hP : va_P D classes (wM h0 ad ca se dp dn hd st sz pt ng va kp ds cn) s.heap := hP
  obtain ⟨H, hH⟩ : ∃ H, H = s.heap := ⟨_, rfl⟩
  obtain ⟨locs, hlc⟩ : ∃ locs : List Loc, locs = [] := ⟨_, rfl⟩
  have hS : va_S A s.heap H locs := by rw [hH, hlc]; exact hS
  have hP : va_P D classes (wM h0 ad ca se dp dn hd st sz pt ng va kp ds cn) H := by rw [hH]; exact hP
  have hgo : W p l e rm_M_observe s m args below meth c H locs 0 0 Q (F0 m 0 ls []) := ?_
  · rw [hH, hlc] at hgo; exact hgo
  clear hH hlc
  refine lv_aload_n hx hb d_M_observe_0 rfl (lv_at hl 0 rfl) ?_
  refine lv_iload_n hx hb d_M_observe_1 rfl (lv_at hl 1 rfl) ?_
  refine xc_iV (C := R_M) (rest := []) ⟨hx, hb, hml, hown, hts⟩ (c_M_bad l D h0 ad ca se dp dn hd st sz pt ng va kp ds cn H.size ⟨b_se, b_dp, b_dn, b_hd, b_st, b_sz, b_pt, b_ng, b_va, b_kp, b_ds, b_cn⟩ x) (cwV 1 hts (gd_v ml_M_45 im_M_bad se_M_bad ini_M cd_M_bad) rfl rfl rfl (by decide +kernel) ⟨Nat.le_of_ble_eq_true rfl, Nat.le_of_ble_eq_true rfl⟩) (va_recv hK hP (ci := 1) (q0 := 0) rfl rfl) hK hP hD hS hA rfl hl.1 rfl (Nat.le_of_ble_eq_true rfl) d_M_observe_2 ⟨Nat.le_of_ble_eq_true rfl, Nat.le_of_ble_eq_true rfl⟩ (fun r2 u2 H locs hp2 hP hD hS => ?_)
  have hP : va_P D classes (wM h0 ad ca se dp dn hd st sz pt ng va kp ds cn) H := hP
  have hD : va_D A (wM h0 ad ca se dp dn hd st sz pt ng va kp ds cn) := hD
  rcases hp2 with ⟨hc2, rfl⟩ | ⟨hc2, rfl⟩
  · obtain ⟨jx, hjx, rfl⟩ := ch_ic_get hc2 (by decide)
    refine nr_if_eq (tgt := 10) hx hb (by decide) d_M_observe_5 (by decide) (fun c5 => ?_) (fun c5 => ?_)
    · refine lv_iload_n hx hb d_M_observe_10 rfl (lv_at hl 2 rfl) ?_
      refine lv_if_lt (tgt := 20) hx hb  d_M_observe_11 (by decide) (fun c11 => ?_) (fun c11 => ?_)
      · refine lv_bipush (v := (-2)) hx hb d_M_observe_20 (by decide) ?_
        exact ct_iret (se) hQ hx hb hr hlocks hAe hK hP hD hS (sp_err (by rw [sp_obs, if_pos hc2, if_pos (Or.inl c11)]) rfl rfl) d_M_observe_22
      · refine lv_iload_n hx hb d_M_observe_14 rfl (lv_at hl 2 rfl) ?_
        refine lv_bipush (v := nI 100) hx hb d_M_observe_15 (by decide) ?_
        refine lv_icmp_le (tgt := 23) hx hb  d_M_observe_17 (by decide) (fun c17 => ?_) (fun c17 => ?_)
        · obtain ⟨sy, hsy, rfl⟩ := nr_rng0 c11 c17
          refine lv_aload_n hx hb d_M_observe_23 rfl (lv_at hl 0 rfl) ?_
          refine gtM hx hb hts hown hK hP fl_M_7 rfl (k := 0) (by decide) ⟨rfl, rfl, rfl⟩ rfl d_M_observe_24 ?_
          refine lv_iload_n hx hb d_M_observe_27 rfl (lv_at hl 1 rfl) ?_
          refine nr_iald hx hb hK hP 1 0 rfl rfl (Nat.lt_of_le_of_lt (Nat.le_of_lt_succ hjx) (by decide)) (by decide) d_M_observe_28 ?_
          refine lv_istore_n (lv' := [(3, .int (nI (se jx))), (0, .ref h0), (1, .int (nI jx)), (2, .int (nI sy))]) hx hb d_M_observe_29 rfl hl (by decide) rfl (fun ls hl => ?_)
          refine lv_aload_n hx hb d_M_observe_30 rfl (lv_at hl 1 rfl) ?_
          refine gtM hx hb hts hown hK hP fl_M_7 rfl (k := 0) (by decide) ⟨rfl, rfl, rfl⟩ rfl d_M_observe_31 ?_
          refine lv_iload_n hx hb d_M_observe_34 rfl (lv_at hl 2 rfl) ?_
          refine lv_iload_n hx hb d_M_observe_35 rfl (lv_at hl 3 rfl) ?_
          refine nr_iast hx hb hK hP hD hS 1 0 rfl rfl (Nat.lt_of_le_of_lt (Nat.le_of_lt_succ hjx) (by decide)) (by decide) d_M_observe_36 (fun H locs hP hD hS => ?_)
          have hP : va_P D classes (wM h0 ad ca (ch_up se jx sy) dp dn hd st sz pt ng va kp ds cn) H := hP
          have hD : va_D A (wM h0 ad ca (ch_up se jx sy) dp dn hd st sz pt ng va kp ds cn) := hD
          refine lv_iload_n hx hb d_M_observe_37 rfl (lv_at hl 0 rfl) ?_
          exact ct_iret (ch_up se jx sy) hQ hx hb hr hlocks hAe hK hP hD hS (sp_suc (by rw [sp_obs, if_pos hc2, if_neg (fun z9 => z9.elim c11 (fun y9 => y9 c17))]) (by rw [ch_tn_nI (by omega)]) (by rw [ch_tn_nI (by omega), ch_tn_nI (by omega)])) d_M_observe_38
        · refine lv_bipush (v := (-2)) hx hb d_M_observe_20 (by decide) ?_
          exact ct_iret (se) hQ hx hb hr hlocks hAe hK hP hD hS (sp_err (by rw [sp_obs, if_pos hc2, if_pos (Or.inr c17)]) rfl rfl) d_M_observe_22
    · exact absurd c5 (by decide)
  · refine nr_if_eq (tgt := 10) hx hb (by decide) d_M_observe_5 (by decide) (fun c5 => ?_) (fun c5 => ?_)
    · exact absurd c5 (by decide)
    · refine lv_iconst (v := (-1)) hx hb d_M_observe_8 (by decide) ?_
      exact ct_iret (se) hQ hx hb hr hlocks hAe hK hP hD hS (sp_err (by rw [sp_obs, if_neg (by rw [hc2]; decide)]) rfl rfl) d_M_observe_9

abbrev rm_M_rules : Room := { frames := 0, cells := 0, slots := 0, locals := 0 }
set_option maxHeartbeats 4000000 in
set_option maxRecDepth 100000 in
/-- rules() -/
theorem c_M_rules (l : Launch) (D : va_G) (h0 : Nat) (ad : Nat → Nat) (ca : Nat → ClassId) (se : Nat → Nat) (dp : Nat → Nat) (dn : Nat → Nat) (hd : Nat → Nat) (st : Nat → Nat) (sz : Nat → Nat) (pt : Nat → Nat) (ng : Nat → Nat) (va : Nat → Nat) (kp : Nat → Nat) (ds : Nat) (cn : Nat) (hz : Nat) (B : bM se dp dn hd st sz pt ng va kp ds cn)   : Met l y_M_rules w_M_rules rm_M_rules (va_Pc [.ref h0] (Pw D (wM h0 ad ca se dp dn hd st sz pt ng va kp ds cn) (yM ca) hz)) (va_Qi (fun (v : Int32) (u : Unit) => v = nI cn) (fun (u : Unit) => Bw D (wM h0 ad ca se dp dn hd st sz pt ng va kp ds cn) (wM h0 ad ca se dp dn hd st sz pt ng va kp ds cn) (yM ca) hz) (va_A (wM h0 ad ca se dp dn hd st sz pt ng va kp ds cn) hz)) 0 0 (va_A (wM h0 ad ca se dp dn hd st sz pt ng va kp ds cn) hz) := by
  obtain ⟨b_se, b_dp, b_dn, b_hd, b_st, b_sz, b_pt, b_ng, b_va, b_kp, b_ds, b_cn⟩ := B
  refine ct_start (by decide) (Nat.le_of_ble_eq_true rfl) ?_
  intro p e s m args below meth c A Q ls hx hb hr hlocks hml hts hown hnm hA hAe hsz hS hP hD hK hl hQ
  have hown : s.vm.findClass R_M = some m.cls := hown
  have hl : lv_has ls 1 [(0, .ref h0)] := hl
  have hP : va_P D classes (wM h0 ad ca se dp dn hd st sz pt ng va kp ds cn) s.heap := hP
  obtain ⟨H, hH⟩ : ∃ H, H = s.heap := ⟨_, rfl⟩
  obtain ⟨locs, hlc⟩ : ∃ locs : List Loc, locs = [] := ⟨_, rfl⟩
  have hS : va_S A s.heap H locs := by rw [hH, hlc]; exact hS
  have hP : va_P D classes (wM h0 ad ca se dp dn hd st sz pt ng va kp ds cn) H := by rw [hH]; exact hP
  have hgo : W p l e rm_M_rules s m args below meth c H locs 0 0 Q (F0 m 0 ls []) := ?_
  · rw [hH, hlc] at hgo; exact hgo
  clear hH hlc
  refine lv_aload_n hx hb d_M_rules_0 rfl (lv_at hl 0 rfl) ?_
  refine gtM hx hb hts hown hK hP fl_M_41 rfl (k := 4) (by decide) ⟨rfl, rfl, rfl⟩ rfl d_M_rules_1 ?_
  exact ct_iret () hQ hx hb hr hlocks hAe hK hP hD hS rfl d_M_rules_4

abbrev rm_M_headOf : Room := { frames := 1, cells := 0, slots := 0, locals := 21 }
set_option maxHeartbeats 4000000 in
set_option maxRecDepth 100000 in
/-- headOf(x) -/
theorem c_M_headOf (l : Launch) (D : va_G) (h0 : Nat) (ad : Nat → Nat) (ca : Nat → ClassId) (se : Nat → Nat) (dp : Nat → Nat) (dn : Nat → Nat) (hd : Nat → Nat) (st : Nat → Nat) (sz : Nat → Nat) (pt : Nat → Nat) (ng : Nat → Nat) (va : Nat → Nat) (kp : Nat → Nat) (ds : Nat) (cn : Nat) (hz : Nat) (B : bM se dp dn hd st sz pt ng va kp ds cn) (x : Int32)  : Met l y_M_headOf w_M_headOf rm_M_headOf (va_Pc [.ref h0, .int x] (Pw D (wM h0 ad ca se dp dn hd st sz pt ng va kp ds cn) (yM ca) hz)) (va_Qi (fun (v : Int32) (u : Unit) => v = sp_at x cn hd) (fun (u : Unit) => Bw D (wM h0 ad ca se dp dn hd st sz pt ng va kp ds cn) (wM h0 ad ca se dp dn hd st sz pt ng va kp ds cn) (yM ca) hz) (va_A (wM h0 ad ca se dp dn hd st sz pt ng va kp ds cn) hz)) 0 0 (va_A (wM h0 ad ca se dp dn hd st sz pt ng va kp ds cn) hz) := by
  obtain ⟨b_se, b_dp, b_dn, b_hd, b_st, b_sz, b_pt, b_ng, b_va, b_kp, b_ds, b_cn⟩ := B
  refine ct_start (by decide) (Nat.le_of_ble_eq_true rfl) ?_
  intro p e s m args below meth c A Q ls hx hb hr hlocks hml hts hown hnm hA hAe hsz hS hP hD hK hl hQ
  have hown : s.vm.findClass R_M = some m.cls := hown
  have hl : lv_has ls 2 [(0, .ref h0), (1, .int x)] := hl
  have hP : va_P D classes (wM h0 ad ca se dp dn hd st sz pt ng va kp ds cn) s.heap := hP
  obtain ⟨H, hH⟩ : ∃ H, H = s.heap := ⟨_, rfl⟩
  obtain ⟨locs, hlc⟩ : ∃ locs : List Loc, locs = [] := ⟨_, rfl⟩
  have hS : va_S A s.heap H locs := by rw [hH, hlc]; exact hS
  have hP : va_P D classes (wM h0 ad ca se dp dn hd st sz pt ng va kp ds cn) H := by rw [hH]; exact hP
  have hgo : W p l e rm_M_headOf s m args below meth c H locs 0 0 Q (F0 m 0 ls []) := ?_
  · rw [hH, hlc] at hgo; exact hgo
  clear hH hlc
  refine lv_aload_n hx hb d_M_headOf_0 rfl (lv_at hl 0 rfl) ?_
  refine lv_iload_n hx hb d_M_headOf_1 rfl (lv_at hl 1 rfl) ?_
  refine xc_iV (C := R_M) (rest := []) ⟨hx, hb, hml, hown, hts⟩ (c_M_badRule l D h0 ad ca se dp dn hd st sz pt ng va kp ds cn H.size ⟨b_se, b_dp, b_dn, b_hd, b_st, b_sz, b_pt, b_ng, b_va, b_kp, b_ds, b_cn⟩ x) (cwV 1 hts (gd_v ml_M_52 im_M_badRule se_M_badRule ini_M cd_M_badRule) rfl rfl rfl (by decide +kernel) ⟨Nat.le_of_ble_eq_true rfl, Nat.le_of_ble_eq_true rfl⟩) (va_recv hK hP (ci := 1) (q0 := 0) rfl rfl) hK hP hD hS hA rfl hl.1 rfl (Nat.le_of_ble_eq_true rfl) d_M_headOf_2 ⟨Nat.le_of_ble_eq_true rfl, Nat.le_of_ble_eq_true rfl⟩ (fun r2 u2 H locs hp2 hP hD hS => ?_)
  have hP : va_P D classes (wM h0 ad ca se dp dn hd st sz pt ng va kp ds cn) H := hP
  have hD : va_D A (wM h0 ad ca se dp dn hd st sz pt ng va kp ds cn) := hD
  rcases hp2 with ⟨hc2, rfl⟩ | ⟨hc2, rfl⟩
  · obtain ⟨jx, hjx, rfl⟩ := ch_ic_get hc2 (nr_31 b_cn (by decide))
    refine nr_if_eq (tgt := 12) hx hb (by decide) d_M_headOf_5 (by decide) (fun c5 => ?_) (fun c5 => ?_)
    · refine lv_aload_n hx hb d_M_headOf_12 rfl (lv_at hl 0 rfl) ?_
      refine gtM hx hb hts hown hK hP fl_M_20 rfl (k := 5) (by decide) ⟨rfl, rfl, rfl⟩ rfl d_M_headOf_13 ?_
      refine lv_iload_n hx hb d_M_headOf_16 rfl (lv_at hl 1 rfl) ?_
      refine nr_iald hx hb hK hP 4 3 rfl rfl (by omega) (by decide) d_M_headOf_17 ?_
      exact ct_iret () hQ hx hb hr hlocks hAe hK hP hD hS ((sp_at_t hjx (nr_31 b_cn (by decide))).symm) d_M_headOf_18
    · exact absurd c5 (by decide)
  · refine nr_if_eq (tgt := 12) hx hb (by decide) d_M_headOf_5 (by decide) (fun c5 => ?_) (fun c5 => ?_)
    · exact absurd c5 (by decide)
    · refine lv_iconst (v := (-1)) hx hb d_M_headOf_8 (by decide) ?_
      refine lv_goto (tgt := 18) hx hb d_M_headOf_9 (by decide) ?_
      exact ct_iret () hQ hx hb hr hlocks hAe hK hP hD hS ((sp_at_f hc2).symm) d_M_headOf_18

abbrev rm_M_observed : Room := { frames := 1, cells := 0, slots := 0, locals := 21 }
set_option maxHeartbeats 4000000 in
set_option maxRecDepth 100000 in
/-- observed(x) -/
theorem c_M_observed (l : Launch) (D : va_G) (h0 : Nat) (ad : Nat → Nat) (ca : Nat → ClassId) (se : Nat → Nat) (dp : Nat → Nat) (dn : Nat → Nat) (hd : Nat → Nat) (st : Nat → Nat) (sz : Nat → Nat) (pt : Nat → Nat) (ng : Nat → Nat) (va : Nat → Nat) (kp : Nat → Nat) (ds : Nat) (cn : Nat) (hz : Nat) (B : bM se dp dn hd st sz pt ng va kp ds cn) (x : Int32)  : Met l y_M_observed w_M_observed rm_M_observed (va_Pc [.ref h0, .int x] (Pw D (wM h0 ad ca se dp dn hd st sz pt ng va kp ds cn) (yM ca) hz)) (va_Qi (fun (v : Int32) (u : Unit) => v = sp_at x 16 se) (fun (u : Unit) => Bw D (wM h0 ad ca se dp dn hd st sz pt ng va kp ds cn) (wM h0 ad ca se dp dn hd st sz pt ng va kp ds cn) (yM ca) hz) (va_A (wM h0 ad ca se dp dn hd st sz pt ng va kp ds cn) hz)) 0 0 (va_A (wM h0 ad ca se dp dn hd st sz pt ng va kp ds cn) hz) := by
  obtain ⟨b_se, b_dp, b_dn, b_hd, b_st, b_sz, b_pt, b_ng, b_va, b_kp, b_ds, b_cn⟩ := B
  refine ct_start (by decide) (Nat.le_of_ble_eq_true rfl) ?_
  intro p e s m args below meth c A Q ls hx hb hr hlocks hml hts hown hnm hA hAe hsz hS hP hD hK hl hQ
  have hown : s.vm.findClass R_M = some m.cls := hown
  have hl : lv_has ls 2 [(0, .ref h0), (1, .int x)] := hl
  have hP : va_P D classes (wM h0 ad ca se dp dn hd st sz pt ng va kp ds cn) s.heap := hP
  obtain ⟨H, hH⟩ : ∃ H, H = s.heap := ⟨_, rfl⟩
  obtain ⟨locs, hlc⟩ : ∃ locs : List Loc, locs = [] := ⟨_, rfl⟩
  have hS : va_S A s.heap H locs := by rw [hH, hlc]; exact hS
  have hP : va_P D classes (wM h0 ad ca se dp dn hd st sz pt ng va kp ds cn) H := by rw [hH]; exact hP
  have hgo : W p l e rm_M_observed s m args below meth c H locs 0 0 Q (F0 m 0 ls []) := ?_
  · rw [hH, hlc] at hgo; exact hgo
  clear hH hlc
  refine lv_aload_n hx hb d_M_observed_0 rfl (lv_at hl 0 rfl) ?_
  refine lv_iload_n hx hb d_M_observed_1 rfl (lv_at hl 1 rfl) ?_
  refine xc_iV (C := R_M) (rest := []) ⟨hx, hb, hml, hown, hts⟩ (c_M_bad l D h0 ad ca se dp dn hd st sz pt ng va kp ds cn H.size ⟨b_se, b_dp, b_dn, b_hd, b_st, b_sz, b_pt, b_ng, b_va, b_kp, b_ds, b_cn⟩ x) (cwV 1 hts (gd_v ml_M_45 im_M_bad se_M_bad ini_M cd_M_bad) rfl rfl rfl (by decide +kernel) ⟨Nat.le_of_ble_eq_true rfl, Nat.le_of_ble_eq_true rfl⟩) (va_recv hK hP (ci := 1) (q0 := 0) rfl rfl) hK hP hD hS hA rfl hl.1 rfl (Nat.le_of_ble_eq_true rfl) d_M_observed_2 ⟨Nat.le_of_ble_eq_true rfl, Nat.le_of_ble_eq_true rfl⟩ (fun r2 u2 H locs hp2 hP hD hS => ?_)
  have hP : va_P D classes (wM h0 ad ca se dp dn hd st sz pt ng va kp ds cn) H := hP
  have hD : va_D A (wM h0 ad ca se dp dn hd st sz pt ng va kp ds cn) := hD
  rcases hp2 with ⟨hc2, rfl⟩ | ⟨hc2, rfl⟩
  · obtain ⟨jx, hjx, rfl⟩ := ch_ic_get hc2 (by decide)
    refine nr_if_eq (tgt := 12) hx hb (by decide) d_M_observed_5 (by decide) (fun c5 => ?_) (fun c5 => ?_)
    · refine lv_aload_n hx hb d_M_observed_12 rfl (lv_at hl 0 rfl) ?_
      refine gtM hx hb hts hown hK hP fl_M_7 rfl (k := 0) (by decide) ⟨rfl, rfl, rfl⟩ rfl d_M_observed_13 ?_
      refine lv_iload_n hx hb d_M_observed_16 rfl (lv_at hl 1 rfl) ?_
      refine nr_iald hx hb hK hP 1 0 rfl rfl (Nat.lt_of_le_of_lt (Nat.le_of_lt_succ hjx) (by decide)) (by decide) d_M_observed_17 ?_
      exact ct_iret () hQ hx hb hr hlocks hAe hK hP hD hS ((sp_at_t hjx (by decide)).symm) d_M_observed_18
    · exact absurd c5 (by decide)
  · refine nr_if_eq (tgt := 12) hx hb (by decide) d_M_observed_5 (by decide) (fun c5 => ?_) (fun c5 => ?_)
    · exact absurd c5 (by decide)
    · refine lv_iconst (v := (-1)) hx hb d_M_observed_8 (by decide) ?_
      refine lv_goto (tgt := 18) hx hb d_M_observed_9 (by decide) ?_
      exact ct_iret () hQ hx hb hr hlocks hAe hK hP hD hS ((sp_at_f hc2).symm) d_M_observed_18
end
section
/-! ===== the class: its questions ===== -/
theorem sp_fst_cg {P P' : Nat → Prop} {n : Nat} {v : Int32} (hp : ∀ r, r < n → (P r ↔ P' r)) (h : sp_fst P n v) : sp_fst P' n v := by
  rcases h with ⟨r, a1, a2, a3, a4⟩ | ⟨a1, a2⟩
  · exact Or.inl ⟨r, a1, (hp r a1).mp a2, fun q hq z => a3 q hq ((hp q (by omega)).mpr z), a4⟩
  · exact Or.inr ⟨fun q hq z => a1 q hq ((hp q hq).mpr z), a2⟩
theorem sp_sup_cg {st sz pt ng hd u v : Nat → Nat} {j r : Nat} (hpt : ch_bd 15 pt) (hj : j < 16) (h : ∀ c, c < 16 → u c = v c) : sp_sup (ch_wor st sz pt ng) hd j u r ↔ sp_sup (ch_wor st sz pt ng) hd j v r := by
  unfold sp_sup
  rw [h j hj, ch_wor_16 hpt h]
abbrev rm_X_certainty : Room := { frames := 5, cells := 0, slots := 0, locals := 114 }
set_option maxHeartbeats 4000000 in
set_option maxRecDepth 100000 in
/-- certainty(x) -/
theorem c_X_certainty (l : Launch) (D : va_G) (h0 : Nat) (ad : Nat → Nat) (ca : Nat → ClassId) (hd : Nat → Nat) (st : Nat → Nat) (sz : Nat → Nat) (pt : Nat → Nat) (ng : Nat → Nat) (dp : Nat → Nat) (dn : Nat → Nat) (se : Nat → Nat) (va : Nat → Nat) (of : Nat → Nat) (sl : Nat → Nat) (wt : Nat → Int32) (kp : Nat → Nat) (ds : Nat) (cn : Nat) (sk : Int32) (cu : Nat) (hz : Nat) (B : bX hd st sz pt ng dp dn se va of sl kp ds cn cu) (x : Int32) (hok : ch_ok hd sz pt ng cn) (hsk : sk = (-1)) (hcu : cu ≠ 0 → ch_Sol (ch_wor st sz pt ng) hd cn se (-1) va) : Met l y_X_certainty w_X_certainty rm_X_certainty (va_Pc [.ref h0, .int x] (Pw D (wX h0 ad ca hd st sz pt ng dp dn se va of sl wt kp ds cn sk cu) (yX ca) hz)) (va_Qi (fun (v : Int32) (u : (Nat → Nat) × (Nat → Nat) × (Nat → Nat) × (Nat → Int32) × (Nat → Nat) × (Nat)) => (∀ V, ch_Slv (ch_wor st sz pt ng) hd cn V → v = sp_at x 16 (V se (-1))) ∧ ch_bd 100 u.1 ∧ ch_bd 100 u.2.1 ∧ ch_bd 1 u.2.2.1 ∧ ch_bd 100 u.2.2.2.2.1 ∧ u.2.2.2.2.2 ≤ 1 ∧ (u.2.2.2.2.2 ≠ 0 → ch_Sol (ch_wor st sz pt ng) hd cn se (-1) u.1)) (fun (u : (Nat → Nat) × (Nat → Nat) × (Nat → Nat) × (Nat → Int32) × (Nat → Nat) × (Nat)) => Bw D (wX h0 ad ca hd st sz pt ng dp dn se va of sl wt kp ds cn sk cu) (wX h0 ad ca hd st sz pt ng dp dn se u.1 u.2.1 u.2.2.1 u.2.2.2.1 u.2.2.2.2.1 ds cn sk u.2.2.2.2.2) (yX ca) hz) (va_A (wX h0 ad ca hd st sz pt ng dp dn se va of sl wt kp ds cn sk cu) hz)) 0 0 (va_A (wX h0 ad ca hd st sz pt ng dp dn se va of sl wt kp ds cn sk cu) hz) := by
  obtain ⟨b_hd, b_st, b_sz, b_pt, b_ng, b_dp, b_dn, b_se, b_va, b_of, b_sl, b_kp, b_ds, b_cn, b_cu⟩ := B
  refine ct_start (by decide) (Nat.le_of_ble_eq_true rfl) ?_
  intro p e s m args below meth c A Q ls hx hb hr hlocks hml hts hown hnm hA hAe hsz hS hP hD hK hl hQ
  have hown : s.vm.findClass R_X = some m.cls := hown
  have hl : lv_has ls 2 [(0, .ref h0), (1, .int x)] := hl
  have hP : va_P D classes (wX h0 ad ca hd st sz pt ng dp dn se va of sl wt kp ds cn sk cu) s.heap := hP
  obtain ⟨H, hH⟩ : ∃ H, H = s.heap := ⟨_, rfl⟩
  obtain ⟨locs, hlc⟩ : ∃ locs : List Loc, locs = [] := ⟨_, rfl⟩
  have hS : va_S A s.heap H locs := by rw [hH, hlc]; exact hS
  have hP : va_P D classes (wX h0 ad ca hd st sz pt ng dp dn se va of sl wt kp ds cn sk cu) H := by rw [hH]; exact hP
  have hgo : W p l e rm_X_certainty s m args below meth c H locs 0 0 Q (F0 m 0 ls []) := ?_
  · rw [hH, hlc] at hgo; exact hgo
  clear hH hlc
  subst hsk
  refine lv_iload_n hx hb d_X_certainty_0 rfl (lv_at hl 1 rfl) ?_
  refine xc_iS (rest := []) ⟨hx, hb, hml, hown, hts⟩ (c_X_isClaim l x) (cwS 1 hts (gd_s ml_X_54 st_X_isClaim ini_X cd_X_isClaim) rfl rfl rfl (by decide +kernel) ⟨Nat.le_of_ble_eq_true rfl, Nat.le_of_ble_eq_true rfl⟩) hP hS rfl hl.1 rfl (Nat.le_of_ble_eq_true rfl) d_X_certainty_1 ⟨Nat.le_of_ble_eq_true rfl, Nat.le_of_ble_eq_true rfl⟩ (fun r1 H locs hp1 hP hS => ?_)
  rcases hp1 with ⟨hc1, rfl⟩ | ⟨hc1, rfl⟩
  · obtain ⟨jx, hjx, rfl⟩ := ch_ic_get hc1 (by decide)
    refine nr_if_ne (tgt := 9) hx hb (by decide) d_X_certainty_4 (by decide) (fun c4 => ?_) (fun c4 => ?_)
    · refine lv_aload_n hx hb d_X_certainty_9 rfl (lv_at hl 0 rfl) ?_
      refine xc_vV (C := R_X) (rest := []) ⟨hx, hb, hml, hown, hts⟩ (c_X_refresh l D h0 ad ca hd st sz pt ng dp dn se va of sl wt kp ds cn (-1) cu H.size ⟨b_hd, b_st, b_sz, b_pt, b_ng, b_dp, b_dn, b_se, b_va, b_of, b_sl, b_kp, b_ds, b_cn, b_cu⟩ hok rfl hcu) (cwV 0 hts (gd_v ml_X_71 im_X_refresh se_X_refresh ini_X cd_X_refresh) rfl rfl rfl (by decide +kernel) ⟨Nat.le_of_ble_eq_true rfl, Nat.le_of_ble_eq_true rfl⟩) (va_recv hK hP (ci := 0) (q0 := 0) rfl rfl) hK hP hD hS hA rfl hl.1 rfl (Nat.le_of_ble_eq_true rfl) d_X_certainty_10 ⟨Nat.le_of_ble_eq_true rfl, Nat.le_of_ble_eq_true rfl⟩ (fun u10 H locs hp10 hP hD hS => ?_)
      obtain ⟨v10, o10, s10, w10⟩ := u10
      obtain ⟨hs10, bv10, bo10, bs10⟩ := hp10
      have hs10 : ch_Sol (ch_wor st sz pt ng) hd cn se (-1) v10 := hs10
      have hP : va_P D classes (wX h0 ad ca hd st sz pt ng dp dn se v10 o10 s10 w10 kp ds cn (-1) 1) H := hP
      have hD : va_D A (wX h0 ad ca hd st sz pt ng dp dn se v10 o10 s10 w10 kp ds cn (-1) 1) := hD
      refine lv_aload_n hx hb d_X_certainty_13 rfl (lv_at hl 0 rfl) ?_
      refine gtX hx hb hts hown hK hP fl_X_35 rfl (k := 8) (by decide) ⟨rfl, rfl, rfl⟩ rfl d_X_certainty_14 ?_
      refine lv_iload_n hx hb d_X_certainty_17 rfl (lv_at hl 1 rfl) ?_
      refine nr_iald hx hb hK hP 9 8 rfl rfl (Nat.lt_of_le_of_lt (Nat.le_of_lt_succ hjx) (by decide)) (by decide) d_X_certainty_18 ?_
      exact ct_iret (v10, o10, s10, w10, kp, 1) hQ hx hb hr hlocks hAe hK hP hD hS ⟨fun V hV => by rw [sp_at_t hjx (by decide), ← ch_Slv_at hV b_se hs10 jx hjx], bv10, bo10, bs10, b_kp, Nat.le_refl 1, fun _ => hs10⟩ d_X_certainty_19
    · exact absurd c4 (by decide)
  · refine nr_if_ne (tgt := 9) hx hb (by decide) d_X_certainty_4 (by decide) (fun c4 => ?_) (fun c4 => ?_)
    · exact absurd c4 (by decide)
    · refine lv_iconst (v := (-1)) hx hb d_X_certainty_7 (by decide) ?_
      exact ct_iret (va, of, sl, wt, kp, cu) hQ hx hb hr hlocks hAe hK hP hD hS ⟨fun V hV => (sp_at_f hc1).symm, b_va, b_of, b_sl, b_kp, b_cu, hcu⟩ d_X_certainty_8

abbrev rm_X_whatIf : Room := { frames := 4, cells := 0, slots := 0, locals := 94 }
set_option maxHeartbeats 4000000 in
set_option maxRecDepth 100000 in
/-- whatIf(x, x2, y) -/
theorem c_X_whatIf (l : Launch) (D : va_G) (h0 : Nat) (ad : Nat → Nat) (ca : Nat → ClassId) (hd : Nat → Nat) (st : Nat → Nat) (sz : Nat → Nat) (pt : Nat → Nat) (ng : Nat → Nat) (dp : Nat → Nat) (dn : Nat → Nat) (se : Nat → Nat) (va : Nat → Nat) (of : Nat → Nat) (sl : Nat → Nat) (wt : Nat → Int32) (kp : Nat → Nat) (ds : Nat) (cn : Nat) (sk : Int32) (cu : Nat) (hz : Nat) (B : bX hd st sz pt ng dp dn se va of sl kp ds cn cu) (x : Int32) (x2 : Int32) (y : Int32) (hok : ch_ok hd sz pt ng cn) (hsk : sk = (-1)) (hcu : cu ≠ 0 → ch_Sol (ch_wor st sz pt ng) hd cn se (-1) va) : Met l y_X_whatIf w_X_whatIf rm_X_whatIf (va_Pc [.ref h0, .int x, .int x2, .int y] (Pw D (wX h0 ad ca hd st sz pt ng dp dn se va of sl wt kp ds cn sk cu) (yX ca) hz)) (va_Qi (fun (v : Int32) (u : (Nat → Nat) × (Nat → Nat) × (Nat → Nat) × (Nat → Int32) × (Nat → Nat) × (Nat)) => (∀ V, ch_Slv (ch_wor st sz pt ng) hd cn V → v = sp_wi x x2 y se V) ∧ ch_bd 100 u.1 ∧ ch_bd 100 u.2.1 ∧ ch_bd 1 u.2.2.1 ∧ ch_bd 100 u.2.2.2.2.1 ∧ u.2.2.2.2.2 ≤ 1 ∧ (u.2.2.2.2.2 ≠ 0 → ch_Sol (ch_wor st sz pt ng) hd cn se (-1) u.1)) (fun (u : (Nat → Nat) × (Nat → Nat) × (Nat → Nat) × (Nat → Int32) × (Nat → Nat) × (Nat)) => Bw D (wX h0 ad ca hd st sz pt ng dp dn se va of sl wt kp ds cn sk cu) (wX h0 ad ca hd st sz pt ng dp dn se u.1 u.2.1 u.2.2.1 u.2.2.2.1 u.2.2.2.2.1 ds cn sk u.2.2.2.2.2) (yX ca) hz) (va_A (wX h0 ad ca hd st sz pt ng dp dn se va of sl wt kp ds cn sk cu) hz)) 0 0 (va_A (wX h0 ad ca hd st sz pt ng dp dn se va of sl wt kp ds cn sk cu) hz) := by
  obtain ⟨b_hd, b_st, b_sz, b_pt, b_ng, b_dp, b_dn, b_se, b_va, b_of, b_sl, b_kp, b_ds, b_cn, b_cu⟩ := B
  refine ct_start (by decide) (Nat.le_of_ble_eq_true rfl) ?_
  intro p e s m args below meth c A Q ls hx hb hr hlocks hml hts hown hnm hA hAe hsz hS hP hD hK hl hQ
  have hown : s.vm.findClass R_X = some m.cls := hown
  have hl : lv_has ls 5 [(0, .ref h0), (1, .int x), (2, .int x2), (3, .int y)] := hl
  have hP : va_P D classes (wX h0 ad ca hd st sz pt ng dp dn se va of sl wt kp ds cn sk cu) s.heap := hP
  obtain ⟨H, hH⟩ : ∃ H, H = s.heap := ⟨_, rfl⟩
  obtain ⟨locs, hlc⟩ : ∃ locs : List Loc, locs = [] := ⟨_, rfl⟩
  have hS : va_S A s.heap H locs := by rw [hH, hlc]; exact hS
  have hP : va_P D classes (wX h0 ad ca hd st sz pt ng dp dn se va of sl wt kp ds cn sk cu) H := by rw [hH]; exact hP
  have hgo : W p l e rm_X_whatIf s m args below meth c H locs 0 0 Q (F0 m 0 ls []) := ?_
  · rw [hH, hlc] at hgo; exact hgo
  clear hH hlc
  subst hsk
  refine lv_iload_n hx hb d_X_whatIf_0 rfl (lv_at hl 1 rfl) ?_
  refine xc_iS (rest := []) ⟨hx, hb, hml, hown, hts⟩ (c_X_isClaim l x) (cwS 1 hts (gd_s ml_X_54 st_X_isClaim ini_X cd_X_isClaim) rfl rfl rfl (by decide +kernel) ⟨Nat.le_of_ble_eq_true rfl, Nat.le_of_ble_eq_true rfl⟩) hP hS rfl hl.1 rfl (Nat.le_of_ble_eq_true rfl) d_X_whatIf_1 ⟨Nat.le_of_ble_eq_true rfl, Nat.le_of_ble_eq_true rfl⟩ (fun r1 H locs hp1 hP hS => ?_)
  rcases hp1 with ⟨hc1, rfl⟩ | ⟨hc1, rfl⟩
  · obtain ⟨jx, hjx, rfl⟩ := ch_ic_get hc1 (by decide)
    refine nr_if_eq (tgt := 14) hx hb (by decide) d_X_whatIf_4 (by decide) (fun c4 => ?_) (fun c4 => ?_)
    · exact absurd c4 (by decide)
    · refine lv_iload_n hx hb d_X_whatIf_7 rfl (lv_at hl 2 rfl) ?_
      refine xc_iS (rest := []) ⟨hx, hb, hml, hown, hts⟩ (c_X_isClaim l x2) (cwS 1 hts (gd_s ml_X_54 st_X_isClaim ini_X cd_X_isClaim) rfl rfl rfl (by decide +kernel) ⟨Nat.le_of_ble_eq_true rfl, Nat.le_of_ble_eq_true rfl⟩) hP hS rfl hl.1 rfl (Nat.le_of_ble_eq_true rfl) d_X_whatIf_8 ⟨Nat.le_of_ble_eq_true rfl, Nat.le_of_ble_eq_true rfl⟩ (fun r8 H locs hp8 hP hS => ?_)
      rcases hp8 with ⟨hc8, rfl⟩ | ⟨hc8, rfl⟩
      · obtain ⟨jx2, hjx2, rfl⟩ := ch_ic_get hc8 (by decide)
        refine nr_if_ne (tgt := 16) hx hb (by decide) d_X_whatIf_11 (by decide) (fun c11 => ?_) (fun c11 => ?_)
        · refine lv_iload_n hx hb d_X_whatIf_16 rfl (lv_at hl 3 rfl) ?_
          refine lv_if_lt (tgt := 26) hx hb  d_X_whatIf_17 (by decide) (fun c17 => ?_) (fun c17 => ?_)
          · refine lv_bipush (v := (-2)) hx hb d_X_whatIf_26 (by decide) ?_
            exact ct_iret (va, of, sl, wt, kp, cu) hQ hx hb hr hlocks hAe hK hP hD hS ⟨fun V hV => by rw [sp_wi, if_pos hc1, if_pos hc8, if_pos (Or.inl c17)], b_va, b_of, b_sl, b_kp, b_cu, hcu⟩ d_X_whatIf_28
          · refine lv_iload_n hx hb d_X_whatIf_20 rfl (lv_at hl 3 rfl) ?_
            refine lv_bipush (v := nI 100) hx hb d_X_whatIf_21 (by decide) ?_
            refine lv_icmp_le (tgt := 29) hx hb  d_X_whatIf_23 (by decide) (fun c23 => ?_) (fun c23 => ?_)
            · obtain ⟨sy, hsy, rfl⟩ := nr_rng0 c17 c23
              refine lv_aload_n hx hb d_X_whatIf_29 rfl (lv_at hl 0 rfl) ?_
              refine gtX hx hb hts hown hK hP fl_X_32 rfl (k := 7) (by decide) ⟨rfl, rfl, rfl⟩ rfl d_X_whatIf_30 ?_
              refine lv_iload_n hx hb d_X_whatIf_33 rfl (lv_at hl 2 rfl) ?_
              refine nr_iald hx hb hK hP 8 7 rfl rfl (Nat.lt_of_le_of_lt (Nat.le_of_lt_succ hjx2) (by decide)) (by decide) d_X_whatIf_34 ?_
              refine lv_istore (lv' := [(4, .int (nI (se jx2))), (0, .ref h0), (1, .int (nI jx)), (2, .int (nI jx2)), (3, .int (nI sy))]) hx hb d_X_whatIf_35 hl (by decide) rfl (fun ls hl => ?_)
              refine lv_aload_n hx hb d_X_whatIf_37 rfl (lv_at hl 1 rfl) ?_
              refine gtX hx hb hts hown hK hP fl_X_32 rfl (k := 7) (by decide) ⟨rfl, rfl, rfl⟩ rfl d_X_whatIf_38 ?_
              refine lv_iload_n hx hb d_X_whatIf_41 rfl (lv_at hl 3 rfl) ?_
              refine lv_iload_n hx hb d_X_whatIf_42 rfl (lv_at hl 4 rfl) ?_
              refine nr_iast hx hb hK hP hD hS 8 7 rfl rfl (Nat.lt_of_le_of_lt (Nat.le_of_lt_succ hjx2) (by decide)) (by decide) d_X_whatIf_43 (fun H locs hP hD hS => ?_)
              have hP : va_P D classes (wX h0 ad ca hd st sz pt ng dp dn (ch_up se jx2 sy) va of sl wt kp ds cn (-1) cu) H := hP
              have hD : va_D A (wX h0 ad ca hd st sz pt ng dp dn (ch_up se jx2 sy) va of sl wt kp ds cn (-1) cu) := hD
              refine lv_aload_n hx hb d_X_whatIf_44 rfl (lv_at hl 1 rfl) ?_
              refine xc_vV (C := R_X) (rest := []) ⟨hx, hb, hml, hown, hts⟩ (c_X_settleAll l D h0 ad ca hd st sz pt ng dp dn (ch_up se jx2 sy) va of sl wt kp ds cn (-1) cu H.size ⟨b_hd, b_st, b_sz, b_pt, b_ng, b_dp, b_dn, ch_bd_up b_se hsy, b_va, b_of, b_sl, b_kp, b_ds, b_cn, b_cu⟩ hok) (cwV 0 hts (gd_v ml_X_74 im_X_settleAll se_X_settleAll ini_X cd_X_settleAll) rfl rfl rfl (by decide +kernel) ⟨Nat.le_of_ble_eq_true rfl, Nat.le_of_ble_eq_true rfl⟩) (va_recv hK hP (ci := 0) (q0 := 0) rfl rfl) hK hP hD hS hA rfl hl.1 rfl (Nat.le_of_ble_eq_true rfl) d_X_whatIf_45 ⟨Nat.le_of_ble_eq_true rfl, Nat.le_of_ble_eq_true rfl⟩ (fun u45 H locs hp45 hP hD hS => ?_)
              obtain ⟨v45, o45, s45, w45⟩ := u45
              obtain ⟨hs45, bv45, bo45, bs45⟩ := hp45
              have hs45 : ch_Sol (ch_wor st sz pt ng) hd cn (ch_up se jx2 sy) (-1) v45 := hs45
              have hP : va_P D classes (wX h0 ad ca hd st sz pt ng dp dn (ch_up se jx2 sy) v45 o45 s45 w45 kp ds cn (-1) cu) H := hP
              have hD : va_D A (wX h0 ad ca hd st sz pt ng dp dn (ch_up se jx2 sy) v45 o45 s45 w45 kp ds cn (-1) cu) := hD
              refine lv_aload_n hx hb d_X_whatIf_48 rfl (lv_at hl 1 rfl) ?_
              refine gtX hx hb hts hown hK hP fl_X_32 rfl (k := 7) (by decide) ⟨rfl, rfl, rfl⟩ rfl d_X_whatIf_49 ?_
              refine lv_iload_n hx hb d_X_whatIf_52 rfl (lv_at hl 3 rfl) ?_
              refine lv_iload hx hb d_X_whatIf_53 (lv_at hl 0 rfl) ?_
              refine nr_iast hx hb hK hP hD hS 8 7 rfl rfl (Nat.lt_of_le_of_lt (Nat.le_of_lt_succ hjx2) (by decide)) (by decide) d_X_whatIf_55 (fun H locs hP hD hS => ?_)
              have hP : va_P D classes (wX h0 ad ca hd st sz pt ng dp dn (ch_up (ch_up se jx2 sy) jx2 (se jx2)) v45 o45 s45 w45 kp ds cn (-1) cu) H := hP
              have hD : va_D A (wX h0 ad ca hd st sz pt ng dp dn (ch_up (ch_up se jx2 sy) jx2 (se jx2)) v45 o45 s45 w45 kp ds cn (-1) cu) := hD
              rw [ch_up_back] at hP hD
              have hP : va_P D classes (wX h0 ad ca hd st sz pt ng dp dn se v45 o45 s45 w45 kp ds cn (-1) cu) H := hP
              have hD : va_D A (wX h0 ad ca hd st sz pt ng dp dn se v45 o45 s45 w45 kp ds cn (-1) cu) := hD
              refine lv_aload_n hx hb d_X_whatIf_56 rfl (lv_at hl 1 rfl) ?_
              refine lv_iconst (v := nI 0) hx hb d_X_whatIf_57 (by decide) ?_
              refine ptX hx hb hts hown hK hP hD hS fl_X_64 rfl (k := 16) (by decide) ⟨rfl, rfl, rfl, rfl⟩ (ty := .boolean) (by decide +kernel) (by decide) (by decide) (Nat.le_of_ble_eq_true rfl) d_X_whatIf_58 (fun H locs hP hD hS => ?_)
              have hP : va_P D classes (wX h0 ad ca hd st sz pt ng dp dn se v45 o45 s45 w45 kp ds cn (-1) 0) H := hP
              have hD : va_D A (wX h0 ad ca hd st sz pt ng dp dn se v45 o45 s45 w45 kp ds cn (-1) 0) := hD
              refine lv_aload_n hx hb d_X_whatIf_61 rfl (lv_at hl 1 rfl) ?_
              refine gtX hx hb hts hown hK hP fl_X_35 rfl (k := 8) (by decide) ⟨rfl, rfl, rfl⟩ rfl d_X_whatIf_62 ?_
              refine lv_iload_n hx hb d_X_whatIf_65 rfl (lv_at hl 2 rfl) ?_
              refine nr_iald hx hb hK hP 9 8 rfl rfl (Nat.lt_of_le_of_lt (Nat.le_of_lt_succ hjx) (by decide)) (by decide) d_X_whatIf_66 ?_
              exact ct_iret (v45, o45, s45, w45, kp, 0) hQ hx hb hr hlocks hAe hK hP hD hS ⟨fun V hV => by rw [sp_wi, if_pos hc1, if_pos hc8, if_neg (fun z9 => z9.elim c17 (fun y9 => y9 c23)), ch_tn_nI (nr_31 (Nat.le_of_lt hjx2) (by decide)), ch_tn_nI (nr_31 hsy (by decide)), ch_tn_nI (nr_31 (Nat.le_of_lt hjx) (by decide)), ← ch_Slv_at hV (ch_bd_up b_se hsy) hs45 jx hjx], bv45, bo45, bs45, b_kp, Nat.zero_le 1, fun z9 => absurd rfl z9⟩ d_X_whatIf_67
            · refine lv_bipush (v := (-2)) hx hb d_X_whatIf_26 (by decide) ?_
              exact ct_iret (va, of, sl, wt, kp, cu) hQ hx hb hr hlocks hAe hK hP hD hS ⟨fun V hV => by rw [sp_wi, if_pos hc1, if_pos hc8, if_pos (Or.inr c23)], b_va, b_of, b_sl, b_kp, b_cu, hcu⟩ d_X_whatIf_28
        · exact absurd c11 (by decide)
      · refine nr_if_ne (tgt := 16) hx hb (by decide) d_X_whatIf_11 (by decide) (fun c11 => ?_) (fun c11 => ?_)
        · exact absurd c11 (by decide)
        · refine lv_iconst (v := (-1)) hx hb d_X_whatIf_14 (by decide) ?_
          exact ct_iret (va, of, sl, wt, kp, cu) hQ hx hb hr hlocks hAe hK hP hD hS ⟨fun V hV => by rw [sp_wi, if_pos hc1, if_neg (by rw [hc8]; decide)], b_va, b_of, b_sl, b_kp, b_cu, hcu⟩ d_X_whatIf_15
  · refine nr_if_eq (tgt := 14) hx hb (by decide) d_X_whatIf_4 (by decide) (fun c4 => ?_) (fun c4 => ?_)
    · refine lv_iconst (v := (-1)) hx hb d_X_whatIf_14 (by decide) ?_
      exact ct_iret (va, of, sl, wt, kp, cu) hQ hx hb hr hlocks hAe hK hP hD hS ⟨fun V hV => by rw [sp_wi, if_neg (by rw [hc1]; decide)], b_va, b_of, b_sl, b_kp, b_cu, hcu⟩ d_X_whatIf_15
    · exact absurd c4 (by decide)

abbrev rm_X_without : Room := { frames := 5, cells := 0, slots := 0, locals := 115 }
set_option maxHeartbeats 4000000 in
set_option maxRecDepth 100000 in
/-- without(x, x2) -/
theorem c_X_without (l : Launch) (D : va_G) (h0 : Nat) (ad : Nat → Nat) (ca : Nat → ClassId) (hd : Nat → Nat) (st : Nat → Nat) (sz : Nat → Nat) (pt : Nat → Nat) (ng : Nat → Nat) (dp : Nat → Nat) (dn : Nat → Nat) (se : Nat → Nat) (va : Nat → Nat) (of : Nat → Nat) (sl : Nat → Nat) (wt : Nat → Int32) (kp : Nat → Nat) (ds : Nat) (cn : Nat) (sk : Int32) (cu : Nat) (hz : Nat) (B : bX hd st sz pt ng dp dn se va of sl kp ds cn cu) (x : Int32) (x2 : Int32) (hok : ch_ok hd sz pt ng cn) (hsk : sk = (-1)) (hcu : cu ≠ 0 → ch_Sol (ch_wor st sz pt ng) hd cn se (-1) va) : Met l y_X_without w_X_without rm_X_without (va_Pc [.ref h0, .int x, .int x2] (Pw D (wX h0 ad ca hd st sz pt ng dp dn se va of sl wt kp ds cn sk cu) (yX ca) hz)) (va_Qi (fun (v : Int32) (u : (Nat → Nat) × (Nat → Nat) × (Nat → Nat) × (Nat → Int32) × (Nat → Nat) × (Nat)) => (∀ V, ch_Slv (ch_wor st sz pt ng) hd cn V → v = sp_wo x x2 cn se V) ∧ ch_bd 100 u.1 ∧ ch_bd 100 u.2.1 ∧ ch_bd 1 u.2.2.1 ∧ ch_bd 100 u.2.2.2.2.1 ∧ u.2.2.2.2.2 ≤ 1 ∧ (u.2.2.2.2.2 ≠ 0 → ch_Sol (ch_wor st sz pt ng) hd cn se (-1) u.1)) (fun (u : (Nat → Nat) × (Nat → Nat) × (Nat → Nat) × (Nat → Int32) × (Nat → Nat) × (Nat)) => Bw D (wX h0 ad ca hd st sz pt ng dp dn se va of sl wt kp ds cn sk cu) (wX h0 ad ca hd st sz pt ng dp dn se u.1 u.2.1 u.2.2.1 u.2.2.2.1 u.2.2.2.2.1 ds cn sk u.2.2.2.2.2) (yX ca) hz) (va_A (wX h0 ad ca hd st sz pt ng dp dn se va of sl wt kp ds cn sk cu) hz)) 0 0 (va_A (wX h0 ad ca hd st sz pt ng dp dn se va of sl wt kp ds cn sk cu) hz) := by
  obtain ⟨b_hd, b_st, b_sz, b_pt, b_ng, b_dp, b_dn, b_se, b_va, b_of, b_sl, b_kp, b_ds, b_cn, b_cu⟩ := B
  refine ct_start (by decide) (Nat.le_of_ble_eq_true rfl) ?_
  intro p e s m args below meth c A Q ls hx hb hr hlocks hml hts hown hnm hA hAe hsz hS hP hD hK hl hQ
  have hown : s.vm.findClass R_X = some m.cls := hown
  have hl : lv_has ls 3 [(0, .ref h0), (1, .int x), (2, .int x2)] := hl
  have hP : va_P D classes (wX h0 ad ca hd st sz pt ng dp dn se va of sl wt kp ds cn sk cu) s.heap := hP
  obtain ⟨H, hH⟩ : ∃ H, H = s.heap := ⟨_, rfl⟩
  obtain ⟨locs, hlc⟩ : ∃ locs : List Loc, locs = [] := ⟨_, rfl⟩
  have hS : va_S A s.heap H locs := by rw [hH, hlc]; exact hS
  have hP : va_P D classes (wX h0 ad ca hd st sz pt ng dp dn se va of sl wt kp ds cn sk cu) H := by rw [hH]; exact hP
  have hgo : W p l e rm_X_without s m args below meth c H locs 0 0 Q (F0 m 0 ls []) := ?_
  · rw [hH, hlc] at hgo; exact hgo
  clear hH hlc
  subst hsk
  refine lv_iload_n hx hb d_X_without_0 rfl (lv_at hl 1 rfl) ?_
  refine xc_iS (rest := []) ⟨hx, hb, hml, hown, hts⟩ (c_X_isClaim l x) (cwS 1 hts (gd_s ml_X_54 st_X_isClaim ini_X cd_X_isClaim) rfl rfl rfl (by decide +kernel) ⟨Nat.le_of_ble_eq_true rfl, Nat.le_of_ble_eq_true rfl⟩) hP hS rfl hl.1 rfl (Nat.le_of_ble_eq_true rfl) d_X_without_1 ⟨Nat.le_of_ble_eq_true rfl, Nat.le_of_ble_eq_true rfl⟩ (fun r1 H locs hp1 hP hS => ?_)
  rcases hp1 with ⟨hc1, rfl⟩ | ⟨hc1, rfl⟩
  · obtain ⟨jx, hjx, rfl⟩ := ch_ic_get hc1 (by decide)
    refine nr_if_ne (tgt := 9) hx hb (by decide) d_X_without_4 (by decide) (fun c4 => ?_) (fun c4 => ?_)
    · refine lv_aload_n hx hb d_X_without_9 rfl (lv_at hl 0 rfl) ?_
      refine lv_iload_n hx hb d_X_without_10 rfl (lv_at hl 2 rfl) ?_
      refine xc_iV (C := R_X) (rest := []) ⟨hx, hb, hml, hown, hts⟩ (c_X_isRule l D h0 ad ca hd st sz pt ng dp dn se va of sl wt kp ds cn (-1) cu H.size ⟨b_hd, b_st, b_sz, b_pt, b_ng, b_dp, b_dn, b_se, b_va, b_of, b_sl, b_kp, b_ds, b_cn, b_cu⟩ x2) (cwV 1 hts (gd_v ml_X_68 im_X_isRule se_X_isRule ini_X cd_X_isRule) rfl rfl rfl (by decide +kernel) ⟨Nat.le_of_ble_eq_true rfl, Nat.le_of_ble_eq_true rfl⟩) (va_recv hK hP (ci := 0) (q0 := 0) rfl rfl) hK hP hD hS hA rfl hl.1 rfl (Nat.le_of_ble_eq_true rfl) d_X_without_11 ⟨Nat.le_of_ble_eq_true rfl, Nat.le_of_ble_eq_true rfl⟩ (fun r11 u11 H locs hp11 hP hD hS => ?_)
      have hP : va_P D classes (wX h0 ad ca hd st sz pt ng dp dn se va of sl wt kp ds cn (-1) cu) H := hP
      have hD : va_D A (wX h0 ad ca hd st sz pt ng dp dn se va of sl wt kp ds cn (-1) cu) := hD
      rcases hp11 with ⟨hc11, rfl⟩ | ⟨hc11, rfl⟩
      · obtain ⟨jx2, hjx2, rfl⟩ := ch_ic_get hc11 (nr_31 b_cn (by decide))
        refine nr_if_ne (tgt := 20) hx hb (by decide) d_X_without_14 (by decide) (fun c14 => ?_) (fun c14 => ?_)
        · refine lv_aload_n hx hb d_X_without_20 rfl (lv_at hl 0 rfl) ?_
          refine lv_iload_n hx hb d_X_without_21 rfl (lv_at hl 2 rfl) ?_
          refine xc_vV (C := R_X) (rest := []) ⟨hx, hb, hml, hown, hts⟩ (c_X_settleWithout l D h0 ad ca hd st sz pt ng dp dn se va of sl wt kp ds cn (-1) cu H.size ⟨b_hd, b_st, b_sz, b_pt, b_ng, b_dp, b_dn, b_se, b_va, b_of, b_sl, b_kp, b_ds, b_cn, b_cu⟩ (nI jx2) hok) (cwV 1 hts (gd_v ml_X_77 im_X_settleWithout se_X_settleWithout ini_X cd_X_settleWithout) rfl rfl rfl (by decide +kernel) ⟨Nat.le_of_ble_eq_true rfl, Nat.le_of_ble_eq_true rfl⟩) (va_recv hK hP (ci := 0) (q0 := 0) rfl rfl) hK hP hD hS hA rfl hl.1 rfl (Nat.le_of_ble_eq_true rfl) d_X_without_22 ⟨Nat.le_of_ble_eq_true rfl, Nat.le_of_ble_eq_true rfl⟩ (fun u22 H locs hp22 hP hD hS => ?_)
          obtain ⟨v22, o22, s22, w22⟩ := u22
          obtain ⟨hs22, bv22, bo22, bs22⟩ := hp22
          have hs22 : ch_Sol (ch_wor st sz pt ng) hd cn se (nI jx2) v22 := hs22
          have hP : va_P D classes (wX h0 ad ca hd st sz pt ng dp dn se v22 o22 s22 w22 kp ds cn (-1) 0) H := hP
          have hD : va_D A (wX h0 ad ca hd st sz pt ng dp dn se v22 o22 s22 w22 kp ds cn (-1) 0) := hD
          refine lv_aload_n hx hb d_X_without_25 rfl (lv_at hl 0 rfl) ?_
          refine gtX hx hb hts hown hK hP fl_X_35 rfl (k := 8) (by decide) ⟨rfl, rfl, rfl⟩ rfl d_X_without_26 ?_
          refine lv_iload_n hx hb d_X_without_29 rfl (lv_at hl 1 rfl) ?_
          refine nr_iald hx hb hK hP 9 8 rfl rfl (Nat.lt_of_le_of_lt (Nat.le_of_lt_succ hjx) (by decide)) (by decide) d_X_without_30 ?_
          exact ct_iret (v22, o22, s22, w22, kp, 0) hQ hx hb hr hlocks hAe hK hP hD hS ⟨fun V hV => by rw [sp_wo, if_pos hc1, if_pos hc11, ch_tn_nI (nr_31 (Nat.le_of_lt hjx) (by decide)), ← ch_Slv_at hV b_se hs22 jx hjx], bv22, bo22, bs22, b_kp, Nat.zero_le 1, fun z9 => absurd rfl z9⟩ d_X_without_31
        · exact absurd c14 (by decide)
      · refine nr_if_ne (tgt := 20) hx hb (by decide) d_X_without_14 (by decide) (fun c14 => ?_) (fun c14 => ?_)
        · exact absurd c14 (by decide)
        · refine lv_bipush (v := (-2)) hx hb d_X_without_17 (by decide) ?_
          exact ct_iret (va, of, sl, wt, kp, cu) hQ hx hb hr hlocks hAe hK hP hD hS ⟨fun V hV => by rw [sp_wo, if_pos hc1, if_neg (by rw [hc11]; decide)], b_va, b_of, b_sl, b_kp, b_cu, hcu⟩ d_X_without_19
    · exact absurd c4 (by decide)
  · refine nr_if_ne (tgt := 9) hx hb (by decide) d_X_without_4 (by decide) (fun c4 => ?_) (fun c4 => ?_)
    · exact absurd c4 (by decide)
    · refine lv_iconst (v := (-1)) hx hb d_X_without_7 (by decide) ?_
      exact ct_iret (va, of, sl, wt, kp, cu) hQ hx hb hr hlocks hAe hK hP hD hS ⟨fun V hV => by rw [sp_wo, if_neg (by rw [hc1]; decide)], b_va, b_of, b_sl, b_kp, b_cu, hcu⟩ d_X_without_8

abbrev rm_X_supporter : Room := { frames := 5, cells := 0, slots := 0, locals := 114 }
set_option maxHeartbeats 4000000 in
set_option maxRecDepth 100000 in
/-- supporter(x) -/
theorem c_X_supporter (l : Launch) (D : va_G) (h0 : Nat) (ad : Nat → Nat) (ca : Nat → ClassId) (hd : Nat → Nat) (st : Nat → Nat) (sz : Nat → Nat) (pt : Nat → Nat) (ng : Nat → Nat) (dp : Nat → Nat) (dn : Nat → Nat) (se : Nat → Nat) (va : Nat → Nat) (of : Nat → Nat) (sl : Nat → Nat) (wt : Nat → Int32) (kp : Nat → Nat) (ds : Nat) (cn : Nat) (sk : Int32) (cu : Nat) (hz : Nat) (B : bX hd st sz pt ng dp dn se va of sl kp ds cn cu) (x : Int32) (hok : ch_ok hd sz pt ng cn) (hsk : sk = (-1)) (hcu : cu ≠ 0 → ch_Sol (ch_wor st sz pt ng) hd cn se (-1) va) : Met l y_X_supporter w_X_supporter rm_X_supporter (va_Pc [.ref h0, .int x] (Pw D (wX h0 ad ca hd st sz pt ng dp dn se va of sl wt kp ds cn sk cu) (yX ca) hz)) (va_Qi (fun (v : Int32) (u : (Nat → Nat) × (Nat → Nat) × (Nat → Nat) × (Nat → Int32) × (Nat → Nat) × (Nat)) => (∀ V, ch_Slv (ch_wor st sz pt ng) hd cn V → (ch_ic x 16 = true → sp_fst (sp_sup (ch_wor st sz pt ng) hd (ch_tn x) (V se (-1))) cn v) ∧ (ch_ic x 16 = false → v = (-1))) ∧ ch_bd 100 u.1 ∧ ch_bd 100 u.2.1 ∧ ch_bd 1 u.2.2.1 ∧ ch_bd 100 u.2.2.2.2.1 ∧ u.2.2.2.2.2 ≤ 1 ∧ (u.2.2.2.2.2 ≠ 0 → ch_Sol (ch_wor st sz pt ng) hd cn se (-1) u.1)) (fun (u : (Nat → Nat) × (Nat → Nat) × (Nat → Nat) × (Nat → Int32) × (Nat → Nat) × (Nat)) => Bw D (wX h0 ad ca hd st sz pt ng dp dn se va of sl wt kp ds cn sk cu) (wX h0 ad ca hd st sz pt ng dp dn se u.1 u.2.1 u.2.2.1 u.2.2.2.1 u.2.2.2.2.1 ds cn sk u.2.2.2.2.2) (yX ca) hz) (va_A (wX h0 ad ca hd st sz pt ng dp dn se va of sl wt kp ds cn sk cu) hz)) 0 0 (va_A (wX h0 ad ca hd st sz pt ng dp dn se va of sl wt kp ds cn sk cu) hz) := by
  obtain ⟨b_hd, b_st, b_sz, b_pt, b_ng, b_dp, b_dn, b_se, b_va, b_of, b_sl, b_kp, b_ds, b_cn, b_cu⟩ := B
  refine ct_start (by decide) (Nat.le_of_ble_eq_true rfl) ?_
  intro p e s m args below meth c A Q ls hx hb hr hlocks hml hts hown hnm hA hAe hsz hS hP hD hK hl hQ
  have hown : s.vm.findClass R_X = some m.cls := hown
  have hl : lv_has ls 3 [(0, .ref h0), (1, .int x)] := hl
  have hP : va_P D classes (wX h0 ad ca hd st sz pt ng dp dn se va of sl wt kp ds cn sk cu) s.heap := hP
  obtain ⟨H, hH⟩ : ∃ H, H = s.heap := ⟨_, rfl⟩
  obtain ⟨locs, hlc⟩ : ∃ locs : List Loc, locs = [] := ⟨_, rfl⟩
  have hS : va_S A s.heap H locs := by rw [hH, hlc]; exact hS
  have hP : va_P D classes (wX h0 ad ca hd st sz pt ng dp dn se va of sl wt kp ds cn sk cu) H := by rw [hH]; exact hP
  have hgo : W p l e rm_X_supporter s m args below meth c H locs 0 0 Q (F0 m 0 ls []) := ?_
  · rw [hH, hlc] at hgo; exact hgo
  clear hH hlc
  subst hsk
  refine lv_iload_n hx hb d_X_supporter_0 rfl (lv_at hl 1 rfl) ?_
  refine xc_iS (rest := []) ⟨hx, hb, hml, hown, hts⟩ (c_X_isClaim l x) (cwS 1 hts (gd_s ml_X_54 st_X_isClaim ini_X cd_X_isClaim) rfl rfl rfl (by decide +kernel) ⟨Nat.le_of_ble_eq_true rfl, Nat.le_of_ble_eq_true rfl⟩) hP hS rfl hl.1 rfl (Nat.le_of_ble_eq_true rfl) d_X_supporter_1 ⟨Nat.le_of_ble_eq_true rfl, Nat.le_of_ble_eq_true rfl⟩ (fun r1 H locs hp1 hP hS => ?_)
  rcases hp1 with ⟨hc1, rfl⟩ | ⟨hc1, rfl⟩
  · obtain ⟨jx, hjx, rfl⟩ := ch_ic_get hc1 (by decide)
    refine nr_if_ne (tgt := 9) hx hb (by decide) d_X_supporter_4 (by decide) (fun c4 => ?_) (fun c4 => ?_)
    · refine lv_aload_n hx hb d_X_supporter_9 rfl (lv_at hl 0 rfl) ?_
      refine xc_vV (C := R_X) (rest := []) ⟨hx, hb, hml, hown, hts⟩ (c_X_refresh l D h0 ad ca hd st sz pt ng dp dn se va of sl wt kp ds cn (-1) cu H.size ⟨b_hd, b_st, b_sz, b_pt, b_ng, b_dp, b_dn, b_se, b_va, b_of, b_sl, b_kp, b_ds, b_cn, b_cu⟩ hok rfl hcu) (cwV 0 hts (gd_v ml_X_71 im_X_refresh se_X_refresh ini_X cd_X_refresh) rfl rfl rfl (by decide +kernel) ⟨Nat.le_of_ble_eq_true rfl, Nat.le_of_ble_eq_true rfl⟩) (va_recv hK hP (ci := 0) (q0 := 0) rfl rfl) hK hP hD hS hA rfl hl.1 rfl (Nat.le_of_ble_eq_true rfl) d_X_supporter_10 ⟨Nat.le_of_ble_eq_true rfl, Nat.le_of_ble_eq_true rfl⟩ (fun u10 H locs hp10 hP hD hS => ?_)
      obtain ⟨v10, o10, s10, w10⟩ := u10
      obtain ⟨hs10, bv10, bo10, bs10⟩ := hp10
      have hs10 : ch_Sol (ch_wor st sz pt ng) hd cn se (-1) v10 := hs10
      have hP : va_P D classes (wX h0 ad ca hd st sz pt ng dp dn se v10 o10 s10 w10 kp ds cn (-1) 1) H := hP
      have hD : va_D A (wX h0 ad ca hd st sz pt ng dp dn se v10 o10 s10 w10 kp ds cn (-1) 1) := hD
      refine lv_iconst (v := nI 0) hx hb d_X_supporter_13 (by decide) ?_
      refine lv_istore_n (lv' := [(2, .int (nI 0)), (0, .ref h0), (1, .int (nI jx))]) hx hb d_X_supporter_14 rfl hl (by decide) rfl (fun ls hl => ?_)
      have lp15 : ∀ (n : Nat) (r : Nat) (H : Heap) (locs : List Loc) (ls : Array Slot), cn + 1 ≤ r + n → (r ≤ cn) → (∀ a, a < r → ¬ sp_sup (ch_wor st sz pt ng) hd jx v10 a) → va_P D classes (wX h0 ad ca hd st sz pt ng dp dn se v10 o10 s10 w10 kp ds cn (-1) 1) H → va_D A (wX h0 ad ca hd st sz pt ng dp dn se v10 o10 s10 w10 kp ds cn (-1) 1) → va_S A s.heap H locs → lv_has ls 3 [(0, .ref h0), (1, .int (nI jx)), (2, .int (nI r))] → W p l e rm_X_supporter s m args below meth c H locs 0 0 Q (F0 m 15 ls []) := by
        intro n
        induction n with
        | zero =>
          intro r H locs ls hn15 hr2 hno
          exact absurd hn15 (by omega)
        | succ n ih15 =>
          intro r H locs ls hn15 hr2 hno hP hD hS hl
          refine lv_iload_n hx hb d_X_supporter_15 rfl (lv_at hl 2 rfl) ?_
          refine lv_aload_n hx hb d_X_supporter_16 rfl (lv_at hl 0 rfl) ?_
          refine gtX hx hb hts hown hK hP fl_X_61 rfl (k := 14) (by decide) ⟨rfl, rfl, rfl⟩ rfl d_X_supporter_17 ?_
          refine nr_icmp_ge (tgt := 64) hx hb (nr_31 (B := 20) (Nat.le_trans hr2 b_cn) (by decide)) (nr_31 (B := 20) b_cn (by decide)) d_X_supporter_20 (by decide) (fun c20 => ?_) (fun c20 => ?_)
          · refine lv_bipush (v := (-2)) hx hb d_X_supporter_64 (by decide) ?_
            exact ct_iret (v10, o10, s10, w10, kp, 1) hQ hx hb hr hlocks hAe hK hP hD hS ⟨fun V hV => ⟨fun _ => by rw [ch_tn_nI (nr_31 (Nat.le_of_lt hjx) (by decide))]; exact sp_fst_cg (fun r _ => sp_sup_cg b_pt hjx (ch_Slv_at hV b_se hs10)) (Or.inr ⟨fun a ha => hno a (by omega), rfl⟩), fun z9 => absurd (hc1.symm.trans z9) (by decide)⟩, bv10, bo10, bs10, b_kp, Nat.le_refl 1, fun _ => hs10⟩ d_X_supporter_66
          · refine lv_aload_n hx hb d_X_supporter_23 rfl (lv_at hl 0 rfl) ?_
            refine gtX hx hb hts hown hK hP fl_X_7 rfl (k := 0) (by decide) ⟨rfl, rfl, rfl⟩ rfl d_X_supporter_24 ?_
            refine lv_iload_n hx hb d_X_supporter_27 rfl (lv_at hl 2 rfl) ?_
            refine nr_iald hx hb hK hP 1 0 rfl rfl (by omega) (by decide) d_X_supporter_28 ?_
            refine lv_iload_n hx hb d_X_supporter_29 rfl (lv_at hl 1 rfl) ?_
            refine nr_icmp_ne (tgt := 58) hx hb (nr_31 (B := 15) (b_hd _) (by decide)) (nr_31 (B := 15) (Nat.le_of_lt_succ hjx) (by decide)) d_X_supporter_30 (by decide) (fun c30 => ?_) (fun c30 => ?_)
            · refine lv_iinc (v := nI (r + 1)) (lv' := [(2, .int (nI (r + 1))), (0, .ref h0), (1, .int (nI jx))]) hx hb d_X_supporter_58 hl (k := 2) rfl (nI_1 _) (by decide) rfl (fun ls hl => ?_)
              refine lv_goto (tgt := 15) hx hb d_X_supporter_61 (by decide) ?_
              exact ih15 (r + 1) _ _ _ (by omega) (by omega) (lt_s hno (fun z9 => c30 z9.1)) hP hD hS (lv_sub hl [1, 2, 0] rfl)
            · refine lv_aload_n hx hb d_X_supporter_33 rfl (lv_at hl 0 rfl) ?_
              refine gtX hx hb hts hown hK hP fl_X_35 rfl (k := 8) (by decide) ⟨rfl, rfl, rfl⟩ rfl d_X_supporter_34 ?_
              refine lv_iload_n hx hb d_X_supporter_37 rfl (lv_at hl 1 rfl) ?_
              refine nr_iald hx hb hK hP 9 8 rfl rfl (Nat.lt_of_le_of_lt (Nat.le_of_lt_succ hjx) (by decide)) (by decide) d_X_supporter_38 ?_
              refine nr_if_le (tgt := 58) hx hb (nr_31 (B := 100) (bv10 _) (by decide)) d_X_supporter_39 (by decide) (fun c39 => ?_) (fun c39 => ?_)
              · refine lv_iinc (v := nI (r + 1)) (lv' := [(2, .int (nI (r + 1))), (0, .ref h0), (1, .int (nI jx))]) hx hb d_X_supporter_58 hl (k := 2) rfl (nI_1 _) (by decide) rfl (fun ls hl => ?_)
                refine lv_goto (tgt := 15) hx hb d_X_supporter_61 (by decide) ?_
                exact ih15 (r + 1) _ _ _ (by omega) (by omega) (lt_s hno (fun z9 => absurd z9.2.1 (by omega))) hP hD hS (lv_sub hl [1, 2, 0] rfl)
              · refine lv_aload_n hx hb d_X_supporter_42 rfl (lv_at hl 0 rfl) ?_
                refine lv_iload_n hx hb d_X_supporter_43 rfl (lv_at hl 2 rfl) ?_
                refine xc_iV (C := R_X) (rest := []) ⟨hx, hb, hml, hown, hts⟩ (c_X_worth l D h0 ad ca hd st sz pt ng dp dn se v10 o10 s10 w10 kp ds cn (-1) 1 H.size ⟨b_hd, b_st, b_sz, b_pt, b_ng, b_dp, b_dn, b_se, bv10, bo10, bs10, b_kp, b_ds, b_cn, Nat.le_refl 1⟩ r (by omega)) (cwV 1 hts (gd_v ml_X_81 im_X_worth se_X_worth ini_X cd_X_worth) rfl rfl rfl (by decide +kernel) ⟨Nat.le_of_ble_eq_true rfl, Nat.le_of_ble_eq_true rfl⟩) (va_recv hK hP (ci := 0) (q0 := 0) rfl rfl) hK hP hD hS hA rfl hl.1 rfl (Nat.le_of_ble_eq_true rfl) d_X_supporter_44 ⟨Nat.le_of_ble_eq_true rfl, Nat.le_of_ble_eq_true rfl⟩ (fun r44 u44 H locs hp44 hP hD hS => ?_)
                have hP : va_P D classes (wX h0 ad ca hd st sz pt ng dp dn se v10 o10 s10 w10 kp ds cn (-1) 1) H := hP
                have hD : va_D A (wX h0 ad ca hd st sz pt ng dp dn se v10 o10 s10 w10 kp ds cn (-1) 1) := hD
                obtain rfl := hp44
                refine lv_aload_n hx hb d_X_supporter_47 rfl (lv_at hl 0 rfl) ?_
                refine gtX hx hb hts hown hK hP fl_X_35 rfl (k := 8) (by decide) ⟨rfl, rfl, rfl⟩ rfl d_X_supporter_48 ?_
                refine lv_iload_n hx hb d_X_supporter_51 rfl (lv_at hl 1 rfl) ?_
                refine nr_iald hx hb hK hP 9 8 rfl rfl (Nat.lt_of_le_of_lt (Nat.le_of_lt_succ hjx) (by decide)) (by decide) d_X_supporter_52 ?_
                refine nr_icmp_ne (tgt := 58) hx hb (nr_31 (B := 100) (ch_wor_100 (b_st _)) (by decide)) (nr_31 (B := 100) (bv10 _) (by decide)) d_X_supporter_53 (by decide) (fun c53 => ?_) (fun c53 => ?_)
                · refine lv_iinc (v := nI (r + 1)) (lv' := [(2, .int (nI (r + 1))), (0, .ref h0), (1, .int (nI jx))]) hx hb d_X_supporter_58 hl (k := 2) rfl (nI_1 _) (by decide) rfl (fun ls hl => ?_)
                  refine lv_goto (tgt := 15) hx hb d_X_supporter_61 (by decide) ?_
                  exact ih15 (r + 1) _ _ _ (by omega) (by omega) (lt_s hno (fun z9 => c53 z9.2.2)) hP hD hS (lv_sub hl [1, 2, 0] rfl)
                · refine lv_iload_n hx hb d_X_supporter_56 rfl (lv_at hl 2 rfl) ?_
                  exact ct_iret (v10, o10, s10, w10, kp, 1) hQ hx hb hr hlocks hAe hK hP hD hS ⟨fun V hV => ⟨fun _ => by rw [ch_tn_nI (nr_31 (Nat.le_of_lt hjx) (by decide))]; exact sp_fst_cg (fun r _ => sp_sup_cg b_pt hjx (ch_Slv_at hV b_se hs10)) (Or.inl ⟨r, by omega, ⟨c30, by omega, c53⟩, hno, rfl⟩), fun z9 => absurd (hc1.symm.trans z9) (by decide)⟩, bv10, bo10, bs10, b_kp, Nat.le_refl 1, fun _ => hs10⟩ d_X_supporter_57
      exact lp15 (cn + 1) 0 _ _ _ (by omega) (Nat.zero_le _) (fun a h => absurd h (Nat.not_lt_zero _)) hP hD hS (lv_sub hl [1, 2, 0] rfl)
    · exact absurd c4 (by decide)
  · refine nr_if_ne (tgt := 9) hx hb (by decide) d_X_supporter_4 (by decide) (fun c4 => ?_) (fun c4 => ?_)
    · exact absurd c4 (by decide)
    · refine lv_iconst (v := (-1)) hx hb d_X_supporter_7 (by decide) ?_
      exact ct_iret (va, of, sl, wt, kp, cu) hQ hx hb hr hlocks hAe hK hP hD hS ⟨fun V hV => ⟨fun z9 => absurd (hc1.symm.trans z9) (by decide), fun _ => rfl⟩, b_va, b_of, b_sl, b_kp, b_cu, hcu⟩ d_X_supporter_8

abbrev rm_X_yield : Room := { frames := 5, cells := 0, slots := 0, locals := 114 }
set_option maxHeartbeats 4000000 in
set_option maxRecDepth 100000 in
/-- yield(x) -/
theorem c_X_yield (l : Launch) (D : va_G) (h0 : Nat) (ad : Nat → Nat) (ca : Nat → ClassId) (hd : Nat → Nat) (st : Nat → Nat) (sz : Nat → Nat) (pt : Nat → Nat) (ng : Nat → Nat) (dp : Nat → Nat) (dn : Nat → Nat) (se : Nat → Nat) (va : Nat → Nat) (of : Nat → Nat) (sl : Nat → Nat) (wt : Nat → Int32) (kp : Nat → Nat) (ds : Nat) (cn : Nat) (sk : Int32) (cu : Nat) (hz : Nat) (B : bX hd st sz pt ng dp dn se va of sl kp ds cn cu) (x : Int32) (hok : ch_ok hd sz pt ng cn) (hsk : sk = (-1)) (hcu : cu ≠ 0 → ch_Sol (ch_wor st sz pt ng) hd cn se (-1) va) : Met l y_X_yield w_X_yield rm_X_yield (va_Pc [.ref h0, .int x] (Pw D (wX h0 ad ca hd st sz pt ng dp dn se va of sl wt kp ds cn sk cu) (yX ca) hz)) (va_Qi (fun (v : Int32) (u : (Nat → Nat) × (Nat → Nat) × (Nat → Nat) × (Nat → Int32) × (Nat → Nat) × (Nat)) => (∀ V, ch_Slv (ch_wor st sz pt ng) hd cn V → v = sp_at x cn (ch_wor st sz pt ng (V se (-1)))) ∧ ch_bd 100 u.1 ∧ ch_bd 100 u.2.1 ∧ ch_bd 1 u.2.2.1 ∧ ch_bd 100 u.2.2.2.2.1 ∧ u.2.2.2.2.2 ≤ 1 ∧ (u.2.2.2.2.2 ≠ 0 → ch_Sol (ch_wor st sz pt ng) hd cn se (-1) u.1)) (fun (u : (Nat → Nat) × (Nat → Nat) × (Nat → Nat) × (Nat → Int32) × (Nat → Nat) × (Nat)) => Bw D (wX h0 ad ca hd st sz pt ng dp dn se va of sl wt kp ds cn sk cu) (wX h0 ad ca hd st sz pt ng dp dn se u.1 u.2.1 u.2.2.1 u.2.2.2.1 u.2.2.2.2.1 ds cn sk u.2.2.2.2.2) (yX ca) hz) (va_A (wX h0 ad ca hd st sz pt ng dp dn se va of sl wt kp ds cn sk cu) hz)) 0 0 (va_A (wX h0 ad ca hd st sz pt ng dp dn se va of sl wt kp ds cn sk cu) hz) := by
  obtain ⟨b_hd, b_st, b_sz, b_pt, b_ng, b_dp, b_dn, b_se, b_va, b_of, b_sl, b_kp, b_ds, b_cn, b_cu⟩ := B
  refine ct_start (by decide) (Nat.le_of_ble_eq_true rfl) ?_
  intro p e s m args below meth c A Q ls hx hb hr hlocks hml hts hown hnm hA hAe hsz hS hP hD hK hl hQ
  have hown : s.vm.findClass R_X = some m.cls := hown
  have hl : lv_has ls 2 [(0, .ref h0), (1, .int x)] := hl
  have hP : va_P D classes (wX h0 ad ca hd st sz pt ng dp dn se va of sl wt kp ds cn sk cu) s.heap := hP
  obtain ⟨H, hH⟩ : ∃ H, H = s.heap := ⟨_, rfl⟩
  obtain ⟨locs, hlc⟩ : ∃ locs : List Loc, locs = [] := ⟨_, rfl⟩
  have hS : va_S A s.heap H locs := by rw [hH, hlc]; exact hS
  have hP : va_P D classes (wX h0 ad ca hd st sz pt ng dp dn se va of sl wt kp ds cn sk cu) H := by rw [hH]; exact hP
  have hgo : W p l e rm_X_yield s m args below meth c H locs 0 0 Q (F0 m 0 ls []) := ?_
  · rw [hH, hlc] at hgo; exact hgo
  clear hH hlc
  subst hsk
  refine lv_aload_n hx hb d_X_yield_0 rfl (lv_at hl 0 rfl) ?_
  refine lv_iload_n hx hb d_X_yield_1 rfl (lv_at hl 1 rfl) ?_
  refine xc_iV (C := R_X) (rest := []) ⟨hx, hb, hml, hown, hts⟩ (c_X_isRule l D h0 ad ca hd st sz pt ng dp dn se va of sl wt kp ds cn (-1) cu H.size ⟨b_hd, b_st, b_sz, b_pt, b_ng, b_dp, b_dn, b_se, b_va, b_of, b_sl, b_kp, b_ds, b_cn, b_cu⟩ x) (cwV 1 hts (gd_v ml_X_68 im_X_isRule se_X_isRule ini_X cd_X_isRule) rfl rfl rfl (by decide +kernel) ⟨Nat.le_of_ble_eq_true rfl, Nat.le_of_ble_eq_true rfl⟩) (va_recv hK hP (ci := 0) (q0 := 0) rfl rfl) hK hP hD hS hA rfl hl.1 rfl (Nat.le_of_ble_eq_true rfl) d_X_yield_2 ⟨Nat.le_of_ble_eq_true rfl, Nat.le_of_ble_eq_true rfl⟩ (fun r2 u2 H locs hp2 hP hD hS => ?_)
  have hP : va_P D classes (wX h0 ad ca hd st sz pt ng dp dn se va of sl wt kp ds cn (-1) cu) H := hP
  have hD : va_D A (wX h0 ad ca hd st sz pt ng dp dn se va of sl wt kp ds cn (-1) cu) := hD
  rcases hp2 with ⟨hc2, rfl⟩ | ⟨hc2, rfl⟩
  · obtain ⟨jx, hjx, rfl⟩ := ch_ic_get hc2 (nr_31 b_cn (by decide))
    refine nr_if_ne (tgt := 10) hx hb (by decide) d_X_yield_5 (by decide) (fun c5 => ?_) (fun c5 => ?_)
    · refine lv_aload_n hx hb d_X_yield_10 rfl (lv_at hl 0 rfl) ?_
      refine xc_vV (C := R_X) (rest := []) ⟨hx, hb, hml, hown, hts⟩ (c_X_refresh l D h0 ad ca hd st sz pt ng dp dn se va of sl wt kp ds cn (-1) cu H.size ⟨b_hd, b_st, b_sz, b_pt, b_ng, b_dp, b_dn, b_se, b_va, b_of, b_sl, b_kp, b_ds, b_cn, b_cu⟩ hok rfl hcu) (cwV 0 hts (gd_v ml_X_71 im_X_refresh se_X_refresh ini_X cd_X_refresh) rfl rfl rfl (by decide +kernel) ⟨Nat.le_of_ble_eq_true rfl, Nat.le_of_ble_eq_true rfl⟩) (va_recv hK hP (ci := 0) (q0 := 0) rfl rfl) hK hP hD hS hA rfl hl.1 rfl (Nat.le_of_ble_eq_true rfl) d_X_yield_11 ⟨Nat.le_of_ble_eq_true rfl, Nat.le_of_ble_eq_true rfl⟩ (fun u11 H locs hp11 hP hD hS => ?_)
      obtain ⟨v11, o11, s11, w11⟩ := u11
      obtain ⟨hs11, bv11, bo11, bs11⟩ := hp11
      have hs11 : ch_Sol (ch_wor st sz pt ng) hd cn se (-1) v11 := hs11
      have hP : va_P D classes (wX h0 ad ca hd st sz pt ng dp dn se v11 o11 s11 w11 kp ds cn (-1) 1) H := hP
      have hD : va_D A (wX h0 ad ca hd st sz pt ng dp dn se v11 o11 s11 w11 kp ds cn (-1) 1) := hD
      refine lv_aload_n hx hb d_X_yield_14 rfl (lv_at hl 0 rfl) ?_
      refine lv_iload_n hx hb d_X_yield_15 rfl (lv_at hl 1 rfl) ?_
      refine xc_iV (C := R_X) (rest := []) ⟨hx, hb, hml, hown, hts⟩ (c_X_worth l D h0 ad ca hd st sz pt ng dp dn se v11 o11 s11 w11 kp ds cn (-1) 1 H.size ⟨b_hd, b_st, b_sz, b_pt, b_ng, b_dp, b_dn, b_se, bv11, bo11, bs11, b_kp, b_ds, b_cn, Nat.le_refl 1⟩ jx (by omega)) (cwV 1 hts (gd_v ml_X_81 im_X_worth se_X_worth ini_X cd_X_worth) rfl rfl rfl (by decide +kernel) ⟨Nat.le_of_ble_eq_true rfl, Nat.le_of_ble_eq_true rfl⟩) (va_recv hK hP (ci := 0) (q0 := 0) rfl rfl) hK hP hD hS hA rfl hl.1 rfl (Nat.le_of_ble_eq_true rfl) d_X_yield_16 ⟨Nat.le_of_ble_eq_true rfl, Nat.le_of_ble_eq_true rfl⟩ (fun r16 u16 H locs hp16 hP hD hS => ?_)
      have hP : va_P D classes (wX h0 ad ca hd st sz pt ng dp dn se v11 o11 s11 w11 kp ds cn (-1) 1) H := hP
      have hD : va_D A (wX h0 ad ca hd st sz pt ng dp dn se v11 o11 s11 w11 kp ds cn (-1) 1) := hD
      obtain rfl := hp16
      exact ct_iret (v11, o11, s11, w11, kp, 1) hQ hx hb hr hlocks hAe hK hP hD hS ⟨fun V hV => by rw [sp_at_t hjx (nr_31 b_cn (by decide)), ch_wor_16 b_pt (ch_Slv_at hV b_se hs11)], bv11, bo11, bs11, b_kp, Nat.le_refl 1, fun _ => hs11⟩ d_X_yield_19
    · exact absurd c5 (by decide)
  · refine nr_if_ne (tgt := 10) hx hb (by decide) d_X_yield_5 (by decide) (fun c5 => ?_) (fun c5 => ?_)
    · exact absurd c5 (by decide)
    · refine lv_iconst (v := (-1)) hx hb d_X_yield_8 (by decide) ?_
      exact ct_iret (va, of, sl, wt, kp, cu) hQ hx hb hr hlocks hAe hK hP hD hS ⟨fun V hV => (sp_at_f hc2).symm, b_va, b_of, b_sl, b_kp, b_cu, hcu⟩ d_X_yield_9

abbrev rm_X_atLeast : Room := { frames := 5, cells := 0, slots := 0, locals := 114 }
set_option maxHeartbeats 4000000 in
set_option maxRecDepth 100000 in
/-- atLeast(x) -/
theorem c_X_atLeast (l : Launch) (D : va_G) (h0 : Nat) (ad : Nat → Nat) (ca : Nat → ClassId) (hd : Nat → Nat) (st : Nat → Nat) (sz : Nat → Nat) (pt : Nat → Nat) (ng : Nat → Nat) (dp : Nat → Nat) (dn : Nat → Nat) (se : Nat → Nat) (va : Nat → Nat) (of : Nat → Nat) (sl : Nat → Nat) (wt : Nat → Int32) (kp : Nat → Nat) (ds : Nat) (cn : Nat) (sk : Int32) (cu : Nat) (hz : Nat) (B : bX hd st sz pt ng dp dn se va of sl kp ds cn cu) (x : Int32) (hok : ch_ok hd sz pt ng cn) (hsk : sk = (-1)) (hcu : cu ≠ 0 → ch_Sol (ch_wor st sz pt ng) hd cn se (-1) va) : Met l y_X_atLeast w_X_atLeast rm_X_atLeast (va_Pc [.ref h0, .int x] (Pw D (wX h0 ad ca hd st sz pt ng dp dn se va of sl wt kp ds cn sk cu) (yX ca) hz)) (va_Qi (fun (v : Int32) (u : (Nat → Nat) × (Nat → Nat) × (Nat → Nat) × (Nat → Int32) × (Nat → Nat) × (Nat)) => (∀ V, ch_Slv (ch_wor st sz pt ng) hd cn V → v = nI (sp_al (V se (-1)) x 16)) ∧ ch_bd 100 u.1 ∧ ch_bd 100 u.2.1 ∧ ch_bd 1 u.2.2.1 ∧ ch_bd 100 u.2.2.2.2.1 ∧ u.2.2.2.2.2 ≤ 1 ∧ (u.2.2.2.2.2 ≠ 0 → ch_Sol (ch_wor st sz pt ng) hd cn se (-1) u.1)) (fun (u : (Nat → Nat) × (Nat → Nat) × (Nat → Nat) × (Nat → Int32) × (Nat → Nat) × (Nat)) => Bw D (wX h0 ad ca hd st sz pt ng dp dn se va of sl wt kp ds cn sk cu) (wX h0 ad ca hd st sz pt ng dp dn se u.1 u.2.1 u.2.2.1 u.2.2.2.1 u.2.2.2.2.1 ds cn sk u.2.2.2.2.2) (yX ca) hz) (va_A (wX h0 ad ca hd st sz pt ng dp dn se va of sl wt kp ds cn sk cu) hz)) 0 0 (va_A (wX h0 ad ca hd st sz pt ng dp dn se va of sl wt kp ds cn sk cu) hz) := by
  obtain ⟨b_hd, b_st, b_sz, b_pt, b_ng, b_dp, b_dn, b_se, b_va, b_of, b_sl, b_kp, b_ds, b_cn, b_cu⟩ := B
  refine ct_start (by decide) (Nat.le_of_ble_eq_true rfl) ?_
  intro p e s m args below meth c A Q ls hx hb hr hlocks hml hts hown hnm hA hAe hsz hS hP hD hK hl hQ
  have hown : s.vm.findClass R_X = some m.cls := hown
  have hl : lv_has ls 4 [(0, .ref h0), (1, .int x)] := hl
  have hP : va_P D classes (wX h0 ad ca hd st sz pt ng dp dn se va of sl wt kp ds cn sk cu) s.heap := hP
  obtain ⟨H, hH⟩ : ∃ H, H = s.heap := ⟨_, rfl⟩
  obtain ⟨locs, hlc⟩ : ∃ locs : List Loc, locs = [] := ⟨_, rfl⟩
  have hS : va_S A s.heap H locs := by rw [hH, hlc]; exact hS
  have hP : va_P D classes (wX h0 ad ca hd st sz pt ng dp dn se va of sl wt kp ds cn sk cu) H := by rw [hH]; exact hP
  have hgo : W p l e rm_X_atLeast s m args below meth c H locs 0 0 Q (F0 m 0 ls []) := ?_
  · rw [hH, hlc] at hgo; exact hgo
  clear hH hlc
  subst hsk
  refine lv_aload_n hx hb d_X_atLeast_0 rfl (lv_at hl 0 rfl) ?_
  refine xc_vV (C := R_X) (rest := []) ⟨hx, hb, hml, hown, hts⟩ (c_X_refresh l D h0 ad ca hd st sz pt ng dp dn se va of sl wt kp ds cn (-1) cu H.size ⟨b_hd, b_st, b_sz, b_pt, b_ng, b_dp, b_dn, b_se, b_va, b_of, b_sl, b_kp, b_ds, b_cn, b_cu⟩ hok rfl hcu) (cwV 0 hts (gd_v ml_X_71 im_X_refresh se_X_refresh ini_X cd_X_refresh) rfl rfl rfl (by decide +kernel) ⟨Nat.le_of_ble_eq_true rfl, Nat.le_of_ble_eq_true rfl⟩) (va_recv hK hP (ci := 0) (q0 := 0) rfl rfl) hK hP hD hS hA rfl hl.1 rfl (Nat.le_of_ble_eq_true rfl) d_X_atLeast_1 ⟨Nat.le_of_ble_eq_true rfl, Nat.le_of_ble_eq_true rfl⟩ (fun u1 H locs hp1 hP hD hS => ?_)
  obtain ⟨v1, o1, s1, w1⟩ := u1
  obtain ⟨hs1, bv1, bo1, bs1⟩ := hp1
  have hs1 : ch_Sol (ch_wor st sz pt ng) hd cn se (-1) v1 := hs1
  have hP : va_P D classes (wX h0 ad ca hd st sz pt ng dp dn se v1 o1 s1 w1 kp ds cn (-1) 1) H := hP
  have hD : va_D A (wX h0 ad ca hd st sz pt ng dp dn se v1 o1 s1 w1 kp ds cn (-1) 1) := hD
  refine lv_iconst (v := nI 0) hx hb d_X_atLeast_4 (by decide) ?_
  refine lv_istore_n (lv' := [(2, .int (nI 0)), (0, .ref h0), (1, .int x)]) hx hb d_X_atLeast_5 rfl hl (by decide) rfl (fun ls hl => ?_)
  refine lv_iconst (v := nI 0) hx hb d_X_atLeast_6 (by decide) ?_
  refine lv_istore_n (lv' := [(3, .int (nI 0)), (2, .int (nI 0)), (0, .ref h0), (1, .int x)]) hx hb d_X_atLeast_7 rfl hl (by decide) rfl (fun ls hl => ?_)
  have lp8 : ∀ (n : Nat) (k : Nat) (q : Nat) (H : Heap) (locs : List Loc) (ls : Array Slot), 16 + 1 ≤ k + n → (k ≤ 16) → (q = sp_al v1 x k) → va_P D classes (wX h0 ad ca hd st sz pt ng dp dn se v1 o1 s1 w1 kp ds cn (-1) 1) H → va_D A (wX h0 ad ca hd st sz pt ng dp dn se v1 o1 s1 w1 kp ds cn (-1) 1) → va_S A s.heap H locs → lv_has ls 4 [(0, .ref h0), (1, .int x), (2, .int (nI q)), (3, .int (nI k))] → W p l e rm_X_atLeast s m args below meth c H locs 0 0 Q (F0 m 8 ls []) := by
    intro n
    induction n with
    | zero =>
      intro k q H locs ls hn8 hk hq
      exact absurd hn8 (by omega)
    | succ n ih8 =>
      intro k q H locs ls hn8 hk hq hP hD hS hl
      refine lv_iload_n hx hb d_X_atLeast_8 rfl (lv_at hl 3 rfl) ?_
      refine lv_bipush (v := nI 16) hx hb d_X_atLeast_9 (by decide) ?_
      refine nr_icmp_ge (tgt := 33) hx hb (nr_31 (B := 16) hk (by decide)) (by decide) d_X_atLeast_11 (by decide) (fun c11 => ?_) (fun c11 => ?_)
      · refine lv_iload_n hx hb d_X_atLeast_33 rfl (lv_at hl 2 rfl) ?_
        exact ct_iret (v1, o1, s1, w1, kp, 1) hQ hx hb hr hlocks hAe hK hP hD hS ⟨fun V hV => by rw [hq, show k = 16 by omega, sp_al_cg 16 (ch_Slv_at hV b_se hs1)], bv1, bo1, bs1, b_kp, Nat.le_refl 1, fun _ => hs1⟩ d_X_atLeast_34
      · refine lv_aload_n hx hb d_X_atLeast_14 rfl (lv_at hl 0 rfl) ?_
        refine gtX hx hb hts hown hK hP fl_X_35 rfl (k := 8) (by decide) ⟨rfl, rfl, rfl⟩ rfl d_X_atLeast_15 ?_
        refine lv_iload_n hx hb d_X_atLeast_18 rfl (lv_at hl 3 rfl) ?_
        refine nr_iald hx hb hK hP 9 8 rfl rfl (by omega) (by decide) d_X_atLeast_19 ?_
        refine lv_iload_n hx hb d_X_atLeast_20 rfl (lv_at hl 1 rfl) ?_
        refine lv_icmp_lt (tgt := 27) hx hb  d_X_atLeast_21 (by decide) (fun c21 => ?_) (fun c21 => ?_)
        · refine lv_iinc (v := nI (k + 1)) (lv' := [(3, .int (nI (k + 1))), (0, .ref h0), (1, .int x), (2, .int (nI q))]) hx hb d_X_atLeast_27 hl (k := 3) rfl (nI_1 _) (by decide) rfl (fun ls hl => ?_)
          refine lv_goto (tgt := 8) hx hb d_X_atLeast_30 (by decide) ?_
          exact ih8 (k + 1) q _ _ _ (by omega) (by omega) (by rw [sp_al, if_pos c21, Nat.add_zero, hq]) hP hD hS (lv_sub hl [1, 2, 3, 0] rfl)
        · refine lv_iinc (v := nI (q + 1)) (lv' := [(2, .int (nI (q + 1))), (0, .ref h0), (1, .int x), (3, .int (nI k))]) hx hb d_X_atLeast_24 hl (k := 2) rfl (nI_1 _) (by decide) rfl (fun ls hl => ?_)
          refine lv_iinc (v := nI (k + 1)) (lv' := [(3, .int (nI (k + 1))), (2, .int (nI (q + 1))), (0, .ref h0), (1, .int x)]) hx hb d_X_atLeast_27 hl (k := 3) rfl (nI_1 _) (by decide) rfl (fun ls hl => ?_)
          refine lv_goto (tgt := 8) hx hb d_X_atLeast_30 (by decide) ?_
          exact ih8 (k + 1) (q + 1) _ _ _ (by omega) (by omega) (by rw [sp_al, if_neg c21, hq]) hP hD hS (lv_sub hl [2, 3, 1, 0] rfl)
  exact lp8 (16 + 1) 0 0 _ _ _ (by omega) (by decide) rfl hP hD hS (lv_sub hl [2, 3, 1, 0] rfl)

abbrev rm_X_strongest : Room := { frames := 5, cells := 0, slots := 0, locals := 114 }
set_option maxHeartbeats 4000000 in
set_option maxRecDepth 100000 in
/-- strongest(x, x2) -/
theorem c_X_strongest (l : Launch) (D : va_G) (h0 : Nat) (ad : Nat → Nat) (ca : Nat → ClassId) (hd : Nat → Nat) (st : Nat → Nat) (sz : Nat → Nat) (pt : Nat → Nat) (ng : Nat → Nat) (dp : Nat → Nat) (dn : Nat → Nat) (se : Nat → Nat) (va : Nat → Nat) (of : Nat → Nat) (sl : Nat → Nat) (wt : Nat → Int32) (kp : Nat → Nat) (ds : Nat) (cn : Nat) (sk : Int32) (cu : Nat) (hz : Nat) (B : bX hd st sz pt ng dp dn se va of sl kp ds cn cu) (x : Int32) (x2 : Int32) (hok : ch_ok hd sz pt ng cn) (hsk : sk = (-1)) (hcu : cu ≠ 0 → ch_Sol (ch_wor st sz pt ng) hd cn se (-1) va) : Met l y_X_strongest w_X_strongest rm_X_strongest (va_Pc [.ref h0, .int x, .int x2] (Pw D (wX h0 ad ca hd st sz pt ng dp dn se va of sl wt kp ds cn sk cu) (yX ca) hz)) (va_Qi (fun (v : Int32) (u : (Nat → Nat) × (Nat → Nat) × (Nat → Nat) × (Nat → Int32) × (Nat → Nat) × (Nat)) => (∀ V, ch_Slv (ch_wor st sz pt ng) hd cn V → v = sp_stg x x2 (V se (-1))) ∧ ch_bd 100 u.1 ∧ ch_bd 100 u.2.1 ∧ ch_bd 1 u.2.2.1 ∧ ch_bd 100 u.2.2.2.2.1 ∧ u.2.2.2.2.2 ≤ 1 ∧ (u.2.2.2.2.2 ≠ 0 → ch_Sol (ch_wor st sz pt ng) hd cn se (-1) u.1)) (fun (u : (Nat → Nat) × (Nat → Nat) × (Nat → Nat) × (Nat → Int32) × (Nat → Nat) × (Nat)) => Bw D (wX h0 ad ca hd st sz pt ng dp dn se va of sl wt kp ds cn sk cu) (wX h0 ad ca hd st sz pt ng dp dn se u.1 u.2.1 u.2.2.1 u.2.2.2.1 u.2.2.2.2.1 ds cn sk u.2.2.2.2.2) (yX ca) hz) (va_A (wX h0 ad ca hd st sz pt ng dp dn se va of sl wt kp ds cn sk cu) hz)) 0 0 (va_A (wX h0 ad ca hd st sz pt ng dp dn se va of sl wt kp ds cn sk cu) hz) := by
  obtain ⟨b_hd, b_st, b_sz, b_pt, b_ng, b_dp, b_dn, b_se, b_va, b_of, b_sl, b_kp, b_ds, b_cn, b_cu⟩ := B
  refine ct_start (by decide) (Nat.le_of_ble_eq_true rfl) ?_
  intro p e s m args below meth c A Q ls hx hb hr hlocks hml hts hown hnm hA hAe hsz hS hP hD hK hl hQ
  have hown : s.vm.findClass R_X = some m.cls := hown
  have hl : lv_has ls 5 [(0, .ref h0), (1, .int x), (2, .int x2)] := hl
  have hP : va_P D classes (wX h0 ad ca hd st sz pt ng dp dn se va of sl wt kp ds cn sk cu) s.heap := hP
  obtain ⟨H, hH⟩ : ∃ H, H = s.heap := ⟨_, rfl⟩
  obtain ⟨locs, hlc⟩ : ∃ locs : List Loc, locs = [] := ⟨_, rfl⟩
  have hS : va_S A s.heap H locs := by rw [hH, hlc]; exact hS
  have hP : va_P D classes (wX h0 ad ca hd st sz pt ng dp dn se va of sl wt kp ds cn sk cu) H := by rw [hH]; exact hP
  have hgo : W p l e rm_X_strongest s m args below meth c H locs 0 0 Q (F0 m 0 ls []) := ?_
  · rw [hH, hlc] at hgo; exact hgo
  clear hH hlc
  subst hsk
  refine lv_iload_n hx hb d_X_strongest_0 rfl (lv_at hl 1 rfl) ?_
  refine xc_iS (rest := []) ⟨hx, hb, hml, hown, hts⟩ (c_X_isClaim l x) (cwS 1 hts (gd_s ml_X_54 st_X_isClaim ini_X cd_X_isClaim) rfl rfl rfl (by decide +kernel) ⟨Nat.le_of_ble_eq_true rfl, Nat.le_of_ble_eq_true rfl⟩) hP hS rfl hl.1 rfl (Nat.le_of_ble_eq_true rfl) d_X_strongest_1 ⟨Nat.le_of_ble_eq_true rfl, Nat.le_of_ble_eq_true rfl⟩ (fun r1 H locs hp1 hP hS => ?_)
  rcases hp1 with ⟨hc1, rfl⟩ | ⟨hc1, rfl⟩
  · obtain ⟨jx, hjx, rfl⟩ := ch_ic_get hc1 (by decide)
    refine nr_if_eq (tgt := 14) hx hb (by decide) d_X_strongest_4 (by decide) (fun c4 => ?_) (fun c4 => ?_)
    · exact absurd c4 (by decide)
    · refine lv_iload_n hx hb d_X_strongest_7 rfl (lv_at hl 2 rfl) ?_
      refine xc_iS (rest := []) ⟨hx, hb, hml, hown, hts⟩ (c_X_isClaim l x2) (cwS 1 hts (gd_s ml_X_54 st_X_isClaim ini_X cd_X_isClaim) rfl rfl rfl (by decide +kernel) ⟨Nat.le_of_ble_eq_true rfl, Nat.le_of_ble_eq_true rfl⟩) hP hS rfl hl.1 rfl (Nat.le_of_ble_eq_true rfl) d_X_strongest_8 ⟨Nat.le_of_ble_eq_true rfl, Nat.le_of_ble_eq_true rfl⟩ (fun r8 H locs hp8 hP hS => ?_)
      rcases hp8 with ⟨hc8, rfl⟩ | ⟨hc8, rfl⟩
      · obtain ⟨jx2, hjx2, rfl⟩ := ch_ic_get hc8 (by decide)
        refine nr_if_ne (tgt := 16) hx hb (by decide) d_X_strongest_11 (by decide) (fun c11 => ?_) (fun c11 => ?_)
        · refine lv_iload_n hx hb d_X_strongest_16 rfl (lv_at hl 1 rfl) ?_
          refine lv_iload_n hx hb d_X_strongest_17 rfl (lv_at hl 2 rfl) ?_
          refine nr_icmp_le (tgt := 24) hx hb (nr_31 (B := 15) (Nat.le_of_lt_succ hjx) (by decide)) (nr_31 (B := 15) (Nat.le_of_lt_succ hjx2) (by decide)) d_X_strongest_18 (by decide) (fun c18 => ?_) (fun c18 => ?_)
          · refine lv_aload_n hx hb d_X_strongest_24 rfl (lv_at hl 0 rfl) ?_
            refine xc_vV (C := R_X) (rest := []) ⟨hx, hb, hml, hown, hts⟩ (c_X_refresh l D h0 ad ca hd st sz pt ng dp dn se va of sl wt kp ds cn (-1) cu H.size ⟨b_hd, b_st, b_sz, b_pt, b_ng, b_dp, b_dn, b_se, b_va, b_of, b_sl, b_kp, b_ds, b_cn, b_cu⟩ hok rfl hcu) (cwV 0 hts (gd_v ml_X_71 im_X_refresh se_X_refresh ini_X cd_X_refresh) rfl rfl rfl (by decide +kernel) ⟨Nat.le_of_ble_eq_true rfl, Nat.le_of_ble_eq_true rfl⟩) (va_recv hK hP (ci := 0) (q0 := 0) rfl rfl) hK hP hD hS hA rfl hl.1 rfl (Nat.le_of_ble_eq_true rfl) d_X_strongest_25 ⟨Nat.le_of_ble_eq_true rfl, Nat.le_of_ble_eq_true rfl⟩ (fun u25 H locs hp25 hP hD hS => ?_)
            obtain ⟨v25, o25, s25, w25⟩ := u25
            obtain ⟨hs25, bv25, bo25, bs25⟩ := hp25
            have hs25 : ch_Sol (ch_wor st sz pt ng) hd cn se (-1) v25 := hs25
            have hP : va_P D classes (wX h0 ad ca hd st sz pt ng dp dn se v25 o25 s25 w25 kp ds cn (-1) 1) H := hP
            have hD : va_D A (wX h0 ad ca hd st sz pt ng dp dn se v25 o25 s25 w25 kp ds cn (-1) 1) := hD
            refine lv_iload_n hx hb d_X_strongest_28 rfl (lv_at hl 1 rfl) ?_
            refine lv_istore_n (lv' := [(3, .int (nI jx)), (0, .ref h0), (1, .int (nI jx)), (2, .int (nI jx2))]) hx hb d_X_strongest_29 rfl hl (by decide) rfl (fun ls hl => ?_)
            refine lv_iload_n hx hb d_X_strongest_30 rfl (lv_at hl 2 rfl) ?_
            refine lv_iconst (v := nI 1) hx hb d_X_strongest_31 (by decide) ?_
            refine nr_iadd hx hb d_X_strongest_32 ?_
            refine lv_istore (lv' := [(4, .int (nI (jx + 1))), (3, .int (nI jx)), (0, .ref h0), (1, .int (nI jx)), (2, .int (nI jx2))]) hx hb d_X_strongest_33 hl (by decide) rfl (fun ls hl => ?_)
            have lp35 : ∀ (n : Nat) (k : Nat) (b : Nat) (H : Heap) (locs : List Loc) (ls : Array Slot), jx2 + 1 ≤ jx + k + n → (jx + k ≤ jx2) → (b = sp_bst v25 jx k) → va_P D classes (wX h0 ad ca hd st sz pt ng dp dn se v25 o25 s25 w25 kp ds cn (-1) 1) H → va_D A (wX h0 ad ca hd st sz pt ng dp dn se v25 o25 s25 w25 kp ds cn (-1) 1) → va_S A s.heap H locs → lv_has ls 5 [(0, .ref h0), (1, .int (nI jx)), (2, .int (nI jx2)), (3, .int (nI b)), (4, .int (nI ((jx + k) + 1)))] → W p l e rm_X_strongest s m args below meth c H locs 0 0 Q (F0 m 35 ls []) := by
              intro n
              induction n with
              | zero =>
                intro k b H locs ls hn35 hk hb9
                exact absurd hn35 (by omega)
              | succ n ih35 =>
                intro k b H locs ls hn35 hk hb9 hP hD hS hl
                have zb := sp_bst_in v25 jx k
                refine lv_iload hx hb d_X_strongest_35 (lv_at hl 4 rfl) ?_
                refine lv_iload_n hx hb d_X_strongest_37 rfl (lv_at hl 2 rfl) ?_
                refine nr_icmp_gt (tgt := 70) hx hb (nr_31 (B := 16) (show jx + k + 1 ≤ 16 by omega) (by decide)) (nr_31 (B := 15) (Nat.le_of_lt_succ hjx2) (by decide)) d_X_strongest_38 (by decide) (fun c38 => ?_) (fun c38 => ?_)
                · refine lv_iload_n hx hb d_X_strongest_70 rfl (lv_at hl 3 rfl) ?_
                  exact ct_iret (v25, o25, s25, w25, kp, 1) hQ hx hb hr hlocks hAe hK hP hD hS ⟨fun V hV => by rw [sp_stg, if_pos hc1, if_pos hc8, ch_tn_nI (nr_31 (Nat.le_of_lt hjx) (by decide)), ch_tn_nI (nr_31 (Nat.le_of_lt hjx2) (by decide)), if_pos c18, hb9, show k = jx2 - jx by omega, sp_bst_cg _ (fun j hj => ch_Slv_at hV b_se hs25 j (by omega))], bv25, bo25, bs25, b_kp, Nat.le_refl 1, fun _ => hs25⟩ d_X_strongest_71
                · refine lv_aload_n hx hb d_X_strongest_41 rfl (lv_at hl 0 rfl) ?_
                  refine gtX hx hb hts hown hK hP fl_X_35 rfl (k := 8) (by decide) ⟨rfl, rfl, rfl⟩ rfl d_X_strongest_42 ?_
                  refine lv_iload hx hb d_X_strongest_45 (lv_at hl 4 rfl) ?_
                  refine nr_iald hx hb hK hP 9 8 rfl rfl (by omega) (by decide) d_X_strongest_47 ?_
                  refine lv_aload_n hx hb d_X_strongest_48 rfl (lv_at hl 0 rfl) ?_
                  refine gtX hx hb hts hown hK hP fl_X_35 rfl (k := 8) (by decide) ⟨rfl, rfl, rfl⟩ rfl d_X_strongest_49 ?_
                  refine lv_iload_n hx hb d_X_strongest_52 rfl (lv_at hl 3 rfl) ?_
                  refine nr_iald hx hb hK hP 9 8 rfl rfl (Nat.lt_of_le_of_lt (show b ≤ 15 by omega) (by decide)) (by decide) d_X_strongest_53 ?_
                  refine nr_icmp_le (tgt := 62) hx hb (nr_31 (B := 100) (bv25 _) (by decide)) (nr_31 (B := 100) (bv25 _) (by decide)) d_X_strongest_54 (by decide) (fun c54 => ?_) (fun c54 => ?_)
                  · refine lv_iload_n hx hb d_X_strongest_62 rfl (lv_at hl 3 rfl) ?_
                    refine lv_istore_n (lv' := [(3, .int (nI b)), (0, .ref h0), (1, .int (nI jx)), (2, .int (nI jx2)), (4, .int (nI ((jx + k) + 1)))]) hx hb d_X_strongest_63 rfl hl (by decide) rfl (fun ls hl => ?_)
                    refine lv_iinc (v := nI (((jx + k) + 1) + 1)) (lv' := [(4, .int (nI (((jx + k) + 1) + 1))), (3, .int (nI b)), (0, .ref h0), (1, .int (nI jx)), (2, .int (nI jx2))]) hx hb d_X_strongest_64 hl (k := 4) rfl (nI_1 _) (by decide) rfl (fun ls hl => ?_)
                    refine lv_goto (tgt := 35) hx hb d_X_strongest_67 (by decide) ?_
                    exact ih35 (k + 1) b _ _ _ (by omega) (by omega) (by rw [sp_bst, ← hb9]; split <;> omega) hP hD hS (lv_sub hl [2, 3, 4, 1, 0] rfl)
                  · refine lv_iload hx hb d_X_strongest_57 (lv_at hl 4 rfl) ?_
                    refine lv_goto (tgt := 63) hx hb d_X_strongest_59 (by decide) ?_
                    refine lv_istore_n (lv' := [(3, .int (nI ((jx + k) + 1))), (0, .ref h0), (1, .int (nI jx)), (2, .int (nI jx2)), (4, .int (nI ((jx + k) + 1)))]) hx hb d_X_strongest_63 rfl hl (by decide) rfl (fun ls hl => ?_)
                    refine lv_iinc (v := nI (((jx + k) + 1) + 1)) (lv' := [(4, .int (nI (((jx + k) + 1) + 1))), (3, .int (nI ((jx + k) + 1))), (0, .ref h0), (1, .int (nI jx)), (2, .int (nI jx2))]) hx hb d_X_strongest_64 hl (k := 4) rfl (nI_1 _) (by decide) rfl (fun ls hl => ?_)
                    refine lv_goto (tgt := 35) hx hb d_X_strongest_67 (by decide) ?_
                    exact ih35 (k + 1) ((jx + k) + 1) _ _ _ (by omega) (by omega) (by rw [sp_bst, ← hb9]; split <;> omega) hP hD hS (lv_sub hl [2, 3, 4, 1, 0] rfl)
            exact lp35 (jx2 + 1) 0 jx _ _ _ (by omega) (by omega) rfl hP hD hS (lv_sub hl [2, 3, 4, 1, 0] rfl)
          · refine lv_bipush (v := (-2)) hx hb d_X_strongest_21 (by decide) ?_
            exact ct_iret (va, of, sl, wt, kp, cu) hQ hx hb hr hlocks hAe hK hP hD hS ⟨fun V hV => by rw [sp_stg, if_pos hc1, if_pos hc8, ch_tn_nI (nr_31 (Nat.le_of_lt hjx) (by decide)), ch_tn_nI (nr_31 (Nat.le_of_lt hjx2) (by decide)), if_neg c18], b_va, b_of, b_sl, b_kp, b_cu, hcu⟩ d_X_strongest_23
        · exact absurd c11 (by decide)
      · refine nr_if_ne (tgt := 16) hx hb (by decide) d_X_strongest_11 (by decide) (fun c11 => ?_) (fun c11 => ?_)
        · exact absurd c11 (by decide)
        · refine lv_iconst (v := (-1)) hx hb d_X_strongest_14 (by decide) ?_
          exact ct_iret (va, of, sl, wt, kp, cu) hQ hx hb hr hlocks hAe hK hP hD hS ⟨fun V hV => by rw [sp_stg, if_pos hc1, if_neg (by rw [hc8]; decide)], b_va, b_of, b_sl, b_kp, b_cu, hcu⟩ d_X_strongest_15
  · refine nr_if_eq (tgt := 14) hx hb (by decide) d_X_strongest_4 (by decide) (fun c4 => ?_) (fun c4 => ?_)
    · refine lv_iconst (v := (-1)) hx hb d_X_strongest_14 (by decide) ?_
      exact ct_iret (va, of, sl, wt, kp, cu) hQ hx hb hr hlocks hAe hK hP hD hS ⟨fun V hV => by rw [sp_stg, if_neg (by rw [hc1]; decide)], b_va, b_of, b_sl, b_kp, b_cu, hcu⟩ d_X_strongest_15
    · exact absurd c4 (by decide)

abbrev rm_X_essential : Room := { frames := 6, cells := 0, slots := 0, locals := 135 }
set_option maxHeartbeats 4000000 in
set_option maxRecDepth 100000 in
/-- essential() -/
theorem c_X_essential (l : Launch) (D : va_G) (h0 : Nat) (ad : Nat → Nat) (ca : Nat → ClassId) (hd : Nat → Nat) (st : Nat → Nat) (sz : Nat → Nat) (pt : Nat → Nat) (ng : Nat → Nat) (dp : Nat → Nat) (dn : Nat → Nat) (se : Nat → Nat) (va : Nat → Nat) (of : Nat → Nat) (sl : Nat → Nat) (wt : Nat → Int32) (kp : Nat → Nat) (ds : Nat) (cn : Nat) (sk : Int32) (cu : Nat) (hz : Nat) (B : bX hd st sz pt ng dp dn se va of sl kp ds cn cu)  (hok : ch_ok hd sz pt ng cn) (hsk : sk = (-1)) (hcu : cu ≠ 0 → ch_Sol (ch_wor st sz pt ng) hd cn se (-1) va) : Met l y_X_essential w_X_essential rm_X_essential (va_Pc [.ref h0] (Pw D (wX h0 ad ca hd st sz pt ng dp dn se va of sl wt kp ds cn sk cu) (yX ca) hz)) (va_Qi (fun (v : Int32) (u : (Nat → Nat) × (Nat → Nat) × (Nat → Nat) × (Nat → Int32) × (Nat → Nat) × (Nat)) => (∀ V, ch_Slv (ch_wor st sz pt ng) hd cn V → v = nI (sp_ess V se cn)) ∧ ch_bd 100 u.1 ∧ ch_bd 100 u.2.1 ∧ ch_bd 1 u.2.2.1 ∧ ch_bd 100 u.2.2.2.2.1 ∧ u.2.2.2.2.2 ≤ 1 ∧ (u.2.2.2.2.2 ≠ 0 → ch_Sol (ch_wor st sz pt ng) hd cn se (-1) u.1)) (fun (u : (Nat → Nat) × (Nat → Nat) × (Nat → Nat) × (Nat → Int32) × (Nat → Nat) × (Nat)) => Bw D (wX h0 ad ca hd st sz pt ng dp dn se va of sl wt kp ds cn sk cu) (wX h0 ad ca hd st sz pt ng dp dn se u.1 u.2.1 u.2.2.1 u.2.2.2.1 u.2.2.2.2.1 ds cn sk u.2.2.2.2.2) (yX ca) hz) (va_A (wX h0 ad ca hd st sz pt ng dp dn se va of sl wt kp ds cn sk cu) hz)) 0 0 (va_A (wX h0 ad ca hd st sz pt ng dp dn se va of sl wt kp ds cn sk cu) hz) := by
  obtain ⟨b_hd, b_st, b_sz, b_pt, b_ng, b_dp, b_dn, b_se, b_va, b_of, b_sl, b_kp, b_ds, b_cn, b_cu⟩ := B
  refine ct_start (by decide) (Nat.le_of_ble_eq_true rfl) ?_
  intro p e s m args below meth c A Q ls hx hb hr hlocks hml hts hown hnm hA hAe hsz hS hP hD hK hl hQ
  have hown : s.vm.findClass R_X = some m.cls := hown
  have hl : lv_has ls 3 [(0, .ref h0)] := hl
  have hP : va_P D classes (wX h0 ad ca hd st sz pt ng dp dn se va of sl wt kp ds cn sk cu) s.heap := hP
  obtain ⟨H, hH⟩ : ∃ H, H = s.heap := ⟨_, rfl⟩
  obtain ⟨locs, hlc⟩ : ∃ locs : List Loc, locs = [] := ⟨_, rfl⟩
  have hS : va_S A s.heap H locs := by rw [hH, hlc]; exact hS
  have hP : va_P D classes (wX h0 ad ca hd st sz pt ng dp dn se va of sl wt kp ds cn sk cu) H := by rw [hH]; exact hP
  have hgo : W p l e rm_X_essential s m args below meth c H locs 0 0 Q (F0 m 0 ls []) := ?_
  · rw [hH, hlc] at hgo; exact hgo
  clear hH hlc
  subst hsk
  refine lv_aload_n hx hb d_X_essential_0 rfl (lv_at hl 0 rfl) ?_
  refine xc_vV (C := R_X) (rest := []) ⟨hx, hb, hml, hown, hts⟩ (c_X_keepValues l D h0 ad ca hd st sz pt ng dp dn se va of sl wt kp ds cn (-1) cu H.size ⟨b_hd, b_st, b_sz, b_pt, b_ng, b_dp, b_dn, b_se, b_va, b_of, b_sl, b_kp, b_ds, b_cn, b_cu⟩ hok rfl hcu) (cwV 0 hts (gd_v ml_X_85 im_X_keepValues se_X_keepValues ini_X cd_X_keepValues) rfl rfl rfl (by decide +kernel) ⟨Nat.le_of_ble_eq_true rfl, Nat.le_of_ble_eq_true rfl⟩) (va_recv hK hP (ci := 0) (q0 := 0) rfl rfl) hK hP hD hS hA rfl hl.1 rfl (Nat.le_of_ble_eq_true rfl) d_X_essential_1 ⟨Nat.le_of_ble_eq_true rfl, Nat.le_of_ble_eq_true rfl⟩ (fun u1 H locs hp1 hP hD hS => ?_)
  obtain ⟨v1, o1, s1, w1, q1⟩ := u1
  obtain ⟨hs1, bv1, bo1, bs1, bq1, hq1⟩ := hp1
  have hs1 : ch_Sol (ch_wor st sz pt ng) hd cn se (-1) v1 := hs1
  have hq1 : ∀ j, j < 16 → q1 j = v1 j := hq1
  have hP : va_P D classes (wX h0 ad ca hd st sz pt ng dp dn se v1 o1 s1 w1 q1 ds cn (-1) 1) H := hP
  have hD : va_D A (wX h0 ad ca hd st sz pt ng dp dn se v1 o1 s1 w1 q1 ds cn (-1) 1) := hD
  refine lv_iconst (v := nI 0) hx hb d_X_essential_4 (by decide) ?_
  refine lv_istore_n (lv' := [(1, .int (nI 0)), (0, .ref h0)]) hx hb d_X_essential_5 rfl hl (by decide) rfl (fun ls hl => ?_)
  refine lv_iconst (v := nI 0) hx hb d_X_essential_6 (by decide) ?_
  refine lv_istore_n (lv' := [(2, .int (nI 0)), (1, .int (nI 0)), (0, .ref h0)]) hx hb d_X_essential_7 rfl hl (by decide) rfl (fun ls hl => ?_)
  have lp8 : ∀ (n : Nat) (r : Nat) (q : Nat) (v2 : Nat → Nat) (o2 : Nat → Nat) (s2 : Nat → Nat) (w2 : Nat → Int32) (c2 : Nat) (H : Heap) (locs : List Loc) (ls : Array Slot), cn + 1 ≤ r + n → (r ≤ cn) → (q ≤ r) → (ch_bd 100 v2) → (ch_bd 100 o2) → (ch_bd 1 s2) → (c2 ≤ 1) → (c2 ≠ 0 → ch_Sol (ch_wor st sz pt ng) hd cn se (-1) v2) → (∀ V, ch_Slv (ch_wor st sz pt ng) hd cn V → q = sp_ess V se r) → va_P D classes (wX h0 ad ca hd st sz pt ng dp dn se v2 o2 s2 w2 q1 ds cn (-1) c2) H → va_D A (wX h0 ad ca hd st sz pt ng dp dn se v2 o2 s2 w2 q1 ds cn (-1) c2) → va_S A s.heap H locs → lv_has ls 3 [(0, .ref h0), (1, .int (nI q)), (2, .int (nI r))] → W p l e rm_X_essential s m args below meth c H locs 0 0 Q (F0 m 8 ls []) := by
    intro n
    induction n with
    | zero =>
      intro r q v2 o2 s2 w2 c2 H locs ls hn8 hr2 hqr bv2 bo2 bs2 bc2 hc2 hq
      exact absurd hn8 (by omega)
    | succ n ih8 =>
      intro r q v2 o2 s2 w2 c2 H locs ls hn8 hr2 hqr bv2 bo2 bs2 bc2 hc2 hq hP hD hS hl
      refine lv_iload_n hx hb d_X_essential_8 rfl (lv_at hl 2 rfl) ?_
      refine lv_aload_n hx hb d_X_essential_9 rfl (lv_at hl 0 rfl) ?_
      refine gtX hx hb hts hown hK hP fl_X_61 rfl (k := 14) (by decide) ⟨rfl, rfl, rfl⟩ rfl d_X_essential_10 ?_
      refine nr_icmp_ge (tgt := 37) hx hb (nr_31 (B := 20) (Nat.le_trans hr2 b_cn) (by decide)) (nr_31 (B := 20) b_cn (by decide)) d_X_essential_13 (by decide) (fun c13 => ?_) (fun c13 => ?_)
      · refine lv_iload_n hx hb d_X_essential_37 rfl (lv_at hl 1 rfl) ?_
        exact ct_iret (v2, o2, s2, w2, q1, c2) hQ hx hb hr hlocks hAe hK hP hD hS ⟨fun V hV => by rw [hq V hV, show r = cn by omega], bv2, bo2, bs2, bq1, bc2, hc2⟩ d_X_essential_38
      · refine lv_aload_n hx hb d_X_essential_16 rfl (lv_at hl 0 rfl) ?_
        refine lv_iload_n hx hb d_X_essential_17 rfl (lv_at hl 2 rfl) ?_
        refine xc_vV (C := R_X) (rest := []) ⟨hx, hb, hml, hown, hts⟩ (c_X_settleWithout l D h0 ad ca hd st sz pt ng dp dn se v2 o2 s2 w2 q1 ds cn (-1) c2 H.size ⟨b_hd, b_st, b_sz, b_pt, b_ng, b_dp, b_dn, b_se, bv2, bo2, bs2, bq1, b_ds, b_cn, bc2⟩ (nI r) hok) (cwV 1 hts (gd_v ml_X_77 im_X_settleWithout se_X_settleWithout ini_X cd_X_settleWithout) rfl rfl rfl (by decide +kernel) ⟨Nat.le_of_ble_eq_true rfl, Nat.le_of_ble_eq_true rfl⟩) (va_recv hK hP (ci := 0) (q0 := 0) rfl rfl) hK hP hD hS hA rfl hl.1 rfl (Nat.le_of_ble_eq_true rfl) d_X_essential_18 ⟨Nat.le_of_ble_eq_true rfl, Nat.le_of_ble_eq_true rfl⟩ (fun u18 H locs hp18 hP hD hS => ?_)
        obtain ⟨v18, o18, s18, w18⟩ := u18
        obtain ⟨hs18, bv18, bo18, bs18⟩ := hp18
        have hs18 : ch_Sol (ch_wor st sz pt ng) hd cn se (nI r) v18 := hs18
        have hP : va_P D classes (wX h0 ad ca hd st sz pt ng dp dn se v18 o18 s18 w18 q1 ds cn (-1) 0) H := hP
        have hD : va_D A (wX h0 ad ca hd st sz pt ng dp dn se v18 o18 s18 w18 q1 ds cn (-1) 0) := hD
        refine lv_aload_n hx hb d_X_essential_21 rfl (lv_at hl 0 rfl) ?_
        refine xc_iV (C := R_X) (rest := []) ⟨hx, hb, hml, hown, hts⟩ (c_X_changes l D h0 ad ca hd st sz pt ng dp dn se v18 o18 s18 w18 q1 ds cn (-1) 0 H.size ⟨b_hd, b_st, b_sz, b_pt, b_ng, b_dp, b_dn, b_se, bv18, bo18, bs18, bq1, b_ds, b_cn, Nat.zero_le _⟩ ) (cwV 0 hts (gd_v ml_X_88 im_X_changes se_X_changes ini_X cd_X_changes) rfl rfl rfl (by decide +kernel) ⟨Nat.le_of_ble_eq_true rfl, Nat.le_of_ble_eq_true rfl⟩) (va_recv hK hP (ci := 0) (q0 := 0) rfl rfl) hK hP hD hS hA rfl hl.1 rfl (Nat.le_of_ble_eq_true rfl) d_X_essential_22 ⟨Nat.le_of_ble_eq_true rfl, Nat.le_of_ble_eq_true rfl⟩ (fun r22 u22 H locs hp22 hP hD hS => ?_)
        have hP : va_P D classes (wX h0 ad ca hd st sz pt ng dp dn se v18 o18 s18 w18 q1 ds cn (-1) 0) H := hP
        have hD : va_D A (wX h0 ad ca hd st sz pt ng dp dn se v18 o18 s18 w18 q1 ds cn (-1) 0) := hD
        obtain rfl := hp22
        refine nr_if_le (tgt := 31) hx hb (nr_31 (B := 16) (ch_df_le _ _ _) (by decide)) d_X_essential_25 (by decide) (fun c25 => ?_) (fun c25 => ?_)
        · refine lv_iinc (v := nI (r + 1)) (lv' := [(2, .int (nI (r + 1))), (0, .ref h0), (1, .int (nI q))]) hx hb d_X_essential_31 hl (k := 2) rfl (nI_1 _) (by decide) rfl (fun ls hl => ?_)
          refine lv_goto (tgt := 8) hx hb d_X_essential_34 (by decide) ?_
          exact ih8 (r + 1) q v18 o18 s18 w18 0 _ _ _ (by omega) (by omega) (by omega) bv18 bo18 bs18 (by decide) (fun z9 => absurd rfl z9) (fun V hV => by rw [sp_ess, ← hq V hV, ← ch_df_cg 16 (fun j hj => (hq1 j hj).trans (ch_Slv_at hV b_se hs1 j hj)) (ch_Slv_at hV b_se hs18), if_pos c25, Nat.add_zero]) hP hD hS (lv_sub hl [1, 2, 0] rfl)
        · refine lv_iinc (v := nI (q + 1)) (lv' := [(1, .int (nI (q + 1))), (0, .ref h0), (2, .int (nI r))]) hx hb d_X_essential_28 hl (k := 1) rfl (nI_1 _) (by decide) rfl (fun ls hl => ?_)
          refine lv_iinc (v := nI (r + 1)) (lv' := [(2, .int (nI (r + 1))), (1, .int (nI (q + 1))), (0, .ref h0)]) hx hb d_X_essential_31 hl (k := 2) rfl (nI_1 _) (by decide) rfl (fun ls hl => ?_)
          refine lv_goto (tgt := 8) hx hb d_X_essential_34 (by decide) ?_
          exact ih8 (r + 1) (q + 1) v18 o18 s18 w18 0 _ _ _ (by omega) (by omega) (by omega) bv18 bo18 bs18 (by decide) (fun z9 => absurd rfl z9) (fun V hV => by rw [sp_ess, ← hq V hV, ← ch_df_cg 16 (fun j hj => (hq1 j hj).trans (ch_Slv_at hV b_se hs1 j hj)) (ch_Slv_at hV b_se hs18), if_neg c25]) hP hD hS (lv_sub hl [2, 1, 0] rfl)
  exact lp8 (cn + 1) 0 0 v1 o1 s1 w1 1 _ _ _ (by omega) (Nat.zero_le _) (Nat.le_refl _) bv1 bo1 bs1 (by decide) (fun _ => hs1) (fun _ _ => rfl) hP hD hS (lv_sub hl [2, 1, 0] rfl)

abbrev rm_X_influence : Room := { frames := 6, cells := 0, slots := 0, locals := 135 }
set_option maxHeartbeats 4000000 in
set_option maxRecDepth 100000 in
/-- influence(x) -/
theorem c_X_influence (l : Launch) (D : va_G) (h0 : Nat) (ad : Nat → Nat) (ca : Nat → ClassId) (hd : Nat → Nat) (st : Nat → Nat) (sz : Nat → Nat) (pt : Nat → Nat) (ng : Nat → Nat) (dp : Nat → Nat) (dn : Nat → Nat) (se : Nat → Nat) (va : Nat → Nat) (of : Nat → Nat) (sl : Nat → Nat) (wt : Nat → Int32) (kp : Nat → Nat) (ds : Nat) (cn : Nat) (sk : Int32) (cu : Nat) (hz : Nat) (B : bX hd st sz pt ng dp dn se va of sl kp ds cn cu) (x : Int32) (hok : ch_ok hd sz pt ng cn) (hsk : sk = (-1)) (hcu : cu ≠ 0 → ch_Sol (ch_wor st sz pt ng) hd cn se (-1) va) : Met l y_X_influence w_X_influence rm_X_influence (va_Pc [.ref h0, .int x] (Pw D (wX h0 ad ca hd st sz pt ng dp dn se va of sl wt kp ds cn sk cu) (yX ca) hz)) (va_Qi (fun (v : Int32) (u : (Nat → Nat) × (Nat → Nat) × (Nat → Nat) × (Nat → Int32) × (Nat → Nat) × (Nat)) => (∀ V, ch_Slv (ch_wor st sz pt ng) hd cn V → v = sp_inf x se V) ∧ ch_bd 100 u.1 ∧ ch_bd 100 u.2.1 ∧ ch_bd 1 u.2.2.1 ∧ ch_bd 100 u.2.2.2.2.1 ∧ u.2.2.2.2.2 ≤ 1 ∧ (u.2.2.2.2.2 ≠ 0 → ch_Sol (ch_wor st sz pt ng) hd cn se (-1) u.1)) (fun (u : (Nat → Nat) × (Nat → Nat) × (Nat → Nat) × (Nat → Int32) × (Nat → Nat) × (Nat)) => Bw D (wX h0 ad ca hd st sz pt ng dp dn se va of sl wt kp ds cn sk cu) (wX h0 ad ca hd st sz pt ng dp dn se u.1 u.2.1 u.2.2.1 u.2.2.2.1 u.2.2.2.2.1 ds cn sk u.2.2.2.2.2) (yX ca) hz) (va_A (wX h0 ad ca hd st sz pt ng dp dn se va of sl wt kp ds cn sk cu) hz)) 0 0 (va_A (wX h0 ad ca hd st sz pt ng dp dn se va of sl wt kp ds cn sk cu) hz) := by
  obtain ⟨b_hd, b_st, b_sz, b_pt, b_ng, b_dp, b_dn, b_se, b_va, b_of, b_sl, b_kp, b_ds, b_cn, b_cu⟩ := B
  refine ct_start (by decide) (Nat.le_of_ble_eq_true rfl) ?_
  intro p e s m args below meth c A Q ls hx hb hr hlocks hml hts hown hnm hA hAe hsz hS hP hD hK hl hQ
  have hown : s.vm.findClass R_X = some m.cls := hown
  have hl : lv_has ls 3 [(0, .ref h0), (1, .int x)] := hl
  have hP : va_P D classes (wX h0 ad ca hd st sz pt ng dp dn se va of sl wt kp ds cn sk cu) s.heap := hP
  obtain ⟨H, hH⟩ : ∃ H, H = s.heap := ⟨_, rfl⟩
  obtain ⟨locs, hlc⟩ : ∃ locs : List Loc, locs = [] := ⟨_, rfl⟩
  have hS : va_S A s.heap H locs := by rw [hH, hlc]; exact hS
  have hP : va_P D classes (wX h0 ad ca hd st sz pt ng dp dn se va of sl wt kp ds cn sk cu) H := by rw [hH]; exact hP
  have hgo : W p l e rm_X_influence s m args below meth c H locs 0 0 Q (F0 m 0 ls []) := ?_
  · rw [hH, hlc] at hgo; exact hgo
  clear hH hlc
  subst hsk
  refine lv_iload_n hx hb d_X_influence_0 rfl (lv_at hl 1 rfl) ?_
  refine xc_iS (rest := []) ⟨hx, hb, hml, hown, hts⟩ (c_X_isClaim l x) (cwS 1 hts (gd_s ml_X_54 st_X_isClaim ini_X cd_X_isClaim) rfl rfl rfl (by decide +kernel) ⟨Nat.le_of_ble_eq_true rfl, Nat.le_of_ble_eq_true rfl⟩) hP hS rfl hl.1 rfl (Nat.le_of_ble_eq_true rfl) d_X_influence_1 ⟨Nat.le_of_ble_eq_true rfl, Nat.le_of_ble_eq_true rfl⟩ (fun r1 H locs hp1 hP hS => ?_)
  rcases hp1 with ⟨hc1, rfl⟩ | ⟨hc1, rfl⟩
  · obtain ⟨jx, hjx, rfl⟩ := ch_ic_get hc1 (by decide)
    refine nr_if_ne (tgt := 9) hx hb (by decide) d_X_influence_4 (by decide) (fun c4 => ?_) (fun c4 => ?_)
    · refine lv_aload_n hx hb d_X_influence_9 rfl (lv_at hl 0 rfl) ?_
      refine xc_vV (C := R_X) (rest := []) ⟨hx, hb, hml, hown, hts⟩ (c_X_keepValues l D h0 ad ca hd st sz pt ng dp dn se va of sl wt kp ds cn (-1) cu H.size ⟨b_hd, b_st, b_sz, b_pt, b_ng, b_dp, b_dn, b_se, b_va, b_of, b_sl, b_kp, b_ds, b_cn, b_cu⟩ hok rfl hcu) (cwV 0 hts (gd_v ml_X_85 im_X_keepValues se_X_keepValues ini_X cd_X_keepValues) rfl rfl rfl (by decide +kernel) ⟨Nat.le_of_ble_eq_true rfl, Nat.le_of_ble_eq_true rfl⟩) (va_recv hK hP (ci := 0) (q0 := 0) rfl rfl) hK hP hD hS hA rfl hl.1 rfl (Nat.le_of_ble_eq_true rfl) d_X_influence_10 ⟨Nat.le_of_ble_eq_true rfl, Nat.le_of_ble_eq_true rfl⟩ (fun u10 H locs hp10 hP hD hS => ?_)
      obtain ⟨v10, o10, s10, w10, q10⟩ := u10
      obtain ⟨hs10, bv10, bo10, bs10, bq10, hq10⟩ := hp10
      have hs10 : ch_Sol (ch_wor st sz pt ng) hd cn se (-1) v10 := hs10
      have hq10 : ∀ j, j < 16 → q10 j = v10 j := hq10
      have hP : va_P D classes (wX h0 ad ca hd st sz pt ng dp dn se v10 o10 s10 w10 q10 ds cn (-1) 1) H := hP
      have hD : va_D A (wX h0 ad ca hd st sz pt ng dp dn se v10 o10 s10 w10 q10 ds cn (-1) 1) := hD
      refine lv_aload_n hx hb d_X_influence_13 rfl (lv_at hl 0 rfl) ?_
      refine gtX hx hb hts hown hK hP fl_X_32 rfl (k := 7) (by decide) ⟨rfl, rfl, rfl⟩ rfl d_X_influence_14 ?_
      refine lv_iload_n hx hb d_X_influence_17 rfl (lv_at hl 1 rfl) ?_
      refine nr_iald hx hb hK hP 8 7 rfl rfl (Nat.lt_of_le_of_lt (Nat.le_of_lt_succ hjx) (by decide)) (by decide) d_X_influence_18 ?_
      refine lv_istore_n (lv' := [(2, .int (nI (se jx))), (0, .ref h0), (1, .int (nI jx))]) hx hb d_X_influence_19 rfl hl (by decide) rfl (fun ls hl => ?_)
      refine lv_aload_n hx hb d_X_influence_20 rfl (lv_at hl 1 rfl) ?_
      refine gtX hx hb hts hown hK hP fl_X_32 rfl (k := 7) (by decide) ⟨rfl, rfl, rfl⟩ rfl d_X_influence_21 ?_
      refine lv_iload_n hx hb d_X_influence_24 rfl (lv_at hl 2 rfl) ?_
      refine lv_iconst (v := nI 0) hx hb d_X_influence_25 (by decide) ?_
      refine nr_iast hx hb hK hP hD hS 8 7 rfl rfl (Nat.lt_of_le_of_lt (Nat.le_of_lt_succ hjx) (by decide)) (by decide) d_X_influence_26 (fun H locs hP hD hS => ?_)
      have hP : va_P D classes (wX h0 ad ca hd st sz pt ng dp dn (ch_up se jx 0) v10 o10 s10 w10 q10 ds cn (-1) 1) H := hP
      have hD : va_D A (wX h0 ad ca hd st sz pt ng dp dn (ch_up se jx 0) v10 o10 s10 w10 q10 ds cn (-1) 1) := hD
      refine lv_aload_n hx hb d_X_influence_27 rfl (lv_at hl 1 rfl) ?_
      refine xc_vV (C := R_X) (rest := []) ⟨hx, hb, hml, hown, hts⟩ (c_X_settleAll l D h0 ad ca hd st sz pt ng dp dn (ch_up se jx 0) v10 o10 s10 w10 q10 ds cn (-1) 1 H.size ⟨b_hd, b_st, b_sz, b_pt, b_ng, b_dp, b_dn, ch_bd_up b_se (by decide), bv10, bo10, bs10, bq10, b_ds, b_cn, Nat.le_refl 1⟩ hok) (cwV 0 hts (gd_v ml_X_74 im_X_settleAll se_X_settleAll ini_X cd_X_settleAll) rfl rfl rfl (by decide +kernel) ⟨Nat.le_of_ble_eq_true rfl, Nat.le_of_ble_eq_true rfl⟩) (va_recv hK hP (ci := 0) (q0 := 0) rfl rfl) hK hP hD hS hA rfl hl.1 rfl (Nat.le_of_ble_eq_true rfl) d_X_influence_28 ⟨Nat.le_of_ble_eq_true rfl, Nat.le_of_ble_eq_true rfl⟩ (fun u28 H locs hp28 hP hD hS => ?_)
      obtain ⟨v28, o28, s28, w28⟩ := u28
      obtain ⟨hs28, bv28, bo28, bs28⟩ := hp28
      have hs28 : ch_Sol (ch_wor st sz pt ng) hd cn (ch_up se jx 0) (-1) v28 := hs28
      have hP : va_P D classes (wX h0 ad ca hd st sz pt ng dp dn (ch_up se jx 0) v28 o28 s28 w28 q10 ds cn (-1) 1) H := hP
      have hD : va_D A (wX h0 ad ca hd st sz pt ng dp dn (ch_up se jx 0) v28 o28 s28 w28 q10 ds cn (-1) 1) := hD
      refine lv_aload_n hx hb d_X_influence_31 rfl (lv_at hl 1 rfl) ?_
      refine gtX hx hb hts hown hK hP fl_X_32 rfl (k := 7) (by decide) ⟨rfl, rfl, rfl⟩ rfl d_X_influence_32 ?_
      refine lv_iload_n hx hb d_X_influence_35 rfl (lv_at hl 2 rfl) ?_
      refine lv_iload_n hx hb d_X_influence_36 rfl (lv_at hl 0 rfl) ?_
      refine nr_iast hx hb hK hP hD hS 8 7 rfl rfl (Nat.lt_of_le_of_lt (Nat.le_of_lt_succ hjx) (by decide)) (by decide) d_X_influence_37 (fun H locs hP hD hS => ?_)
      have hP : va_P D classes (wX h0 ad ca hd st sz pt ng dp dn (ch_up (ch_up se jx 0) jx (se jx)) v28 o28 s28 w28 q10 ds cn (-1) 1) H := hP
      have hD : va_D A (wX h0 ad ca hd st sz pt ng dp dn (ch_up (ch_up se jx 0) jx (se jx)) v28 o28 s28 w28 q10 ds cn (-1) 1) := hD
      rw [ch_up_back] at hP hD
      have hP : va_P D classes (wX h0 ad ca hd st sz pt ng dp dn se v28 o28 s28 w28 q10 ds cn (-1) 1) H := hP
      have hD : va_D A (wX h0 ad ca hd st sz pt ng dp dn se v28 o28 s28 w28 q10 ds cn (-1) 1) := hD
      refine lv_aload_n hx hb d_X_influence_38 rfl (lv_at hl 1 rfl) ?_
      refine lv_iconst (v := nI 0) hx hb d_X_influence_39 (by decide) ?_
      refine ptX hx hb hts hown hK hP hD hS fl_X_64 rfl (k := 16) (by decide) ⟨rfl, rfl, rfl, rfl⟩ (ty := .boolean) (by decide +kernel) (by decide) (by decide) (Nat.le_of_ble_eq_true rfl) d_X_influence_40 (fun H locs hP hD hS => ?_)
      have hP : va_P D classes (wX h0 ad ca hd st sz pt ng dp dn se v28 o28 s28 w28 q10 ds cn (-1) 0) H := hP
      have hD : va_D A (wX h0 ad ca hd st sz pt ng dp dn se v28 o28 s28 w28 q10 ds cn (-1) 0) := hD
      refine lv_aload_n hx hb d_X_influence_43 rfl (lv_at hl 1 rfl) ?_
      refine xc_iV (C := R_X) (rest := []) ⟨hx, hb, hml, hown, hts⟩ (c_X_changes l D h0 ad ca hd st sz pt ng dp dn se v28 o28 s28 w28 q10 ds cn (-1) 0 H.size ⟨b_hd, b_st, b_sz, b_pt, b_ng, b_dp, b_dn, b_se, bv28, bo28, bs28, bq10, b_ds, b_cn, (by decide)⟩ ) (cwV 0 hts (gd_v ml_X_88 im_X_changes se_X_changes ini_X cd_X_changes) rfl rfl rfl (by decide +kernel) ⟨Nat.le_of_ble_eq_true rfl, Nat.le_of_ble_eq_true rfl⟩) (va_recv hK hP (ci := 0) (q0 := 0) rfl rfl) hK hP hD hS hA rfl hl.1 rfl (Nat.le_of_ble_eq_true rfl) d_X_influence_44 ⟨Nat.le_of_ble_eq_true rfl, Nat.le_of_ble_eq_true rfl⟩ (fun r44 u44 H locs hp44 hP hD hS => ?_)
      have hP : va_P D classes (wX h0 ad ca hd st sz pt ng dp dn se v28 o28 s28 w28 q10 ds cn (-1) 0) H := hP
      have hD : va_D A (wX h0 ad ca hd st sz pt ng dp dn se v28 o28 s28 w28 q10 ds cn (-1) 0) := hD
      obtain rfl := hp44
      exact ct_iret (v28, o28, s28, w28, q10, 0) hQ hx hb hr hlocks hAe hK hP hD hS ⟨fun V hV => by rw [sp_inf, if_pos hc1, ch_tn_nI (nr_31 (Nat.le_of_lt hjx) (by decide)), ch_df_cg 16 (fun j hj => (hq10 j hj).trans (ch_Slv_at hV b_se hs10 j hj)) (ch_Slv_at hV (ch_bd_up b_se (Nat.zero_le _)) hs28)], bv28, bo28, bs28, bq10, Nat.zero_le 1, fun z9 => absurd rfl z9⟩ d_X_influence_47
    · exact absurd c4 (by decide)
  · refine nr_if_ne (tgt := 9) hx hb (by decide) d_X_influence_4 (by decide) (fun c4 => ?_) (fun c4 => ?_)
    · exact absurd c4 (by decide)
    · refine lv_iconst (v := (-1)) hx hb d_X_influence_7 (by decide) ?_
      exact ct_iret (va, of, sl, wt, kp, cu) hQ hx hb hr hlocks hAe hK hP hD hS ⟨fun V hV => by rw [sp_inf, if_neg (by rw [hc1]; decide)], b_va, b_of, b_sl, b_kp, b_cu, hcu⟩ d_X_influence_8
end
section
/-! ===== the reference: its questions ===== -/
theorem wo_sv {se : Nat → Nat} {j y : Nat} (hj : j < 16) : ∀ c, c < 16 → ch_up se j y c = if nI c = nI j then y else se c := by
  intro c hc
  by_cases e : c = j
  · rw [e, ch_up_s, if_pos rfl]
  · rw [ch_up_n e, if_neg (fun q => e ((nI_eq (by omega) (by omega)).mp q))]
theorem sp_bst_M {f : Nat → Nat} {a t b : Nat} (hb : b = sp_bst f a (t - 1)) : (f (a + t) ≤ f b → b = sp_bst f a t) ∧ (¬ f (a + t) ≤ f b → a + t = sp_bst f a t) := by
  cases t with
  | zero =>
    have e : b = a := hb
    subst e
    exact ⟨fun _ => rfl, fun h => absurd (Nat.le_refl _) h⟩
  | succ t =>
    have e : b = sp_bst f a t := hb
    subst e
    refine ⟨fun h => ?_, fun h => ?_⟩
    · exact (if_neg (show ¬ f (sp_bst f a t) < f (a + t + 1) from Nat.not_lt.mpr h)).symm
    · exact (if_pos (show f (sp_bst f a t) < f (a + t + 1) from Nat.lt_of_not_le h)).symm
abbrev rm_M_certainty : Room := { frames := 3, cells := 0, slots := 0, locals := 76 }
set_option maxHeartbeats 4000000 in
set_option maxRecDepth 100000 in
/-- certainty(x) -/
theorem c_M_certainty (l : Launch) (D : va_G) (h0 : Nat) (ad : Nat → Nat) (ca : Nat → ClassId) (se : Nat → Nat) (dp : Nat → Nat) (dn : Nat → Nat) (hd : Nat → Nat) (st : Nat → Nat) (sz : Nat → Nat) (pt : Nat → Nat) (ng : Nat → Nat) (va : Nat → Nat) (kp : Nat → Nat) (ds : Nat) (cn : Nat) (hz : Nat) (B : bM se dp dn hd st sz pt ng va kp ds cn) (x : Int32) (hok : ch_ok hd sz pt ng cn) : Met l y_M_certainty w_M_certainty rm_M_certainty (va_Pc [.ref h0, .int x] (Pw D (wM h0 ad ca se dp dn hd st sz pt ng va kp ds cn) (yM ca) hz)) (va_Qi (fun (v : Int32) (u : (Nat → Nat) × (Nat → Nat)) => (∀ V, ch_Slv (ch_wor st sz pt ng) hd cn V → v = sp_at x 16 (V se (-1))) ∧ ch_bd 100 u.1 ∧ ch_bd 100 u.2) (fun (u : (Nat → Nat) × (Nat → Nat)) => Bw D (wM h0 ad ca se dp dn hd st sz pt ng va kp ds cn) (wM h0 ad ca se dp dn hd st sz pt ng u.1 u.2 ds cn) (yM ca) hz) (va_A (wM h0 ad ca se dp dn hd st sz pt ng va kp ds cn) hz)) 0 0 (va_A (wM h0 ad ca se dp dn hd st sz pt ng va kp ds cn) hz) := by
  obtain ⟨b_se, b_dp, b_dn, b_hd, b_st, b_sz, b_pt, b_ng, b_va, b_kp, b_ds, b_cn⟩ := B
  refine ct_start (by decide) (Nat.le_of_ble_eq_true rfl) ?_
  intro p e s m args below meth c A Q ls hx hb hr hlocks hml hts hown hnm hA hAe hsz hS hP hD hK hl hQ
  have hown : s.vm.findClass R_M = some m.cls := hown
  have hl : lv_has ls 2 [(0, .ref h0), (1, .int x)] := hl
  have hP : va_P D classes (wM h0 ad ca se dp dn hd st sz pt ng va kp ds cn) s.heap := hP
  obtain ⟨H, hH⟩ : ∃ H, H = s.heap := ⟨_, rfl⟩
  obtain ⟨locs, hlc⟩ : ∃ locs : List Loc, locs = [] := ⟨_, rfl⟩
  have hS : va_S A s.heap H locs := by rw [hH, hlc]; exact hS
  have hP : va_P D classes (wM h0 ad ca se dp dn hd st sz pt ng va kp ds cn) H := by rw [hH]; exact hP
  have hgo : W p l e rm_M_certainty s m args below meth c H locs 0 0 Q (F0 m 0 ls []) := ?_
  · rw [hH, hlc] at hgo; exact hgo
  clear hH hlc
  refine lv_aload_n hx hb d_M_certainty_0 rfl (lv_at hl 0 rfl) ?_
  refine lv_iload_n hx hb d_M_certainty_1 rfl (lv_at hl 1 rfl) ?_
  refine xc_iV (C := R_M) (rest := []) ⟨hx, hb, hml, hown, hts⟩ (c_M_bad l D h0 ad ca se dp dn hd st sz pt ng va kp ds cn H.size ⟨b_se, b_dp, b_dn, b_hd, b_st, b_sz, b_pt, b_ng, b_va, b_kp, b_ds, b_cn⟩ x) (cwV 1 hts (gd_v ml_M_45 im_M_bad se_M_bad ini_M cd_M_bad) rfl rfl rfl (by decide +kernel) ⟨Nat.le_of_ble_eq_true rfl, Nat.le_of_ble_eq_true rfl⟩) (va_recv hK hP (ci := 1) (q0 := 0) rfl rfl) hK hP hD hS hA rfl hl.1 rfl (Nat.le_of_ble_eq_true rfl) d_M_certainty_2 ⟨Nat.le_of_ble_eq_true rfl, Nat.le_of_ble_eq_true rfl⟩ (fun r2 u2 H locs hp2 hP hD hS => ?_)
  have hP : va_P D classes (wM h0 ad ca se dp dn hd st sz pt ng va kp ds cn) H := hP
  have hD : va_D A (wM h0 ad ca se dp dn hd st sz pt ng va kp ds cn) := hD
  rcases hp2 with ⟨hc2, rfl⟩ | ⟨hc2, rfl⟩
  · obtain ⟨jx, hjx, rfl⟩ := ch_ic_get hc2 (by decide)
    refine nr_if_eq (tgt := 10) hx hb (by decide) d_M_certainty_5 (by decide) (fun c5 => ?_) (fun c5 => ?_)
    · refine lv_aload_n hx hb d_M_certainty_10 rfl (lv_at hl 0 rfl) ?_
      refine lv_iconst (v := (-1)) hx hb d_M_certainty_11 (by decide) ?_
      refine lv_iconst (v := nI 0) hx hb d_M_certainty_12 (by decide) ?_
      refine lv_iconst (v := (-1)) hx hb d_M_certainty_13 (by decide) ?_
      refine xc_vV (C := R_M) (rest := []) ⟨hx, hb, hml, hown, hts⟩ (c_M_workOut l D h0 ad ca se dp dn hd st sz pt ng va kp ds cn H.size ⟨b_se, b_dp, b_dn, b_hd, b_st, b_sz, b_pt, b_ng, b_va, b_kp, b_ds, b_cn⟩ (-1) 0 (-1) se (by decide) hok (fun c9 hc9 => (if_neg (nr_nm1 (by omega))).symm)) (cwV 3 hts (gd_v ml_M_63 im_M_workOut se_M_workOut ini_M cd_M_workOut) rfl rfl rfl (by decide +kernel) ⟨Nat.le_of_ble_eq_true rfl, Nat.le_of_ble_eq_true rfl⟩) (va_recv hK hP (ci := 1) (q0 := 0) rfl rfl) hK hP hD hS hA rfl hl.1 rfl (Nat.le_of_ble_eq_true rfl) d_M_certainty_14 ⟨Nat.le_of_ble_eq_true rfl, Nat.le_of_ble_eq_true rfl⟩ (fun u14 H locs hp14 hP hD hS => ?_)
      obtain ⟨hs14, bv14⟩ := hp14
      have hs14 : ch_Sol (ch_wor st sz pt ng) hd cn se (-1) u14 := hs14
      have hP : va_P D classes (wM h0 ad ca se dp dn hd st sz pt ng u14 kp ds cn) H := hP
      have hD : va_D A (wM h0 ad ca se dp dn hd st sz pt ng u14 kp ds cn) := hD
      refine lv_aload_n hx hb d_M_certainty_17 rfl (lv_at hl 0 rfl) ?_
      refine gtM hx hb hts hown hK hP fl_M_35 rfl (k := 10) (by decide) ⟨rfl, rfl, rfl⟩ rfl d_M_certainty_18 ?_
      refine lv_iload_n hx hb d_M_certainty_21 rfl (lv_at hl 1 rfl) ?_
      refine nr_iald hx hb hK hP 9 8 rfl rfl (Nat.lt_of_le_of_lt (Nat.le_of_lt_succ hjx) (by decide)) (by decide) d_M_certainty_22 ?_
      exact ct_iret (u14, kp) hQ hx hb hr hlocks hAe hK hP hD hS ⟨fun V hV => by rw [sp_at_t hjx (by decide), ← ch_Slv_at hV b_se hs14 jx hjx], bv14, b_kp⟩ d_M_certainty_23
    · exact absurd c5 (by decide)
  · refine nr_if_eq (tgt := 10) hx hb (by decide) d_M_certainty_5 (by decide) (fun c5 => ?_) (fun c5 => ?_)
    · exact absurd c5 (by decide)
    · refine lv_iconst (v := (-1)) hx hb d_M_certainty_8 (by decide) ?_
      exact ct_iret (va, kp) hQ hx hb hr hlocks hAe hK hP hD hS ⟨fun V hV => (sp_at_f hc2).symm, b_va, b_kp⟩ d_M_certainty_9

abbrev rm_M_whatIf : Room := { frames := 3, cells := 0, slots := 0, locals := 76 }
set_option maxHeartbeats 4000000 in
set_option maxRecDepth 100000 in
/-- whatIf(x, x2, y) -/
theorem c_M_whatIf (l : Launch) (D : va_G) (h0 : Nat) (ad : Nat → Nat) (ca : Nat → ClassId) (se : Nat → Nat) (dp : Nat → Nat) (dn : Nat → Nat) (hd : Nat → Nat) (st : Nat → Nat) (sz : Nat → Nat) (pt : Nat → Nat) (ng : Nat → Nat) (va : Nat → Nat) (kp : Nat → Nat) (ds : Nat) (cn : Nat) (hz : Nat) (B : bM se dp dn hd st sz pt ng va kp ds cn) (x : Int32) (x2 : Int32) (y : Int32) (hok : ch_ok hd sz pt ng cn) : Met l y_M_whatIf w_M_whatIf rm_M_whatIf (va_Pc [.ref h0, .int x, .int x2, .int y] (Pw D (wM h0 ad ca se dp dn hd st sz pt ng va kp ds cn) (yM ca) hz)) (va_Qi (fun (v : Int32) (u : (Nat → Nat) × (Nat → Nat)) => (∀ V, ch_Slv (ch_wor st sz pt ng) hd cn V → v = sp_wi x x2 y se V) ∧ ch_bd 100 u.1 ∧ ch_bd 100 u.2) (fun (u : (Nat → Nat) × (Nat → Nat)) => Bw D (wM h0 ad ca se dp dn hd st sz pt ng va kp ds cn) (wM h0 ad ca se dp dn hd st sz pt ng u.1 u.2 ds cn) (yM ca) hz) (va_A (wM h0 ad ca se dp dn hd st sz pt ng va kp ds cn) hz)) 0 0 (va_A (wM h0 ad ca se dp dn hd st sz pt ng va kp ds cn) hz) := by
  obtain ⟨b_se, b_dp, b_dn, b_hd, b_st, b_sz, b_pt, b_ng, b_va, b_kp, b_ds, b_cn⟩ := B
  refine ct_start (by decide) (Nat.le_of_ble_eq_true rfl) ?_
  intro p e s m args below meth c A Q ls hx hb hr hlocks hml hts hown hnm hA hAe hsz hS hP hD hK hl hQ
  have hown : s.vm.findClass R_M = some m.cls := hown
  have hl : lv_has ls 4 [(0, .ref h0), (1, .int x), (2, .int x2), (3, .int y)] := hl
  have hP : va_P D classes (wM h0 ad ca se dp dn hd st sz pt ng va kp ds cn) s.heap := hP
  obtain ⟨H, hH⟩ : ∃ H, H = s.heap := ⟨_, rfl⟩
  obtain ⟨locs, hlc⟩ : ∃ locs : List Loc, locs = [] := ⟨_, rfl⟩
  have hS : va_S A s.heap H locs := by rw [hH, hlc]; exact hS
  have hP : va_P D classes (wM h0 ad ca se dp dn hd st sz pt ng va kp ds cn) H := by rw [hH]; exact hP
  have hgo : W p l e rm_M_whatIf s m args below meth c H locs 0 0 Q (F0 m 0 ls []) := ?_
  · rw [hH, hlc] at hgo; exact hgo
  clear hH hlc
  refine lv_aload_n hx hb d_M_whatIf_0 rfl (lv_at hl 0 rfl) ?_
  refine lv_iload_n hx hb d_M_whatIf_1 rfl (lv_at hl 1 rfl) ?_
  refine xc_iV (C := R_M) (rest := []) ⟨hx, hb, hml, hown, hts⟩ (c_M_bad l D h0 ad ca se dp dn hd st sz pt ng va kp ds cn H.size ⟨b_se, b_dp, b_dn, b_hd, b_st, b_sz, b_pt, b_ng, b_va, b_kp, b_ds, b_cn⟩ x) (cwV 1 hts (gd_v ml_M_45 im_M_bad se_M_bad ini_M cd_M_bad) rfl rfl rfl (by decide +kernel) ⟨Nat.le_of_ble_eq_true rfl, Nat.le_of_ble_eq_true rfl⟩) (va_recv hK hP (ci := 1) (q0 := 0) rfl rfl) hK hP hD hS hA rfl hl.1 rfl (Nat.le_of_ble_eq_true rfl) d_M_whatIf_2 ⟨Nat.le_of_ble_eq_true rfl, Nat.le_of_ble_eq_true rfl⟩ (fun r2 u2 H locs hp2 hP hD hS => ?_)
  have hP : va_P D classes (wM h0 ad ca se dp dn hd st sz pt ng va kp ds cn) H := hP
  have hD : va_D A (wM h0 ad ca se dp dn hd st sz pt ng va kp ds cn) := hD
  rcases hp2 with ⟨hc2, rfl⟩ | ⟨hc2, rfl⟩
  · obtain ⟨jx, hjx, rfl⟩ := ch_ic_get hc2 (by decide)
    refine nr_if_ne (tgt := 16) hx hb (by decide) d_M_whatIf_5 (by decide) (fun c5 => ?_) (fun c5 => ?_)
    · exact absurd c5 (by decide)
    · refine lv_aload_n hx hb d_M_whatIf_8 rfl (lv_at hl 0 rfl) ?_
      refine lv_iload_n hx hb d_M_whatIf_9 rfl (lv_at hl 2 rfl) ?_
      refine xc_iV (C := R_M) (rest := []) ⟨hx, hb, hml, hown, hts⟩ (c_M_bad l D h0 ad ca se dp dn hd st sz pt ng va kp ds cn H.size ⟨b_se, b_dp, b_dn, b_hd, b_st, b_sz, b_pt, b_ng, b_va, b_kp, b_ds, b_cn⟩ x2) (cwV 1 hts (gd_v ml_M_45 im_M_bad se_M_bad ini_M cd_M_bad) rfl rfl rfl (by decide +kernel) ⟨Nat.le_of_ble_eq_true rfl, Nat.le_of_ble_eq_true rfl⟩) (va_recv hK hP (ci := 1) (q0 := 0) rfl rfl) hK hP hD hS hA rfl hl.1 rfl (Nat.le_of_ble_eq_true rfl) d_M_whatIf_10 ⟨Nat.le_of_ble_eq_true rfl, Nat.le_of_ble_eq_true rfl⟩ (fun r10 u10 H locs hp10 hP hD hS => ?_)
      have hP : va_P D classes (wM h0 ad ca se dp dn hd st sz pt ng va kp ds cn) H := hP
      have hD : va_D A (wM h0 ad ca se dp dn hd st sz pt ng va kp ds cn) := hD
      rcases hp10 with ⟨hc10, rfl⟩ | ⟨hc10, rfl⟩
      · obtain ⟨jx2, hjx2, rfl⟩ := ch_ic_get hc10 (by decide)
        refine nr_if_eq (tgt := 18) hx hb (by decide) d_M_whatIf_13 (by decide) (fun c13 => ?_) (fun c13 => ?_)
        · refine lv_iload_n hx hb d_M_whatIf_18 rfl (lv_at hl 3 rfl) ?_
          refine lv_if_lt (tgt := 28) hx hb  d_M_whatIf_19 (by decide) (fun c19 => ?_) (fun c19 => ?_)
          · refine lv_bipush (v := (-2)) hx hb d_M_whatIf_28 (by decide) ?_
            exact ct_iret (va, kp) hQ hx hb hr hlocks hAe hK hP hD hS ⟨fun V hV => by rw [sp_wi, if_pos hc2, if_pos hc10, if_pos (Or.inl c19)], b_va, b_kp⟩ d_M_whatIf_30
          · refine lv_iload_n hx hb d_M_whatIf_22 rfl (lv_at hl 3 rfl) ?_
            refine lv_bipush (v := nI 100) hx hb d_M_whatIf_23 (by decide) ?_
            refine lv_icmp_le (tgt := 31) hx hb  d_M_whatIf_25 (by decide) (fun c25 => ?_) (fun c25 => ?_)
            · obtain ⟨sy, hsy, rfl⟩ := nr_rng0 c19 c25
              refine lv_aload_n hx hb d_M_whatIf_31 rfl (lv_at hl 0 rfl) ?_
              refine lv_iload_n hx hb d_M_whatIf_32 rfl (lv_at hl 2 rfl) ?_
              refine lv_iload_n hx hb d_M_whatIf_33 rfl (lv_at hl 3 rfl) ?_
              refine lv_iconst (v := (-1)) hx hb d_M_whatIf_34 (by decide) ?_
              refine xc_vV (C := R_M) (rest := []) ⟨hx, hb, hml, hown, hts⟩ (c_M_workOut l D h0 ad ca se dp dn hd st sz pt ng va kp ds cn H.size ⟨b_se, b_dp, b_dn, b_hd, b_st, b_sz, b_pt, b_ng, b_va, b_kp, b_ds, b_cn⟩ (nI jx2) sy (-1) (ch_up se jx2 sy) hsy hok (wo_sv hjx2)) (cwV 3 hts (gd_v ml_M_63 im_M_workOut se_M_workOut ini_M cd_M_workOut) rfl rfl rfl (by decide +kernel) ⟨Nat.le_of_ble_eq_true rfl, Nat.le_of_ble_eq_true rfl⟩) (va_recv hK hP (ci := 1) (q0 := 0) rfl rfl) hK hP hD hS hA rfl hl.1 rfl (Nat.le_of_ble_eq_true rfl) d_M_whatIf_35 ⟨Nat.le_of_ble_eq_true rfl, Nat.le_of_ble_eq_true rfl⟩ (fun u35 H locs hp35 hP hD hS => ?_)
              obtain ⟨hs35, bv35⟩ := hp35
              have hs35 : ch_Sol (ch_wor st sz pt ng) hd cn (ch_up se jx2 sy) (-1) u35 := hs35
              have hP : va_P D classes (wM h0 ad ca se dp dn hd st sz pt ng u35 kp ds cn) H := hP
              have hD : va_D A (wM h0 ad ca se dp dn hd st sz pt ng u35 kp ds cn) := hD
              refine lv_aload_n hx hb d_M_whatIf_38 rfl (lv_at hl 0 rfl) ?_
              refine gtM hx hb hts hown hK hP fl_M_35 rfl (k := 10) (by decide) ⟨rfl, rfl, rfl⟩ rfl d_M_whatIf_39 ?_
              refine lv_iload_n hx hb d_M_whatIf_42 rfl (lv_at hl 1 rfl) ?_
              refine nr_iald hx hb hK hP 9 8 rfl rfl (Nat.lt_of_le_of_lt (Nat.le_of_lt_succ hjx) (by decide)) (by decide) d_M_whatIf_43 ?_
              exact ct_iret (u35, kp) hQ hx hb hr hlocks hAe hK hP hD hS ⟨fun V hV => by rw [sp_wi, if_pos hc2, if_pos hc10, if_neg (fun z9 => z9.elim c19 (fun y9 => y9 c25)), ch_tn_nI (nr_31 (Nat.le_of_lt hjx2) (by decide)), ch_tn_nI (nr_31 hsy (by decide)), ch_tn_nI (nr_31 (Nat.le_of_lt hjx) (by decide)), ← ch_Slv_at hV (ch_bd_up b_se hsy) hs35 jx hjx], bv35, b_kp⟩ d_M_whatIf_44
            · refine lv_bipush (v := (-2)) hx hb d_M_whatIf_28 (by decide) ?_
              exact ct_iret (va, kp) hQ hx hb hr hlocks hAe hK hP hD hS ⟨fun V hV => by rw [sp_wi, if_pos hc2, if_pos hc10, if_pos (Or.inr c25)], b_va, b_kp⟩ d_M_whatIf_30
        · exact absurd c13 (by decide)
      · refine nr_if_eq (tgt := 18) hx hb (by decide) d_M_whatIf_13 (by decide) (fun c13 => ?_) (fun c13 => ?_)
        · exact absurd c13 (by decide)
        · refine lv_iconst (v := (-1)) hx hb d_M_whatIf_16 (by decide) ?_
          exact ct_iret (va, kp) hQ hx hb hr hlocks hAe hK hP hD hS ⟨fun V hV => by rw [sp_wi, if_pos hc2, if_neg (by rw [hc10]; decide)], b_va, b_kp⟩ d_M_whatIf_17
  · refine nr_if_ne (tgt := 16) hx hb (by decide) d_M_whatIf_5 (by decide) (fun c5 => ?_) (fun c5 => ?_)
    · refine lv_iconst (v := (-1)) hx hb d_M_whatIf_16 (by decide) ?_
      exact ct_iret (va, kp) hQ hx hb hr hlocks hAe hK hP hD hS ⟨fun V hV => by rw [sp_wi, if_neg (by rw [hc2]; decide)], b_va, b_kp⟩ d_M_whatIf_17
    · exact absurd c5 (by decide)

abbrev rm_M_without : Room := { frames := 3, cells := 0, slots := 0, locals := 76 }
set_option maxHeartbeats 4000000 in
set_option maxRecDepth 100000 in
/-- without(x, x2) -/
theorem c_M_without (l : Launch) (D : va_G) (h0 : Nat) (ad : Nat → Nat) (ca : Nat → ClassId) (se : Nat → Nat) (dp : Nat → Nat) (dn : Nat → Nat) (hd : Nat → Nat) (st : Nat → Nat) (sz : Nat → Nat) (pt : Nat → Nat) (ng : Nat → Nat) (va : Nat → Nat) (kp : Nat → Nat) (ds : Nat) (cn : Nat) (hz : Nat) (B : bM se dp dn hd st sz pt ng va kp ds cn) (x : Int32) (x2 : Int32) (hok : ch_ok hd sz pt ng cn) : Met l y_M_without w_M_without rm_M_without (va_Pc [.ref h0, .int x, .int x2] (Pw D (wM h0 ad ca se dp dn hd st sz pt ng va kp ds cn) (yM ca) hz)) (va_Qi (fun (v : Int32) (u : (Nat → Nat) × (Nat → Nat)) => (∀ V, ch_Slv (ch_wor st sz pt ng) hd cn V → v = sp_wo x x2 cn se V) ∧ ch_bd 100 u.1 ∧ ch_bd 100 u.2) (fun (u : (Nat → Nat) × (Nat → Nat)) => Bw D (wM h0 ad ca se dp dn hd st sz pt ng va kp ds cn) (wM h0 ad ca se dp dn hd st sz pt ng u.1 u.2 ds cn) (yM ca) hz) (va_A (wM h0 ad ca se dp dn hd st sz pt ng va kp ds cn) hz)) 0 0 (va_A (wM h0 ad ca se dp dn hd st sz pt ng va kp ds cn) hz) := by
  obtain ⟨b_se, b_dp, b_dn, b_hd, b_st, b_sz, b_pt, b_ng, b_va, b_kp, b_ds, b_cn⟩ := B
  refine ct_start (by decide) (Nat.le_of_ble_eq_true rfl) ?_
  intro p e s m args below meth c A Q ls hx hb hr hlocks hml hts hown hnm hA hAe hsz hS hP hD hK hl hQ
  have hown : s.vm.findClass R_M = some m.cls := hown
  have hl : lv_has ls 3 [(0, .ref h0), (1, .int x), (2, .int x2)] := hl
  have hP : va_P D classes (wM h0 ad ca se dp dn hd st sz pt ng va kp ds cn) s.heap := hP
  obtain ⟨H, hH⟩ : ∃ H, H = s.heap := ⟨_, rfl⟩
  obtain ⟨locs, hlc⟩ : ∃ locs : List Loc, locs = [] := ⟨_, rfl⟩
  have hS : va_S A s.heap H locs := by rw [hH, hlc]; exact hS
  have hP : va_P D classes (wM h0 ad ca se dp dn hd st sz pt ng va kp ds cn) H := by rw [hH]; exact hP
  have hgo : W p l e rm_M_without s m args below meth c H locs 0 0 Q (F0 m 0 ls []) := ?_
  · rw [hH, hlc] at hgo; exact hgo
  clear hH hlc
  refine lv_aload_n hx hb d_M_without_0 rfl (lv_at hl 0 rfl) ?_
  refine lv_iload_n hx hb d_M_without_1 rfl (lv_at hl 1 rfl) ?_
  refine xc_iV (C := R_M) (rest := []) ⟨hx, hb, hml, hown, hts⟩ (c_M_bad l D h0 ad ca se dp dn hd st sz pt ng va kp ds cn H.size ⟨b_se, b_dp, b_dn, b_hd, b_st, b_sz, b_pt, b_ng, b_va, b_kp, b_ds, b_cn⟩ x) (cwV 1 hts (gd_v ml_M_45 im_M_bad se_M_bad ini_M cd_M_bad) rfl rfl rfl (by decide +kernel) ⟨Nat.le_of_ble_eq_true rfl, Nat.le_of_ble_eq_true rfl⟩) (va_recv hK hP (ci := 1) (q0 := 0) rfl rfl) hK hP hD hS hA rfl hl.1 rfl (Nat.le_of_ble_eq_true rfl) d_M_without_2 ⟨Nat.le_of_ble_eq_true rfl, Nat.le_of_ble_eq_true rfl⟩ (fun r2 u2 H locs hp2 hP hD hS => ?_)
  have hP : va_P D classes (wM h0 ad ca se dp dn hd st sz pt ng va kp ds cn) H := hP
  have hD : va_D A (wM h0 ad ca se dp dn hd st sz pt ng va kp ds cn) := hD
  rcases hp2 with ⟨hc2, rfl⟩ | ⟨hc2, rfl⟩
  · obtain ⟨jx, hjx, rfl⟩ := ch_ic_get hc2 (by decide)
    refine nr_if_eq (tgt := 10) hx hb (by decide) d_M_without_5 (by decide) (fun c5 => ?_) (fun c5 => ?_)
    · refine lv_aload_n hx hb d_M_without_10 rfl (lv_at hl 0 rfl) ?_
      refine lv_iload_n hx hb d_M_without_11 rfl (lv_at hl 2 rfl) ?_
      refine xc_iV (C := R_M) (rest := []) ⟨hx, hb, hml, hown, hts⟩ (c_M_badRule l D h0 ad ca se dp dn hd st sz pt ng va kp ds cn H.size ⟨b_se, b_dp, b_dn, b_hd, b_st, b_sz, b_pt, b_ng, b_va, b_kp, b_ds, b_cn⟩ x2) (cwV 1 hts (gd_v ml_M_52 im_M_badRule se_M_badRule ini_M cd_M_badRule) rfl rfl rfl (by decide +kernel) ⟨Nat.le_of_ble_eq_true rfl, Nat.le_of_ble_eq_true rfl⟩) (va_recv hK hP (ci := 1) (q0 := 0) rfl rfl) hK hP hD hS hA rfl hl.1 rfl (Nat.le_of_ble_eq_true rfl) d_M_without_12 ⟨Nat.le_of_ble_eq_true rfl, Nat.le_of_ble_eq_true rfl⟩ (fun r12 u12 H locs hp12 hP hD hS => ?_)
      have hP : va_P D classes (wM h0 ad ca se dp dn hd st sz pt ng va kp ds cn) H := hP
      have hD : va_D A (wM h0 ad ca se dp dn hd st sz pt ng va kp ds cn) := hD
      rcases hp12 with ⟨hc12, rfl⟩ | ⟨hc12, rfl⟩
      · obtain ⟨jx2, hjx2, rfl⟩ := ch_ic_get hc12 (nr_31 b_cn (by decide))
        refine nr_if_eq (tgt := 21) hx hb (by decide) d_M_without_15 (by decide) (fun c15 => ?_) (fun c15 => ?_)
        · refine lv_aload_n hx hb d_M_without_21 rfl (lv_at hl 0 rfl) ?_
          refine lv_iconst (v := (-1)) hx hb d_M_without_22 (by decide) ?_
          refine lv_iconst (v := nI 0) hx hb d_M_without_23 (by decide) ?_
          refine lv_iload_n hx hb d_M_without_24 rfl (lv_at hl 2 rfl) ?_
          refine xc_vV (C := R_M) (rest := []) ⟨hx, hb, hml, hown, hts⟩ (c_M_workOut l D h0 ad ca se dp dn hd st sz pt ng va kp ds cn H.size ⟨b_se, b_dp, b_dn, b_hd, b_st, b_sz, b_pt, b_ng, b_va, b_kp, b_ds, b_cn⟩ (-1) 0 (nI jx2) se (by decide) hok (fun c9 hc9 => (if_neg (nr_nm1 (by omega))).symm)) (cwV 3 hts (gd_v ml_M_63 im_M_workOut se_M_workOut ini_M cd_M_workOut) rfl rfl rfl (by decide +kernel) ⟨Nat.le_of_ble_eq_true rfl, Nat.le_of_ble_eq_true rfl⟩) (va_recv hK hP (ci := 1) (q0 := 0) rfl rfl) hK hP hD hS hA rfl hl.1 rfl (Nat.le_of_ble_eq_true rfl) d_M_without_25 ⟨Nat.le_of_ble_eq_true rfl, Nat.le_of_ble_eq_true rfl⟩ (fun u25 H locs hp25 hP hD hS => ?_)
          obtain ⟨hs25, bv25⟩ := hp25
          have hs25 : ch_Sol (ch_wor st sz pt ng) hd cn se (nI jx2) u25 := hs25
          have hP : va_P D classes (wM h0 ad ca se dp dn hd st sz pt ng u25 kp ds cn) H := hP
          have hD : va_D A (wM h0 ad ca se dp dn hd st sz pt ng u25 kp ds cn) := hD
          refine lv_aload_n hx hb d_M_without_28 rfl (lv_at hl 0 rfl) ?_
          refine gtM hx hb hts hown hK hP fl_M_35 rfl (k := 10) (by decide) ⟨rfl, rfl, rfl⟩ rfl d_M_without_29 ?_
          refine lv_iload_n hx hb d_M_without_32 rfl (lv_at hl 1 rfl) ?_
          refine nr_iald hx hb hK hP 9 8 rfl rfl (Nat.lt_of_le_of_lt (Nat.le_of_lt_succ hjx) (by decide)) (by decide) d_M_without_33 ?_
          exact ct_iret (u25, kp) hQ hx hb hr hlocks hAe hK hP hD hS ⟨fun V hV => by rw [sp_wo, if_pos hc2, if_pos hc12, ch_tn_nI (nr_31 (Nat.le_of_lt hjx) (by decide)), ← ch_Slv_at hV b_se hs25 jx hjx], bv25, b_kp⟩ d_M_without_34
        · exact absurd c15 (by decide)
      · refine nr_if_eq (tgt := 21) hx hb (by decide) d_M_without_15 (by decide) (fun c15 => ?_) (fun c15 => ?_)
        · exact absurd c15 (by decide)
        · refine lv_bipush (v := (-2)) hx hb d_M_without_18 (by decide) ?_
          exact ct_iret (va, kp) hQ hx hb hr hlocks hAe hK hP hD hS ⟨fun V hV => by rw [sp_wo, if_pos hc2, if_neg (by rw [hc12]; decide)], b_va, b_kp⟩ d_M_without_20
    · exact absurd c5 (by decide)
  · refine nr_if_eq (tgt := 10) hx hb (by decide) d_M_without_5 (by decide) (fun c5 => ?_) (fun c5 => ?_)
    · exact absurd c5 (by decide)
    · refine lv_iconst (v := (-1)) hx hb d_M_without_8 (by decide) ?_
      exact ct_iret (va, kp) hQ hx hb hr hlocks hAe hK hP hD hS ⟨fun V hV => by rw [sp_wo, if_neg (by rw [hc2]; decide)], b_va, b_kp⟩ d_M_without_9

abbrev rm_M_supporter : Room := { frames := 3, cells := 0, slots := 0, locals := 76 }
set_option maxHeartbeats 4000000 in
set_option maxRecDepth 100000 in
/-- supporter(x) -/
theorem c_M_supporter (l : Launch) (D : va_G) (h0 : Nat) (ad : Nat → Nat) (ca : Nat → ClassId) (se : Nat → Nat) (dp : Nat → Nat) (dn : Nat → Nat) (hd : Nat → Nat) (st : Nat → Nat) (sz : Nat → Nat) (pt : Nat → Nat) (ng : Nat → Nat) (va : Nat → Nat) (kp : Nat → Nat) (ds : Nat) (cn : Nat) (hz : Nat) (B : bM se dp dn hd st sz pt ng va kp ds cn) (x : Int32) (hok : ch_ok hd sz pt ng cn) : Met l y_M_supporter w_M_supporter rm_M_supporter (va_Pc [.ref h0, .int x] (Pw D (wM h0 ad ca se dp dn hd st sz pt ng va kp ds cn) (yM ca) hz)) (va_Qi (fun (v : Int32) (u : (Nat → Nat) × (Nat → Nat)) => (∀ V, ch_Slv (ch_wor st sz pt ng) hd cn V → (ch_ic x 16 = true → sp_fst (sp_sup (ch_wor st sz pt ng) hd (ch_tn x) (V se (-1))) cn v) ∧ (ch_ic x 16 = false → v = (-1))) ∧ ch_bd 100 u.1 ∧ ch_bd 100 u.2) (fun (u : (Nat → Nat) × (Nat → Nat)) => Bw D (wM h0 ad ca se dp dn hd st sz pt ng va kp ds cn) (wM h0 ad ca se dp dn hd st sz pt ng u.1 u.2 ds cn) (yM ca) hz) (va_A (wM h0 ad ca se dp dn hd st sz pt ng va kp ds cn) hz)) 0 0 (va_A (wM h0 ad ca se dp dn hd st sz pt ng va kp ds cn) hz) := by
  obtain ⟨b_se, b_dp, b_dn, b_hd, b_st, b_sz, b_pt, b_ng, b_va, b_kp, b_ds, b_cn⟩ := B
  refine ct_start (by decide) (Nat.le_of_ble_eq_true rfl) ?_
  intro p e s m args below meth c A Q ls hx hb hr hlocks hml hts hown hnm hA hAe hsz hS hP hD hK hl hQ
  have hown : s.vm.findClass R_M = some m.cls := hown
  have hl : lv_has ls 3 [(0, .ref h0), (1, .int x)] := hl
  have hP : va_P D classes (wM h0 ad ca se dp dn hd st sz pt ng va kp ds cn) s.heap := hP
  obtain ⟨H, hH⟩ : ∃ H, H = s.heap := ⟨_, rfl⟩
  obtain ⟨locs, hlc⟩ : ∃ locs : List Loc, locs = [] := ⟨_, rfl⟩
  have hS : va_S A s.heap H locs := by rw [hH, hlc]; exact hS
  have hP : va_P D classes (wM h0 ad ca se dp dn hd st sz pt ng va kp ds cn) H := by rw [hH]; exact hP
  have hgo : W p l e rm_M_supporter s m args below meth c H locs 0 0 Q (F0 m 0 ls []) := ?_
  · rw [hH, hlc] at hgo; exact hgo
  clear hH hlc
  refine lv_aload_n hx hb d_M_supporter_0 rfl (lv_at hl 0 rfl) ?_
  refine lv_iload_n hx hb d_M_supporter_1 rfl (lv_at hl 1 rfl) ?_
  refine xc_iV (C := R_M) (rest := []) ⟨hx, hb, hml, hown, hts⟩ (c_M_bad l D h0 ad ca se dp dn hd st sz pt ng va kp ds cn H.size ⟨b_se, b_dp, b_dn, b_hd, b_st, b_sz, b_pt, b_ng, b_va, b_kp, b_ds, b_cn⟩ x) (cwV 1 hts (gd_v ml_M_45 im_M_bad se_M_bad ini_M cd_M_bad) rfl rfl rfl (by decide +kernel) ⟨Nat.le_of_ble_eq_true rfl, Nat.le_of_ble_eq_true rfl⟩) (va_recv hK hP (ci := 1) (q0 := 0) rfl rfl) hK hP hD hS hA rfl hl.1 rfl (Nat.le_of_ble_eq_true rfl) d_M_supporter_2 ⟨Nat.le_of_ble_eq_true rfl, Nat.le_of_ble_eq_true rfl⟩ (fun r2 u2 H locs hp2 hP hD hS => ?_)
  have hP : va_P D classes (wM h0 ad ca se dp dn hd st sz pt ng va kp ds cn) H := hP
  have hD : va_D A (wM h0 ad ca se dp dn hd st sz pt ng va kp ds cn) := hD
  rcases hp2 with ⟨hc2, rfl⟩ | ⟨hc2, rfl⟩
  · obtain ⟨jx, hjx, rfl⟩ := ch_ic_get hc2 (by decide)
    refine nr_if_eq (tgt := 10) hx hb (by decide) d_M_supporter_5 (by decide) (fun c5 => ?_) (fun c5 => ?_)
    · refine lv_aload_n hx hb d_M_supporter_10 rfl (lv_at hl 0 rfl) ?_
      refine lv_iconst (v := (-1)) hx hb d_M_supporter_11 (by decide) ?_
      refine lv_iconst (v := nI 0) hx hb d_M_supporter_12 (by decide) ?_
      refine lv_iconst (v := (-1)) hx hb d_M_supporter_13 (by decide) ?_
      refine xc_vV (C := R_M) (rest := []) ⟨hx, hb, hml, hown, hts⟩ (c_M_workOut l D h0 ad ca se dp dn hd st sz pt ng va kp ds cn H.size ⟨b_se, b_dp, b_dn, b_hd, b_st, b_sz, b_pt, b_ng, b_va, b_kp, b_ds, b_cn⟩ (-1) 0 (-1) se (by decide) hok (fun c9 hc9 => (if_neg (nr_nm1 (by omega))).symm)) (cwV 3 hts (gd_v ml_M_63 im_M_workOut se_M_workOut ini_M cd_M_workOut) rfl rfl rfl (by decide +kernel) ⟨Nat.le_of_ble_eq_true rfl, Nat.le_of_ble_eq_true rfl⟩) (va_recv hK hP (ci := 1) (q0 := 0) rfl rfl) hK hP hD hS hA rfl hl.1 rfl (Nat.le_of_ble_eq_true rfl) d_M_supporter_14 ⟨Nat.le_of_ble_eq_true rfl, Nat.le_of_ble_eq_true rfl⟩ (fun u14 H locs hp14 hP hD hS => ?_)
      obtain ⟨hs14, bv14⟩ := hp14
      have hs14 : ch_Sol (ch_wor st sz pt ng) hd cn se (-1) u14 := hs14
      have hP : va_P D classes (wM h0 ad ca se dp dn hd st sz pt ng u14 kp ds cn) H := hP
      have hD : va_D A (wM h0 ad ca se dp dn hd st sz pt ng u14 kp ds cn) := hD
      refine lv_iconst (v := nI 0) hx hb d_M_supporter_17 (by decide) ?_
      refine lv_istore_n (lv' := [(2, .int (nI 0)), (0, .ref h0), (1, .int (nI jx))]) hx hb d_M_supporter_18 rfl hl (by decide) rfl (fun ls hl => ?_)
      have lp19 : ∀ (n : Nat) (r : Nat) (H : Heap) (locs : List Loc) (ls : Array Slot), cn + 1 ≤ r + n → (r ≤ cn) → (∀ a, a < r → ¬ sp_sup (ch_wor st sz pt ng) hd jx u14 a) → va_P D classes (wM h0 ad ca se dp dn hd st sz pt ng u14 kp ds cn) H → va_D A (wM h0 ad ca se dp dn hd st sz pt ng u14 kp ds cn) → va_S A s.heap H locs → lv_has ls 3 [(0, .ref h0), (1, .int (nI jx)), (2, .int (nI r))] → W p l e rm_M_supporter s m args below meth c H locs 0 0 Q (F0 m 19 ls []) := by
        intro n
        induction n with
        | zero =>
          intro r H locs ls hn19 hr2 hno
          exact absurd hn19 (by omega)
        | succ n ih19 =>
          intro r H locs ls hn19 hr2 hno hP hD hS hl
          refine lv_iload_n hx hb d_M_supporter_19 rfl (lv_at hl 2 rfl) ?_
          refine lv_aload_n hx hb d_M_supporter_20 rfl (lv_at hl 0 rfl) ?_
          refine gtM hx hb hts hown hK hP fl_M_41 rfl (k := 4) (by decide) ⟨rfl, rfl, rfl⟩ rfl d_M_supporter_21 ?_
          refine nr_icmp_ge (tgt := 74) hx hb (nr_31 (B := 20) (Nat.le_trans hr2 b_cn) (by decide)) (nr_31 (B := 20) b_cn (by decide)) d_M_supporter_24 (by decide) (fun c24 => ?_) (fun c24 => ?_)
          · refine lv_bipush (v := (-2)) hx hb d_M_supporter_74 (by decide) ?_
            exact ct_iret (u14, kp) hQ hx hb hr hlocks hAe hK hP hD hS ⟨fun V hV => ⟨fun _ => by rw [ch_tn_nI (nr_31 (Nat.le_of_lt hjx) (by decide))]; exact sp_fst_cg (fun r _ => sp_sup_cg b_pt hjx (ch_Slv_at hV b_se hs14)) (Or.inr ⟨fun a ha => hno a (by omega), rfl⟩), fun z9 => absurd (hc2.symm.trans z9) (by decide)⟩, bv14, b_kp⟩ d_M_supporter_76
          · refine lv_iload_n hx hb d_M_supporter_27 rfl (lv_at hl 2 rfl) ?_
            refine lv_bipush (v := nI 20) hx hb d_M_supporter_28 (by decide) ?_
            refine nr_icmp_ge (tgt := 74) hx hb (nr_31 (B := 20) (Nat.le_trans hr2 b_cn) (by decide)) (by decide) d_M_supporter_30 (by decide) (fun c30 => ?_) (fun c30 => ?_)
            · exact absurd c30 (by omega)
            · refine lv_aload_n hx hb d_M_supporter_33 rfl (lv_at hl 0 rfl) ?_
              refine gtM hx hb hts hown hK hP fl_M_20 rfl (k := 5) (by decide) ⟨rfl, rfl, rfl⟩ rfl d_M_supporter_34 ?_
              refine lv_iload_n hx hb d_M_supporter_37 rfl (lv_at hl 2 rfl) ?_
              refine nr_iald hx hb hK hP 4 3 rfl rfl (by omega) (by decide) d_M_supporter_38 ?_
              refine lv_iload_n hx hb d_M_supporter_39 rfl (lv_at hl 1 rfl) ?_
              refine nr_icmp_ne (tgt := 68) hx hb (nr_31 (B := 15) (b_hd _) (by decide)) (nr_31 (B := 15) (Nat.le_of_lt_succ hjx) (by decide)) d_M_supporter_40 (by decide) (fun c40 => ?_) (fun c40 => ?_)
              · refine lv_iinc (v := nI (r + 1)) (lv' := [(2, .int (nI (r + 1))), (0, .ref h0), (1, .int (nI jx))]) hx hb d_M_supporter_68 hl (k := 2) rfl (nI_1 _) (by decide) rfl (fun ls hl => ?_)
                refine lv_goto (tgt := 19) hx hb d_M_supporter_71 (by decide) ?_
                exact ih19 (r + 1) _ _ _ (by omega) (by omega) (lt_s hno (fun z9 => c40 z9.1)) hP hD hS (lv_sub hl [1, 2, 0] rfl)
              · refine lv_aload_n hx hb d_M_supporter_43 rfl (lv_at hl 0 rfl) ?_
                refine gtM hx hb hts hown hK hP fl_M_35 rfl (k := 10) (by decide) ⟨rfl, rfl, rfl⟩ rfl d_M_supporter_44 ?_
                refine lv_iload_n hx hb d_M_supporter_47 rfl (lv_at hl 1 rfl) ?_
                refine nr_iald hx hb hK hP 9 8 rfl rfl (Nat.lt_of_le_of_lt (Nat.le_of_lt_succ hjx) (by decide)) (by decide) d_M_supporter_48 ?_
                refine nr_if_le (tgt := 68) hx hb (nr_31 (B := 100) (bv14 _) (by decide)) d_M_supporter_49 (by decide) (fun c49 => ?_) (fun c49 => ?_)
                · refine lv_iinc (v := nI (r + 1)) (lv' := [(2, .int (nI (r + 1))), (0, .ref h0), (1, .int (nI jx))]) hx hb d_M_supporter_68 hl (k := 2) rfl (nI_1 _) (by decide) rfl (fun ls hl => ?_)
                  refine lv_goto (tgt := 19) hx hb d_M_supporter_71 (by decide) ?_
                  exact ih19 (r + 1) _ _ _ (by omega) (by omega) (lt_s hno (fun z9 => absurd z9.2.1 (by omega))) hP hD hS (lv_sub hl [1, 2, 0] rfl)
                · refine lv_aload_n hx hb d_M_supporter_52 rfl (lv_at hl 0 rfl) ?_
                  refine lv_iload_n hx hb d_M_supporter_53 rfl (lv_at hl 2 rfl) ?_
                  refine xc_iV (C := R_M) (rest := []) ⟨hx, hb, hml, hown, hts⟩ (c_M_asks l D h0 ad ca se dp dn hd st sz pt ng u14 kp ds cn H.size ⟨b_se, b_dp, b_dn, b_hd, b_st, b_sz, b_pt, b_ng, bv14, b_kp, b_ds, b_cn⟩ r (by omega)) (cwV 1 hts (gd_v ml_M_55 im_M_asks se_M_asks ini_M cd_M_asks) rfl rfl rfl (by decide +kernel) ⟨Nat.le_of_ble_eq_true rfl, Nat.le_of_ble_eq_true rfl⟩) (va_recv hK hP (ci := 1) (q0 := 0) rfl rfl) hK hP hD hS hA rfl hl.1 rfl (Nat.le_of_ble_eq_true rfl) d_M_supporter_54 ⟨Nat.le_of_ble_eq_true rfl, Nat.le_of_ble_eq_true rfl⟩ (fun r54 u54 H locs hp54 hP hD hS => ?_)
                  have hP : va_P D classes (wM h0 ad ca se dp dn hd st sz pt ng u14 kp ds cn) H := hP
                  have hD : va_D A (wM h0 ad ca se dp dn hd st sz pt ng u14 kp ds cn) := hD
                  obtain rfl := hp54
                  refine lv_aload_n hx hb d_M_supporter_57 rfl (lv_at hl 0 rfl) ?_
                  refine gtM hx hb hts hown hK hP fl_M_35 rfl (k := 10) (by decide) ⟨rfl, rfl, rfl⟩ rfl d_M_supporter_58 ?_
                  refine lv_iload_n hx hb d_M_supporter_61 rfl (lv_at hl 1 rfl) ?_
                  refine nr_iald hx hb hK hP 9 8 rfl rfl (Nat.lt_of_le_of_lt (Nat.le_of_lt_succ hjx) (by decide)) (by decide) d_M_supporter_62 ?_
                  refine nr_icmp_ne (tgt := 68) hx hb (nr_31 (B := 100) (ch_wor_100 (b_st _)) (by decide)) (nr_31 (B := 100) (bv14 _) (by decide)) d_M_supporter_63 (by decide) (fun c63 => ?_) (fun c63 => ?_)
                  · refine lv_iinc (v := nI (r + 1)) (lv' := [(2, .int (nI (r + 1))), (0, .ref h0), (1, .int (nI jx))]) hx hb d_M_supporter_68 hl (k := 2) rfl (nI_1 _) (by decide) rfl (fun ls hl => ?_)
                    refine lv_goto (tgt := 19) hx hb d_M_supporter_71 (by decide) ?_
                    exact ih19 (r + 1) _ _ _ (by omega) (by omega) (lt_s hno (fun z9 => c63 z9.2.2)) hP hD hS (lv_sub hl [1, 2, 0] rfl)
                  · refine lv_iload_n hx hb d_M_supporter_66 rfl (lv_at hl 2 rfl) ?_
                    exact ct_iret (u14, kp) hQ hx hb hr hlocks hAe hK hP hD hS ⟨fun V hV => ⟨fun _ => by rw [ch_tn_nI (nr_31 (Nat.le_of_lt hjx) (by decide))]; exact sp_fst_cg (fun r _ => sp_sup_cg b_pt hjx (ch_Slv_at hV b_se hs14)) (Or.inl ⟨r, by omega, ⟨c40, by omega, c63⟩, hno, rfl⟩), fun z9 => absurd (hc2.symm.trans z9) (by decide)⟩, bv14, b_kp⟩ d_M_supporter_67
      exact lp19 (cn + 1) 0 _ _ _ (by omega) (Nat.zero_le _) (fun a h => absurd h (Nat.not_lt_zero _)) hP hD hS (lv_sub hl [1, 2, 0] rfl)
    · exact absurd c5 (by decide)
  · refine nr_if_eq (tgt := 10) hx hb (by decide) d_M_supporter_5 (by decide) (fun c5 => ?_) (fun c5 => ?_)
    · exact absurd c5 (by decide)
    · refine lv_iconst (v := (-1)) hx hb d_M_supporter_8 (by decide) ?_
      exact ct_iret (va, kp) hQ hx hb hr hlocks hAe hK hP hD hS ⟨fun V hV => ⟨fun z9 => absurd (hc2.symm.trans z9) (by decide), fun _ => rfl⟩, b_va, b_kp⟩ d_M_supporter_9

abbrev rm_M_yield : Room := { frames := 3, cells := 0, slots := 0, locals := 76 }
set_option maxHeartbeats 4000000 in
set_option maxRecDepth 100000 in
/-- yield(x) -/
theorem c_M_yield (l : Launch) (D : va_G) (h0 : Nat) (ad : Nat → Nat) (ca : Nat → ClassId) (se : Nat → Nat) (dp : Nat → Nat) (dn : Nat → Nat) (hd : Nat → Nat) (st : Nat → Nat) (sz : Nat → Nat) (pt : Nat → Nat) (ng : Nat → Nat) (va : Nat → Nat) (kp : Nat → Nat) (ds : Nat) (cn : Nat) (hz : Nat) (B : bM se dp dn hd st sz pt ng va kp ds cn) (x : Int32) (hok : ch_ok hd sz pt ng cn) : Met l y_M_yield w_M_yield rm_M_yield (va_Pc [.ref h0, .int x] (Pw D (wM h0 ad ca se dp dn hd st sz pt ng va kp ds cn) (yM ca) hz)) (va_Qi (fun (v : Int32) (u : (Nat → Nat) × (Nat → Nat)) => (∀ V, ch_Slv (ch_wor st sz pt ng) hd cn V → v = sp_at x cn (ch_wor st sz pt ng (V se (-1)))) ∧ ch_bd 100 u.1 ∧ ch_bd 100 u.2) (fun (u : (Nat → Nat) × (Nat → Nat)) => Bw D (wM h0 ad ca se dp dn hd st sz pt ng va kp ds cn) (wM h0 ad ca se dp dn hd st sz pt ng u.1 u.2 ds cn) (yM ca) hz) (va_A (wM h0 ad ca se dp dn hd st sz pt ng va kp ds cn) hz)) 0 0 (va_A (wM h0 ad ca se dp dn hd st sz pt ng va kp ds cn) hz) := by
  obtain ⟨b_se, b_dp, b_dn, b_hd, b_st, b_sz, b_pt, b_ng, b_va, b_kp, b_ds, b_cn⟩ := B
  refine ct_start (by decide) (Nat.le_of_ble_eq_true rfl) ?_
  intro p e s m args below meth c A Q ls hx hb hr hlocks hml hts hown hnm hA hAe hsz hS hP hD hK hl hQ
  have hown : s.vm.findClass R_M = some m.cls := hown
  have hl : lv_has ls 2 [(0, .ref h0), (1, .int x)] := hl
  have hP : va_P D classes (wM h0 ad ca se dp dn hd st sz pt ng va kp ds cn) s.heap := hP
  obtain ⟨H, hH⟩ : ∃ H, H = s.heap := ⟨_, rfl⟩
  obtain ⟨locs, hlc⟩ : ∃ locs : List Loc, locs = [] := ⟨_, rfl⟩
  have hS : va_S A s.heap H locs := by rw [hH, hlc]; exact hS
  have hP : va_P D classes (wM h0 ad ca se dp dn hd st sz pt ng va kp ds cn) H := by rw [hH]; exact hP
  have hgo : W p l e rm_M_yield s m args below meth c H locs 0 0 Q (F0 m 0 ls []) := ?_
  · rw [hH, hlc] at hgo; exact hgo
  clear hH hlc
  refine lv_aload_n hx hb d_M_yield_0 rfl (lv_at hl 0 rfl) ?_
  refine lv_iload_n hx hb d_M_yield_1 rfl (lv_at hl 1 rfl) ?_
  refine xc_iV (C := R_M) (rest := []) ⟨hx, hb, hml, hown, hts⟩ (c_M_badRule l D h0 ad ca se dp dn hd st sz pt ng va kp ds cn H.size ⟨b_se, b_dp, b_dn, b_hd, b_st, b_sz, b_pt, b_ng, b_va, b_kp, b_ds, b_cn⟩ x) (cwV 1 hts (gd_v ml_M_52 im_M_badRule se_M_badRule ini_M cd_M_badRule) rfl rfl rfl (by decide +kernel) ⟨Nat.le_of_ble_eq_true rfl, Nat.le_of_ble_eq_true rfl⟩) (va_recv hK hP (ci := 1) (q0 := 0) rfl rfl) hK hP hD hS hA rfl hl.1 rfl (Nat.le_of_ble_eq_true rfl) d_M_yield_2 ⟨Nat.le_of_ble_eq_true rfl, Nat.le_of_ble_eq_true rfl⟩ (fun r2 u2 H locs hp2 hP hD hS => ?_)
  have hP : va_P D classes (wM h0 ad ca se dp dn hd st sz pt ng va kp ds cn) H := hP
  have hD : va_D A (wM h0 ad ca se dp dn hd st sz pt ng va kp ds cn) := hD
  rcases hp2 with ⟨hc2, rfl⟩ | ⟨hc2, rfl⟩
  · obtain ⟨jx, hjx, rfl⟩ := ch_ic_get hc2 (nr_31 b_cn (by decide))
    refine nr_if_eq (tgt := 10) hx hb (by decide) d_M_yield_5 (by decide) (fun c5 => ?_) (fun c5 => ?_)
    · refine lv_aload_n hx hb d_M_yield_10 rfl (lv_at hl 0 rfl) ?_
      refine lv_iconst (v := (-1)) hx hb d_M_yield_11 (by decide) ?_
      refine lv_iconst (v := nI 0) hx hb d_M_yield_12 (by decide) ?_
      refine lv_iconst (v := (-1)) hx hb d_M_yield_13 (by decide) ?_
      refine xc_vV (C := R_M) (rest := []) ⟨hx, hb, hml, hown, hts⟩ (c_M_workOut l D h0 ad ca se dp dn hd st sz pt ng va kp ds cn H.size ⟨b_se, b_dp, b_dn, b_hd, b_st, b_sz, b_pt, b_ng, b_va, b_kp, b_ds, b_cn⟩ (-1) 0 (-1) se (by decide) hok (fun c9 hc9 => (if_neg (nr_nm1 (by omega))).symm)) (cwV 3 hts (gd_v ml_M_63 im_M_workOut se_M_workOut ini_M cd_M_workOut) rfl rfl rfl (by decide +kernel) ⟨Nat.le_of_ble_eq_true rfl, Nat.le_of_ble_eq_true rfl⟩) (va_recv hK hP (ci := 1) (q0 := 0) rfl rfl) hK hP hD hS hA rfl hl.1 rfl (Nat.le_of_ble_eq_true rfl) d_M_yield_14 ⟨Nat.le_of_ble_eq_true rfl, Nat.le_of_ble_eq_true rfl⟩ (fun u14 H locs hp14 hP hD hS => ?_)
      obtain ⟨hs14, bv14⟩ := hp14
      have hs14 : ch_Sol (ch_wor st sz pt ng) hd cn se (-1) u14 := hs14
      have hP : va_P D classes (wM h0 ad ca se dp dn hd st sz pt ng u14 kp ds cn) H := hP
      have hD : va_D A (wM h0 ad ca se dp dn hd st sz pt ng u14 kp ds cn) := hD
      refine lv_aload_n hx hb d_M_yield_17 rfl (lv_at hl 0 rfl) ?_
      refine lv_iload_n hx hb d_M_yield_18 rfl (lv_at hl 1 rfl) ?_
      refine xc_iV (C := R_M) (rest := []) ⟨hx, hb, hml, hown, hts⟩ (c_M_asks l D h0 ad ca se dp dn hd st sz pt ng u14 kp ds cn H.size ⟨b_se, b_dp, b_dn, b_hd, b_st, b_sz, b_pt, b_ng, bv14, b_kp, b_ds, b_cn⟩ jx (by omega)) (cwV 1 hts (gd_v ml_M_55 im_M_asks se_M_asks ini_M cd_M_asks) rfl rfl rfl (by decide +kernel) ⟨Nat.le_of_ble_eq_true rfl, Nat.le_of_ble_eq_true rfl⟩) (va_recv hK hP (ci := 1) (q0 := 0) rfl rfl) hK hP hD hS hA rfl hl.1 rfl (Nat.le_of_ble_eq_true rfl) d_M_yield_19 ⟨Nat.le_of_ble_eq_true rfl, Nat.le_of_ble_eq_true rfl⟩ (fun r19 u19 H locs hp19 hP hD hS => ?_)
      have hP : va_P D classes (wM h0 ad ca se dp dn hd st sz pt ng u14 kp ds cn) H := hP
      have hD : va_D A (wM h0 ad ca se dp dn hd st sz pt ng u14 kp ds cn) := hD
      obtain rfl := hp19
      exact ct_iret (u14, kp) hQ hx hb hr hlocks hAe hK hP hD hS ⟨fun V hV => by rw [sp_at_t hjx (nr_31 b_cn (by decide)), ch_wor_16 b_pt (ch_Slv_at hV b_se hs14)], bv14, b_kp⟩ d_M_yield_22
    · exact absurd c5 (by decide)
  · refine nr_if_eq (tgt := 10) hx hb (by decide) d_M_yield_5 (by decide) (fun c5 => ?_) (fun c5 => ?_)
    · exact absurd c5 (by decide)
    · refine lv_iconst (v := (-1)) hx hb d_M_yield_8 (by decide) ?_
      exact ct_iret (va, kp) hQ hx hb hr hlocks hAe hK hP hD hS ⟨fun V hV => (sp_at_f hc2).symm, b_va, b_kp⟩ d_M_yield_9

abbrev rm_M_atLeast : Room := { frames := 3, cells := 0, slots := 0, locals := 76 }
set_option maxHeartbeats 4000000 in
set_option maxRecDepth 100000 in
/-- atLeast(x) -/
theorem c_M_atLeast (l : Launch) (D : va_G) (h0 : Nat) (ad : Nat → Nat) (ca : Nat → ClassId) (se : Nat → Nat) (dp : Nat → Nat) (dn : Nat → Nat) (hd : Nat → Nat) (st : Nat → Nat) (sz : Nat → Nat) (pt : Nat → Nat) (ng : Nat → Nat) (va : Nat → Nat) (kp : Nat → Nat) (ds : Nat) (cn : Nat) (hz : Nat) (B : bM se dp dn hd st sz pt ng va kp ds cn) (x : Int32) (hok : ch_ok hd sz pt ng cn) : Met l y_M_atLeast w_M_atLeast rm_M_atLeast (va_Pc [.ref h0, .int x] (Pw D (wM h0 ad ca se dp dn hd st sz pt ng va kp ds cn) (yM ca) hz)) (va_Qi (fun (v : Int32) (u : (Nat → Nat) × (Nat → Nat)) => (∀ V, ch_Slv (ch_wor st sz pt ng) hd cn V → v = nI (sp_al (V se (-1)) x 16)) ∧ ch_bd 100 u.1 ∧ ch_bd 100 u.2) (fun (u : (Nat → Nat) × (Nat → Nat)) => Bw D (wM h0 ad ca se dp dn hd st sz pt ng va kp ds cn) (wM h0 ad ca se dp dn hd st sz pt ng u.1 u.2 ds cn) (yM ca) hz) (va_A (wM h0 ad ca se dp dn hd st sz pt ng va kp ds cn) hz)) 0 0 (va_A (wM h0 ad ca se dp dn hd st sz pt ng va kp ds cn) hz) := by
  obtain ⟨b_se, b_dp, b_dn, b_hd, b_st, b_sz, b_pt, b_ng, b_va, b_kp, b_ds, b_cn⟩ := B
  refine ct_start (by decide) (Nat.le_of_ble_eq_true rfl) ?_
  intro p e s m args below meth c A Q ls hx hb hr hlocks hml hts hown hnm hA hAe hsz hS hP hD hK hl hQ
  have hown : s.vm.findClass R_M = some m.cls := hown
  have hl : lv_has ls 4 [(0, .ref h0), (1, .int x)] := hl
  have hP : va_P D classes (wM h0 ad ca se dp dn hd st sz pt ng va kp ds cn) s.heap := hP
  obtain ⟨H, hH⟩ : ∃ H, H = s.heap := ⟨_, rfl⟩
  obtain ⟨locs, hlc⟩ : ∃ locs : List Loc, locs = [] := ⟨_, rfl⟩
  have hS : va_S A s.heap H locs := by rw [hH, hlc]; exact hS
  have hP : va_P D classes (wM h0 ad ca se dp dn hd st sz pt ng va kp ds cn) H := by rw [hH]; exact hP
  have hgo : W p l e rm_M_atLeast s m args below meth c H locs 0 0 Q (F0 m 0 ls []) := ?_
  · rw [hH, hlc] at hgo; exact hgo
  clear hH hlc
  refine lv_aload_n hx hb d_M_atLeast_0 rfl (lv_at hl 0 rfl) ?_
  refine lv_iconst (v := (-1)) hx hb d_M_atLeast_1 (by decide) ?_
  refine lv_iconst (v := nI 0) hx hb d_M_atLeast_2 (by decide) ?_
  refine lv_iconst (v := (-1)) hx hb d_M_atLeast_3 (by decide) ?_
  refine xc_vV (C := R_M) (rest := []) ⟨hx, hb, hml, hown, hts⟩ (c_M_workOut l D h0 ad ca se dp dn hd st sz pt ng va kp ds cn H.size ⟨b_se, b_dp, b_dn, b_hd, b_st, b_sz, b_pt, b_ng, b_va, b_kp, b_ds, b_cn⟩ (-1) 0 (-1) se (by decide) hok (fun c9 hc9 => (if_neg (nr_nm1 (by omega))).symm)) (cwV 3 hts (gd_v ml_M_63 im_M_workOut se_M_workOut ini_M cd_M_workOut) rfl rfl rfl (by decide +kernel) ⟨Nat.le_of_ble_eq_true rfl, Nat.le_of_ble_eq_true rfl⟩) (va_recv hK hP (ci := 1) (q0 := 0) rfl rfl) hK hP hD hS hA rfl hl.1 rfl (Nat.le_of_ble_eq_true rfl) d_M_atLeast_4 ⟨Nat.le_of_ble_eq_true rfl, Nat.le_of_ble_eq_true rfl⟩ (fun u4 H locs hp4 hP hD hS => ?_)
  obtain ⟨hs4, bv4⟩ := hp4
  have hs4 : ch_Sol (ch_wor st sz pt ng) hd cn se (-1) u4 := hs4
  have hP : va_P D classes (wM h0 ad ca se dp dn hd st sz pt ng u4 kp ds cn) H := hP
  have hD : va_D A (wM h0 ad ca se dp dn hd st sz pt ng u4 kp ds cn) := hD
  refine lv_iconst (v := nI 0) hx hb d_M_atLeast_7 (by decide) ?_
  refine lv_istore_n (lv' := [(2, .int (nI 0)), (0, .ref h0), (1, .int x)]) hx hb d_M_atLeast_8 rfl hl (by decide) rfl (fun ls hl => ?_)
  refine lv_iconst (v := nI 0) hx hb d_M_atLeast_9 (by decide) ?_
  refine lv_istore_n (lv' := [(3, .int (nI 0)), (2, .int (nI 0)), (0, .ref h0), (1, .int x)]) hx hb d_M_atLeast_10 rfl hl (by decide) rfl (fun ls hl => ?_)
  have lp11 : ∀ (n : Nat) (k : Nat) (q : Nat) (H : Heap) (locs : List Loc) (ls : Array Slot), 16 + 1 ≤ k + n → (k ≤ 16) → (q = sp_al u4 x k) → va_P D classes (wM h0 ad ca se dp dn hd st sz pt ng u4 kp ds cn) H → va_D A (wM h0 ad ca se dp dn hd st sz pt ng u4 kp ds cn) → va_S A s.heap H locs → lv_has ls 4 [(0, .ref h0), (1, .int x), (2, .int (nI q)), (3, .int (nI k))] → W p l e rm_M_atLeast s m args below meth c H locs 0 0 Q (F0 m 11 ls []) := by
    intro n
    induction n with
    | zero =>
      intro k q H locs ls hn11 hk hq
      exact absurd hn11 (by omega)
    | succ n ih11 =>
      intro k q H locs ls hn11 hk hq hP hD hS hl
      refine lv_iload_n hx hb d_M_atLeast_11 rfl (lv_at hl 3 rfl) ?_
      refine lv_bipush (v := nI 16) hx hb d_M_atLeast_12 (by decide) ?_
      refine nr_icmp_ge (tgt := 36) hx hb (nr_31 (B := 16) hk (by decide)) (by decide) d_M_atLeast_14 (by decide) (fun c14 => ?_) (fun c14 => ?_)
      · refine lv_iload_n hx hb d_M_atLeast_36 rfl (lv_at hl 2 rfl) ?_
        exact ct_iret (u4, kp) hQ hx hb hr hlocks hAe hK hP hD hS ⟨fun V hV => by rw [hq, show k = 16 by omega, sp_al_cg 16 (ch_Slv_at hV b_se hs4)], bv4, b_kp⟩ d_M_atLeast_37
      · refine lv_aload_n hx hb d_M_atLeast_17 rfl (lv_at hl 0 rfl) ?_
        refine gtM hx hb hts hown hK hP fl_M_35 rfl (k := 10) (by decide) ⟨rfl, rfl, rfl⟩ rfl d_M_atLeast_18 ?_
        refine lv_iload_n hx hb d_M_atLeast_21 rfl (lv_at hl 3 rfl) ?_
        refine nr_iald hx hb hK hP 9 8 rfl rfl (by omega) (by decide) d_M_atLeast_22 ?_
        refine lv_iload_n hx hb d_M_atLeast_23 rfl (lv_at hl 1 rfl) ?_
        refine lv_icmp_lt (tgt := 30) hx hb  d_M_atLeast_24 (by decide) (fun c24 => ?_) (fun c24 => ?_)
        · refine lv_iinc (v := nI (k + 1)) (lv' := [(3, .int (nI (k + 1))), (0, .ref h0), (1, .int x), (2, .int (nI q))]) hx hb d_M_atLeast_30 hl (k := 3) rfl (nI_1 _) (by decide) rfl (fun ls hl => ?_)
          refine lv_goto (tgt := 11) hx hb d_M_atLeast_33 (by decide) ?_
          exact ih11 (k + 1) q _ _ _ (by omega) (by omega) (by rw [sp_al, if_pos c24, Nat.add_zero, hq]) hP hD hS (lv_sub hl [1, 2, 3, 0] rfl)
        · refine lv_iinc (v := nI (q + 1)) (lv' := [(2, .int (nI (q + 1))), (0, .ref h0), (1, .int x), (3, .int (nI k))]) hx hb d_M_atLeast_27 hl (k := 2) rfl (nI_1 _) (by decide) rfl (fun ls hl => ?_)
          refine lv_iinc (v := nI (k + 1)) (lv' := [(3, .int (nI (k + 1))), (2, .int (nI (q + 1))), (0, .ref h0), (1, .int x)]) hx hb d_M_atLeast_30 hl (k := 3) rfl (nI_1 _) (by decide) rfl (fun ls hl => ?_)
          refine lv_goto (tgt := 11) hx hb d_M_atLeast_33 (by decide) ?_
          exact ih11 (k + 1) (q + 1) _ _ _ (by omega) (by omega) (by rw [sp_al, if_neg c24, hq]) hP hD hS (lv_sub hl [2, 3, 1, 0] rfl)
  exact lp11 (16 + 1) 0 0 _ _ _ (by omega) (by decide) rfl hP hD hS (lv_sub hl [2, 3, 1, 0] rfl)

abbrev rm_M_strongest : Room := { frames := 3, cells := 0, slots := 0, locals := 76 }
set_option maxHeartbeats 4000000 in
set_option maxRecDepth 100000 in
/-- strongest(x, x2) -/
theorem c_M_strongest (l : Launch) (D : va_G) (h0 : Nat) (ad : Nat → Nat) (ca : Nat → ClassId) (se : Nat → Nat) (dp : Nat → Nat) (dn : Nat → Nat) (hd : Nat → Nat) (st : Nat → Nat) (sz : Nat → Nat) (pt : Nat → Nat) (ng : Nat → Nat) (va : Nat → Nat) (kp : Nat → Nat) (ds : Nat) (cn : Nat) (hz : Nat) (B : bM se dp dn hd st sz pt ng va kp ds cn) (x : Int32) (x2 : Int32) (hok : ch_ok hd sz pt ng cn) : Met l y_M_strongest w_M_strongest rm_M_strongest (va_Pc [.ref h0, .int x, .int x2] (Pw D (wM h0 ad ca se dp dn hd st sz pt ng va kp ds cn) (yM ca) hz)) (va_Qi (fun (v : Int32) (u : (Nat → Nat) × (Nat → Nat)) => (∀ V, ch_Slv (ch_wor st sz pt ng) hd cn V → v = sp_stg x x2 (V se (-1))) ∧ ch_bd 100 u.1 ∧ ch_bd 100 u.2) (fun (u : (Nat → Nat) × (Nat → Nat)) => Bw D (wM h0 ad ca se dp dn hd st sz pt ng va kp ds cn) (wM h0 ad ca se dp dn hd st sz pt ng u.1 u.2 ds cn) (yM ca) hz) (va_A (wM h0 ad ca se dp dn hd st sz pt ng va kp ds cn) hz)) 0 0 (va_A (wM h0 ad ca se dp dn hd st sz pt ng va kp ds cn) hz) := by
  obtain ⟨b_se, b_dp, b_dn, b_hd, b_st, b_sz, b_pt, b_ng, b_va, b_kp, b_ds, b_cn⟩ := B
  refine ct_start (by decide) (Nat.le_of_ble_eq_true rfl) ?_
  intro p e s m args below meth c A Q ls hx hb hr hlocks hml hts hown hnm hA hAe hsz hS hP hD hK hl hQ
  have hown : s.vm.findClass R_M = some m.cls := hown
  have hl : lv_has ls 5 [(0, .ref h0), (1, .int x), (2, .int x2)] := hl
  have hP : va_P D classes (wM h0 ad ca se dp dn hd st sz pt ng va kp ds cn) s.heap := hP
  obtain ⟨H, hH⟩ : ∃ H, H = s.heap := ⟨_, rfl⟩
  obtain ⟨locs, hlc⟩ : ∃ locs : List Loc, locs = [] := ⟨_, rfl⟩
  have hS : va_S A s.heap H locs := by rw [hH, hlc]; exact hS
  have hP : va_P D classes (wM h0 ad ca se dp dn hd st sz pt ng va kp ds cn) H := by rw [hH]; exact hP
  have hgo : W p l e rm_M_strongest s m args below meth c H locs 0 0 Q (F0 m 0 ls []) := ?_
  · rw [hH, hlc] at hgo; exact hgo
  clear hH hlc
  refine lv_aload_n hx hb d_M_strongest_0 rfl (lv_at hl 0 rfl) ?_
  refine lv_iload_n hx hb d_M_strongest_1 rfl (lv_at hl 1 rfl) ?_
  refine xc_iV (C := R_M) (rest := []) ⟨hx, hb, hml, hown, hts⟩ (c_M_bad l D h0 ad ca se dp dn hd st sz pt ng va kp ds cn H.size ⟨b_se, b_dp, b_dn, b_hd, b_st, b_sz, b_pt, b_ng, b_va, b_kp, b_ds, b_cn⟩ x) (cwV 1 hts (gd_v ml_M_45 im_M_bad se_M_bad ini_M cd_M_bad) rfl rfl rfl (by decide +kernel) ⟨Nat.le_of_ble_eq_true rfl, Nat.le_of_ble_eq_true rfl⟩) (va_recv hK hP (ci := 1) (q0 := 0) rfl rfl) hK hP hD hS hA rfl hl.1 rfl (Nat.le_of_ble_eq_true rfl) d_M_strongest_2 ⟨Nat.le_of_ble_eq_true rfl, Nat.le_of_ble_eq_true rfl⟩ (fun r2 u2 H locs hp2 hP hD hS => ?_)
  have hP : va_P D classes (wM h0 ad ca se dp dn hd st sz pt ng va kp ds cn) H := hP
  have hD : va_D A (wM h0 ad ca se dp dn hd st sz pt ng va kp ds cn) := hD
  rcases hp2 with ⟨hc2, rfl⟩ | ⟨hc2, rfl⟩
  · obtain ⟨jx, hjx, rfl⟩ := ch_ic_get hc2 (by decide)
    refine nr_if_ne (tgt := 16) hx hb (by decide) d_M_strongest_5 (by decide) (fun c5 => ?_) (fun c5 => ?_)
    · exact absurd c5 (by decide)
    · refine lv_aload_n hx hb d_M_strongest_8 rfl (lv_at hl 0 rfl) ?_
      refine lv_iload_n hx hb d_M_strongest_9 rfl (lv_at hl 2 rfl) ?_
      refine xc_iV (C := R_M) (rest := []) ⟨hx, hb, hml, hown, hts⟩ (c_M_bad l D h0 ad ca se dp dn hd st sz pt ng va kp ds cn H.size ⟨b_se, b_dp, b_dn, b_hd, b_st, b_sz, b_pt, b_ng, b_va, b_kp, b_ds, b_cn⟩ x2) (cwV 1 hts (gd_v ml_M_45 im_M_bad se_M_bad ini_M cd_M_bad) rfl rfl rfl (by decide +kernel) ⟨Nat.le_of_ble_eq_true rfl, Nat.le_of_ble_eq_true rfl⟩) (va_recv hK hP (ci := 1) (q0 := 0) rfl rfl) hK hP hD hS hA rfl hl.1 rfl (Nat.le_of_ble_eq_true rfl) d_M_strongest_10 ⟨Nat.le_of_ble_eq_true rfl, Nat.le_of_ble_eq_true rfl⟩ (fun r10 u10 H locs hp10 hP hD hS => ?_)
      have hP : va_P D classes (wM h0 ad ca se dp dn hd st sz pt ng va kp ds cn) H := hP
      have hD : va_D A (wM h0 ad ca se dp dn hd st sz pt ng va kp ds cn) := hD
      rcases hp10 with ⟨hc10, rfl⟩ | ⟨hc10, rfl⟩
      · obtain ⟨jx2, hjx2, rfl⟩ := ch_ic_get hc10 (by decide)
        refine nr_if_eq (tgt := 18) hx hb (by decide) d_M_strongest_13 (by decide) (fun c13 => ?_) (fun c13 => ?_)
        · refine lv_iload_n hx hb d_M_strongest_18 rfl (lv_at hl 1 rfl) ?_
          refine lv_iload_n hx hb d_M_strongest_19 rfl (lv_at hl 2 rfl) ?_
          refine nr_icmp_le (tgt := 26) hx hb (nr_31 (B := 15) (Nat.le_of_lt_succ hjx) (by decide)) (nr_31 (B := 15) (Nat.le_of_lt_succ hjx2) (by decide)) d_M_strongest_20 (by decide) (fun c20 => ?_) (fun c20 => ?_)
          · refine lv_aload_n hx hb d_M_strongest_26 rfl (lv_at hl 0 rfl) ?_
            refine lv_iconst (v := (-1)) hx hb d_M_strongest_27 (by decide) ?_
            refine lv_iconst (v := nI 0) hx hb d_M_strongest_28 (by decide) ?_
            refine lv_iconst (v := (-1)) hx hb d_M_strongest_29 (by decide) ?_
            refine xc_vV (C := R_M) (rest := []) ⟨hx, hb, hml, hown, hts⟩ (c_M_workOut l D h0 ad ca se dp dn hd st sz pt ng va kp ds cn H.size ⟨b_se, b_dp, b_dn, b_hd, b_st, b_sz, b_pt, b_ng, b_va, b_kp, b_ds, b_cn⟩ (-1) 0 (-1) se (by decide) hok (fun c9 hc9 => (if_neg (nr_nm1 (by omega))).symm)) (cwV 3 hts (gd_v ml_M_63 im_M_workOut se_M_workOut ini_M cd_M_workOut) rfl rfl rfl (by decide +kernel) ⟨Nat.le_of_ble_eq_true rfl, Nat.le_of_ble_eq_true rfl⟩) (va_recv hK hP (ci := 1) (q0 := 0) rfl rfl) hK hP hD hS hA rfl hl.1 rfl (Nat.le_of_ble_eq_true rfl) d_M_strongest_30 ⟨Nat.le_of_ble_eq_true rfl, Nat.le_of_ble_eq_true rfl⟩ (fun u30 H locs hp30 hP hD hS => ?_)
            obtain ⟨hs30, bv30⟩ := hp30
            have hs30 : ch_Sol (ch_wor st sz pt ng) hd cn se (-1) u30 := hs30
            have hP : va_P D classes (wM h0 ad ca se dp dn hd st sz pt ng u30 kp ds cn) H := hP
            have hD : va_D A (wM h0 ad ca se dp dn hd st sz pt ng u30 kp ds cn) := hD
            refine lv_iload_n hx hb d_M_strongest_33 rfl (lv_at hl 1 rfl) ?_
            refine lv_istore_n (lv' := [(3, .int (nI jx)), (0, .ref h0), (1, .int (nI jx)), (2, .int (nI jx2))]) hx hb d_M_strongest_34 rfl hl (by decide) rfl (fun ls hl => ?_)
            refine lv_iload_n hx hb d_M_strongest_35 rfl (lv_at hl 2 rfl) ?_
            refine lv_istore (lv' := [(4, .int (nI jx)), (3, .int (nI jx)), (0, .ref h0), (1, .int (nI jx)), (2, .int (nI jx2))]) hx hb d_M_strongest_36 hl (by decide) rfl (fun ls hl => ?_)
            have lp38 : ∀ (n : Nat) (t : Nat) (b : Nat) (H : Heap) (locs : List Loc) (ls : Array Slot), jx2 + 1 + 1 ≤ jx + t + n → (jx + t ≤ jx2 + 1) → (b = sp_bst u30 jx (t - 1)) → va_P D classes (wM h0 ad ca se dp dn hd st sz pt ng u30 kp ds cn) H → va_D A (wM h0 ad ca se dp dn hd st sz pt ng u30 kp ds cn) → va_S A s.heap H locs → lv_has ls 5 [(0, .ref h0), (1, .int (nI jx)), (2, .int (nI jx2)), (3, .int (nI b)), (4, .int (nI (jx + t)))] → W p l e rm_M_strongest s m args below meth c H locs 0 0 Q (F0 m 38 ls []) := by
              intro n
              induction n with
              | zero =>
                intro t b H locs ls hn38 ht hb9
                exact absurd hn38 (by omega)
              | succ n ih38 =>
                intro t b H locs ls hn38 ht hb9 hP hD hS hl
                have zb := sp_bst_in u30 jx (t - 1)
                refine lv_iload hx hb d_M_strongest_38 (lv_at hl 4 rfl) ?_
                refine lv_iload_n hx hb d_M_strongest_40 rfl (lv_at hl 2 rfl) ?_
                refine nr_icmp_gt (tgt := 69) hx hb (nr_31 (B := 16) (show jx + t ≤ 16 by omega) (by decide)) (nr_31 (B := 15) (Nat.le_of_lt_succ hjx2) (by decide)) d_M_strongest_41 (by decide) (fun c41 => ?_) (fun c41 => ?_)
                · refine lv_iload_n hx hb d_M_strongest_69 rfl (lv_at hl 3 rfl) ?_
                  exact ct_iret (u30, kp) hQ hx hb hr hlocks hAe hK hP hD hS ⟨fun V hV => by rw [sp_stg, if_pos hc2, if_pos hc10, ch_tn_nI (nr_31 (Nat.le_of_lt hjx) (by decide)), ch_tn_nI (nr_31 (Nat.le_of_lt hjx2) (by decide)), if_pos c20, hb9, show t - 1 = jx2 - jx by omega, sp_bst_cg _ (fun j hj => ch_Slv_at hV b_se hs30 j (by omega))], bv30, b_kp⟩ d_M_strongest_70
                · refine lv_aload_n hx hb d_M_strongest_44 rfl (lv_at hl 0 rfl) ?_
                  refine gtM hx hb hts hown hK hP fl_M_35 rfl (k := 10) (by decide) ⟨rfl, rfl, rfl⟩ rfl d_M_strongest_45 ?_
                  refine lv_iload hx hb d_M_strongest_48 (lv_at hl 4 rfl) ?_
                  refine nr_iald hx hb hK hP 9 8 rfl rfl (by omega) (by decide) d_M_strongest_50 ?_
                  refine lv_aload_n hx hb d_M_strongest_51 rfl (lv_at hl 0 rfl) ?_
                  refine gtM hx hb hts hown hK hP fl_M_35 rfl (k := 10) (by decide) ⟨rfl, rfl, rfl⟩ rfl d_M_strongest_52 ?_
                  refine lv_iload_n hx hb d_M_strongest_55 rfl (lv_at hl 3 rfl) ?_
                  refine nr_iald hx hb hK hP 9 8 rfl rfl (Nat.lt_of_le_of_lt (show b ≤ 15 by omega) (by decide)) (by decide) d_M_strongest_56 ?_
                  refine nr_icmp_le (tgt := 63) hx hb (nr_31 (B := 100) (bv30 _) (by decide)) (nr_31 (B := 100) (bv30 _) (by decide)) d_M_strongest_57 (by decide) (fun c57 => ?_) (fun c57 => ?_)
                  · refine lv_iinc (v := nI ((jx + t) + 1)) (lv' := [(4, .int (nI ((jx + t) + 1))), (0, .ref h0), (1, .int (nI jx)), (2, .int (nI jx2)), (3, .int (nI b))]) hx hb d_M_strongest_63 hl (k := 4) rfl (nI_1 _) (by decide) rfl (fun ls hl => ?_)
                    refine lv_goto (tgt := 38) hx hb d_M_strongest_66 (by decide) ?_
                    exact ih38 (t + 1) b _ _ _ (by omega) (by omega) ((sp_bst_M hb9).1 c57) hP hD hS (lv_sub hl [1, 2, 3, 4, 0] rfl)
                  · refine lv_iload hx hb d_M_strongest_60 (lv_at hl 4 rfl) ?_
                    refine lv_istore_n (lv' := [(3, .int (nI (jx + t))), (0, .ref h0), (1, .int (nI jx)), (2, .int (nI jx2)), (4, .int (nI (jx + t)))]) hx hb d_M_strongest_62 rfl hl (by decide) rfl (fun ls hl => ?_)
                    refine lv_iinc (v := nI ((jx + t) + 1)) (lv' := [(4, .int (nI ((jx + t) + 1))), (3, .int (nI (jx + t))), (0, .ref h0), (1, .int (nI jx)), (2, .int (nI jx2))]) hx hb d_M_strongest_63 hl (k := 4) rfl (nI_1 _) (by decide) rfl (fun ls hl => ?_)
                    refine lv_goto (tgt := 38) hx hb d_M_strongest_66 (by decide) ?_
                    exact ih38 (t + 1) (jx + t) _ _ _ (by omega) (by omega) ((sp_bst_M hb9).2 c57) hP hD hS (lv_sub hl [2, 3, 4, 1, 0] rfl)
            exact lp38 (jx2 + 1 + 1) 0 jx _ _ _ (by omega) (by omega) rfl hP hD hS (lv_sub hl [2, 3, 4, 1, 0] rfl)
          · refine lv_bipush (v := (-2)) hx hb d_M_strongest_23 (by decide) ?_
            exact ct_iret (va, kp) hQ hx hb hr hlocks hAe hK hP hD hS ⟨fun V hV => by rw [sp_stg, if_pos hc2, if_pos hc10, ch_tn_nI (nr_31 (Nat.le_of_lt hjx) (by decide)), ch_tn_nI (nr_31 (Nat.le_of_lt hjx2) (by decide)), if_neg c20], b_va, b_kp⟩ d_M_strongest_25
        · exact absurd c13 (by decide)
      · refine nr_if_eq (tgt := 18) hx hb (by decide) d_M_strongest_13 (by decide) (fun c13 => ?_) (fun c13 => ?_)
        · exact absurd c13 (by decide)
        · refine lv_iconst (v := (-1)) hx hb d_M_strongest_16 (by decide) ?_
          exact ct_iret (va, kp) hQ hx hb hr hlocks hAe hK hP hD hS ⟨fun V hV => by rw [sp_stg, if_pos hc2, if_neg (by rw [hc10]; decide)], b_va, b_kp⟩ d_M_strongest_17
  · refine nr_if_ne (tgt := 16) hx hb (by decide) d_M_strongest_5 (by decide) (fun c5 => ?_) (fun c5 => ?_)
    · refine lv_iconst (v := (-1)) hx hb d_M_strongest_16 (by decide) ?_
      exact ct_iret (va, kp) hQ hx hb hr hlocks hAe hK hP hD hS ⟨fun V hV => by rw [sp_stg, if_neg (by rw [hc2]; decide)], b_va, b_kp⟩ d_M_strongest_17
    · exact absurd c5 (by decide)

abbrev rm_M_essential : Room := { frames := 4, cells := 0, slots := 0, locals := 97 }
set_option maxHeartbeats 4000000 in
set_option maxRecDepth 100000 in
/-- essential() -/
theorem c_M_essential (l : Launch) (D : va_G) (h0 : Nat) (ad : Nat → Nat) (ca : Nat → ClassId) (se : Nat → Nat) (dp : Nat → Nat) (dn : Nat → Nat) (hd : Nat → Nat) (st : Nat → Nat) (sz : Nat → Nat) (pt : Nat → Nat) (ng : Nat → Nat) (va : Nat → Nat) (kp : Nat → Nat) (ds : Nat) (cn : Nat) (hz : Nat) (B : bM se dp dn hd st sz pt ng va kp ds cn)  (hok : ch_ok hd sz pt ng cn) : Met l y_M_essential w_M_essential rm_M_essential (va_Pc [.ref h0] (Pw D (wM h0 ad ca se dp dn hd st sz pt ng va kp ds cn) (yM ca) hz)) (va_Qi (fun (v : Int32) (u : (Nat → Nat) × (Nat → Nat)) => (∀ V, ch_Slv (ch_wor st sz pt ng) hd cn V → v = nI (sp_ess V se cn)) ∧ ch_bd 100 u.1 ∧ ch_bd 100 u.2) (fun (u : (Nat → Nat) × (Nat → Nat)) => Bw D (wM h0 ad ca se dp dn hd st sz pt ng va kp ds cn) (wM h0 ad ca se dp dn hd st sz pt ng u.1 u.2 ds cn) (yM ca) hz) (va_A (wM h0 ad ca se dp dn hd st sz pt ng va kp ds cn) hz)) 0 0 (va_A (wM h0 ad ca se dp dn hd st sz pt ng va kp ds cn) hz) := by
  obtain ⟨b_se, b_dp, b_dn, b_hd, b_st, b_sz, b_pt, b_ng, b_va, b_kp, b_ds, b_cn⟩ := B
  refine ct_start (by decide) (Nat.le_of_ble_eq_true rfl) ?_
  intro p e s m args below meth c A Q ls hx hb hr hlocks hml hts hown hnm hA hAe hsz hS hP hD hK hl hQ
  have hown : s.vm.findClass R_M = some m.cls := hown
  have hl : lv_has ls 3 [(0, .ref h0)] := hl
  have hP : va_P D classes (wM h0 ad ca se dp dn hd st sz pt ng va kp ds cn) s.heap := hP
  obtain ⟨H, hH⟩ : ∃ H, H = s.heap := ⟨_, rfl⟩
  obtain ⟨locs, hlc⟩ : ∃ locs : List Loc, locs = [] := ⟨_, rfl⟩
  have hS : va_S A s.heap H locs := by rw [hH, hlc]; exact hS
  have hP : va_P D classes (wM h0 ad ca se dp dn hd st sz pt ng va kp ds cn) H := by rw [hH]; exact hP
  have hgo : W p l e rm_M_essential s m args below meth c H locs 0 0 Q (F0 m 0 ls []) := ?_
  · rw [hH, hlc] at hgo; exact hgo
  clear hH hlc
  refine lv_aload_n hx hb d_M_essential_0 rfl (lv_at hl 0 rfl) ?_
  refine xc_vV (C := R_M) (rest := []) ⟨hx, hb, hml, hown, hts⟩ (c_M_keep l D h0 ad ca se dp dn hd st sz pt ng va kp ds cn H.size ⟨b_se, b_dp, b_dn, b_hd, b_st, b_sz, b_pt, b_ng, b_va, b_kp, b_ds, b_cn⟩ hok) (cwV 0 hts (gd_v ml_M_67 im_M_keep se_M_keep ini_M cd_M_keep) rfl rfl rfl (by decide +kernel) ⟨Nat.le_of_ble_eq_true rfl, Nat.le_of_ble_eq_true rfl⟩) (va_recv hK hP (ci := 1) (q0 := 0) rfl rfl) hK hP hD hS hA rfl hl.1 rfl (Nat.le_of_ble_eq_true rfl) d_M_essential_1 ⟨Nat.le_of_ble_eq_true rfl, Nat.le_of_ble_eq_true rfl⟩ (fun u1 H locs hp1 hP hD hS => ?_)
  obtain ⟨v1, q1⟩ := u1
  obtain ⟨hs1, bv1, bq1, hq1⟩ := hp1
  have hs1 : ch_Sol (ch_wor st sz pt ng) hd cn se (-1) v1 := hs1
  have hq1 : ∀ j, j < 16 → q1 j = v1 j := hq1
  have hP : va_P D classes (wM h0 ad ca se dp dn hd st sz pt ng v1 q1 ds cn) H := hP
  have hD : va_D A (wM h0 ad ca se dp dn hd st sz pt ng v1 q1 ds cn) := hD
  refine lv_iconst (v := nI 0) hx hb d_M_essential_4 (by decide) ?_
  refine lv_istore_n (lv' := [(1, .int (nI 0)), (0, .ref h0)]) hx hb d_M_essential_5 rfl hl (by decide) rfl (fun ls hl => ?_)
  refine lv_iconst (v := nI 0) hx hb d_M_essential_6 (by decide) ?_
  refine lv_istore_n (lv' := [(2, .int (nI 0)), (1, .int (nI 0)), (0, .ref h0)]) hx hb d_M_essential_7 rfl hl (by decide) rfl (fun ls hl => ?_)
  have lp8 : ∀ (n : Nat) (r : Nat) (q : Nat) (v2 : Nat → Nat) (H : Heap) (locs : List Loc) (ls : Array Slot), cn + 1 ≤ r + n → (r ≤ cn) → (q ≤ r) → (ch_bd 100 v2) → (∀ V, ch_Slv (ch_wor st sz pt ng) hd cn V → q = sp_ess V se r) → va_P D classes (wM h0 ad ca se dp dn hd st sz pt ng v2 q1 ds cn) H → va_D A (wM h0 ad ca se dp dn hd st sz pt ng v2 q1 ds cn) → va_S A s.heap H locs → lv_has ls 3 [(0, .ref h0), (1, .int (nI q)), (2, .int (nI r))] → W p l e rm_M_essential s m args below meth c H locs 0 0 Q (F0 m 8 ls []) := by
    intro n
    induction n with
    | zero =>
      intro r q v2 H locs ls hn8 hr2 hqr bv2 hq
      exact absurd hn8 (by omega)
    | succ n ih8 =>
      intro r q v2 H locs ls hn8 hr2 hqr bv2 hq hP hD hS hl
      refine lv_iload_n hx hb d_M_essential_8 rfl (lv_at hl 2 rfl) ?_
      refine lv_aload_n hx hb d_M_essential_9 rfl (lv_at hl 0 rfl) ?_
      refine gtM hx hb hts hown hK hP fl_M_41 rfl (k := 4) (by decide) ⟨rfl, rfl, rfl⟩ rfl d_M_essential_10 ?_
      refine nr_icmp_ge (tgt := 45) hx hb (nr_31 (B := 20) (Nat.le_trans hr2 b_cn) (by decide)) (nr_31 (B := 20) b_cn (by decide)) d_M_essential_13 (by decide) (fun c13 => ?_) (fun c13 => ?_)
      · refine lv_iload_n hx hb d_M_essential_45 rfl (lv_at hl 1 rfl) ?_
        exact ct_iret (v2, q1) hQ hx hb hr hlocks hAe hK hP hD hS ⟨fun V hV => by rw [hq V hV, show r = cn by omega], bv2, bq1⟩ d_M_essential_46
      · refine lv_iload_n hx hb d_M_essential_16 rfl (lv_at hl 2 rfl) ?_
        refine lv_bipush (v := nI 20) hx hb d_M_essential_17 (by decide) ?_
        refine nr_icmp_ge (tgt := 45) hx hb (nr_31 (B := 20) (Nat.le_trans hr2 b_cn) (by decide)) (by decide) d_M_essential_19 (by decide) (fun c19 => ?_) (fun c19 => ?_)
        · exact absurd c19 (by omega)
        · refine lv_aload_n hx hb d_M_essential_22 rfl (lv_at hl 0 rfl) ?_
          refine lv_iconst (v := (-1)) hx hb d_M_essential_23 (by decide) ?_
          refine lv_iconst (v := nI 0) hx hb d_M_essential_24 (by decide) ?_
          refine lv_iload_n hx hb d_M_essential_25 rfl (lv_at hl 2 rfl) ?_
          refine xc_vV (C := R_M) (rest := []) ⟨hx, hb, hml, hown, hts⟩ (c_M_workOut l D h0 ad ca se dp dn hd st sz pt ng v2 q1 ds cn H.size ⟨b_se, b_dp, b_dn, b_hd, b_st, b_sz, b_pt, b_ng, bv2, bq1, b_ds, b_cn⟩ (-1) 0 (nI r) se (by decide) hok (fun c9 hc9 => (if_neg (nr_nm1 (by omega))).symm)) (cwV 3 hts (gd_v ml_M_63 im_M_workOut se_M_workOut ini_M cd_M_workOut) rfl rfl rfl (by decide +kernel) ⟨Nat.le_of_ble_eq_true rfl, Nat.le_of_ble_eq_true rfl⟩) (va_recv hK hP (ci := 1) (q0 := 0) rfl rfl) hK hP hD hS hA rfl hl.1 rfl (Nat.le_of_ble_eq_true rfl) d_M_essential_26 ⟨Nat.le_of_ble_eq_true rfl, Nat.le_of_ble_eq_true rfl⟩ (fun u26 H locs hp26 hP hD hS => ?_)
          obtain ⟨hs26, bv26⟩ := hp26
          have hs26 : ch_Sol (ch_wor st sz pt ng) hd cn se (nI r) u26 := hs26
          have hP : va_P D classes (wM h0 ad ca se dp dn hd st sz pt ng u26 q1 ds cn) H := hP
          have hD : va_D A (wM h0 ad ca se dp dn hd st sz pt ng u26 q1 ds cn) := hD
          refine lv_aload_n hx hb d_M_essential_29 rfl (lv_at hl 0 rfl) ?_
          refine xc_iV (C := R_M) (rest := []) ⟨hx, hb, hml, hown, hts⟩ (c_M_others l D h0 ad ca se dp dn hd st sz pt ng u26 q1 ds cn H.size ⟨b_se, b_dp, b_dn, b_hd, b_st, b_sz, b_pt, b_ng, bv26, bq1, b_ds, b_cn⟩ ) (cwV 0 hts (gd_v ml_M_70 im_M_others se_M_others ini_M cd_M_others) rfl rfl rfl (by decide +kernel) ⟨Nat.le_of_ble_eq_true rfl, Nat.le_of_ble_eq_true rfl⟩) (va_recv hK hP (ci := 1) (q0 := 0) rfl rfl) hK hP hD hS hA rfl hl.1 rfl (Nat.le_of_ble_eq_true rfl) d_M_essential_30 ⟨Nat.le_of_ble_eq_true rfl, Nat.le_of_ble_eq_true rfl⟩ (fun r30 u30 H locs hp30 hP hD hS => ?_)
          have hP : va_P D classes (wM h0 ad ca se dp dn hd st sz pt ng u26 q1 ds cn) H := hP
          have hD : va_D A (wM h0 ad ca se dp dn hd st sz pt ng u26 q1 ds cn) := hD
          obtain rfl := hp30
          refine nr_if_le (tgt := 39) hx hb (nr_31 (B := 16) (ch_df_le _ _ _) (by decide)) d_M_essential_33 (by decide) (fun c33 => ?_) (fun c33 => ?_)
          · refine lv_iinc (v := nI (r + 1)) (lv' := [(2, .int (nI (r + 1))), (0, .ref h0), (1, .int (nI q))]) hx hb d_M_essential_39 hl (k := 2) rfl (nI_1 _) (by decide) rfl (fun ls hl => ?_)
            refine lv_goto (tgt := 8) hx hb d_M_essential_42 (by decide) ?_
            exact ih8 (r + 1) q u26 _ _ _ (by omega) (by omega) (by omega) bv26 (fun V hV => by rw [sp_ess, ← hq V hV, ← ch_df_cg 16 (fun j hj => (hq1 j hj).trans (ch_Slv_at hV b_se hs1 j hj)) (ch_Slv_at hV b_se hs26), if_pos c33, Nat.add_zero]) hP hD hS (lv_sub hl [1, 2, 0] rfl)
          · refine lv_iinc (v := nI (q + 1)) (lv' := [(1, .int (nI (q + 1))), (0, .ref h0), (2, .int (nI r))]) hx hb d_M_essential_36 hl (k := 1) rfl (nI_1 _) (by decide) rfl (fun ls hl => ?_)
            refine lv_iinc (v := nI (r + 1)) (lv' := [(2, .int (nI (r + 1))), (1, .int (nI (q + 1))), (0, .ref h0)]) hx hb d_M_essential_39 hl (k := 2) rfl (nI_1 _) (by decide) rfl (fun ls hl => ?_)
            refine lv_goto (tgt := 8) hx hb d_M_essential_42 (by decide) ?_
            exact ih8 (r + 1) (q + 1) u26 _ _ _ (by omega) (by omega) (by omega) bv26 (fun V hV => by rw [sp_ess, ← hq V hV, ← ch_df_cg 16 (fun j hj => (hq1 j hj).trans (ch_Slv_at hV b_se hs1 j hj)) (ch_Slv_at hV b_se hs26), if_neg c33]) hP hD hS (lv_sub hl [2, 1, 0] rfl)
  exact lp8 (cn + 1) 0 0 v1 _ _ _ (by omega) (Nat.zero_le _) (Nat.le_refl _) bv1 (fun _ _ => rfl) hP hD hS (lv_sub hl [2, 1, 0] rfl)

abbrev rm_M_influence : Room := { frames := 4, cells := 0, slots := 0, locals := 97 }
set_option maxHeartbeats 4000000 in
set_option maxRecDepth 100000 in
/-- influence(x) -/
theorem c_M_influence (l : Launch) (D : va_G) (h0 : Nat) (ad : Nat → Nat) (ca : Nat → ClassId) (se : Nat → Nat) (dp : Nat → Nat) (dn : Nat → Nat) (hd : Nat → Nat) (st : Nat → Nat) (sz : Nat → Nat) (pt : Nat → Nat) (ng : Nat → Nat) (va : Nat → Nat) (kp : Nat → Nat) (ds : Nat) (cn : Nat) (hz : Nat) (B : bM se dp dn hd st sz pt ng va kp ds cn) (x : Int32) (hok : ch_ok hd sz pt ng cn) : Met l y_M_influence w_M_influence rm_M_influence (va_Pc [.ref h0, .int x] (Pw D (wM h0 ad ca se dp dn hd st sz pt ng va kp ds cn) (yM ca) hz)) (va_Qi (fun (v : Int32) (u : (Nat → Nat) × (Nat → Nat)) => (∀ V, ch_Slv (ch_wor st sz pt ng) hd cn V → v = sp_inf x se V) ∧ ch_bd 100 u.1 ∧ ch_bd 100 u.2) (fun (u : (Nat → Nat) × (Nat → Nat)) => Bw D (wM h0 ad ca se dp dn hd st sz pt ng va kp ds cn) (wM h0 ad ca se dp dn hd st sz pt ng u.1 u.2 ds cn) (yM ca) hz) (va_A (wM h0 ad ca se dp dn hd st sz pt ng va kp ds cn) hz)) 0 0 (va_A (wM h0 ad ca se dp dn hd st sz pt ng va kp ds cn) hz) := by
  obtain ⟨b_se, b_dp, b_dn, b_hd, b_st, b_sz, b_pt, b_ng, b_va, b_kp, b_ds, b_cn⟩ := B
  refine ct_start (by decide) (Nat.le_of_ble_eq_true rfl) ?_
  intro p e s m args below meth c A Q ls hx hb hr hlocks hml hts hown hnm hA hAe hsz hS hP hD hK hl hQ
  have hown : s.vm.findClass R_M = some m.cls := hown
  have hl : lv_has ls 2 [(0, .ref h0), (1, .int x)] := hl
  have hP : va_P D classes (wM h0 ad ca se dp dn hd st sz pt ng va kp ds cn) s.heap := hP
  obtain ⟨H, hH⟩ : ∃ H, H = s.heap := ⟨_, rfl⟩
  obtain ⟨locs, hlc⟩ : ∃ locs : List Loc, locs = [] := ⟨_, rfl⟩
  have hS : va_S A s.heap H locs := by rw [hH, hlc]; exact hS
  have hP : va_P D classes (wM h0 ad ca se dp dn hd st sz pt ng va kp ds cn) H := by rw [hH]; exact hP
  have hgo : W p l e rm_M_influence s m args below meth c H locs 0 0 Q (F0 m 0 ls []) := ?_
  · rw [hH, hlc] at hgo; exact hgo
  clear hH hlc
  refine lv_aload_n hx hb d_M_influence_0 rfl (lv_at hl 0 rfl) ?_
  refine lv_iload_n hx hb d_M_influence_1 rfl (lv_at hl 1 rfl) ?_
  refine xc_iV (C := R_M) (rest := []) ⟨hx, hb, hml, hown, hts⟩ (c_M_bad l D h0 ad ca se dp dn hd st sz pt ng va kp ds cn H.size ⟨b_se, b_dp, b_dn, b_hd, b_st, b_sz, b_pt, b_ng, b_va, b_kp, b_ds, b_cn⟩ x) (cwV 1 hts (gd_v ml_M_45 im_M_bad se_M_bad ini_M cd_M_bad) rfl rfl rfl (by decide +kernel) ⟨Nat.le_of_ble_eq_true rfl, Nat.le_of_ble_eq_true rfl⟩) (va_recv hK hP (ci := 1) (q0 := 0) rfl rfl) hK hP hD hS hA rfl hl.1 rfl (Nat.le_of_ble_eq_true rfl) d_M_influence_2 ⟨Nat.le_of_ble_eq_true rfl, Nat.le_of_ble_eq_true rfl⟩ (fun r2 u2 H locs hp2 hP hD hS => ?_)
  have hP : va_P D classes (wM h0 ad ca se dp dn hd st sz pt ng va kp ds cn) H := hP
  have hD : va_D A (wM h0 ad ca se dp dn hd st sz pt ng va kp ds cn) := hD
  rcases hp2 with ⟨hc2, rfl⟩ | ⟨hc2, rfl⟩
  · obtain ⟨jx, hjx, rfl⟩ := ch_ic_get hc2 (by decide)
    refine nr_if_eq (tgt := 10) hx hb (by decide) d_M_influence_5 (by decide) (fun c5 => ?_) (fun c5 => ?_)
    · refine lv_aload_n hx hb d_M_influence_10 rfl (lv_at hl 0 rfl) ?_
      refine xc_vV (C := R_M) (rest := []) ⟨hx, hb, hml, hown, hts⟩ (c_M_keep l D h0 ad ca se dp dn hd st sz pt ng va kp ds cn H.size ⟨b_se, b_dp, b_dn, b_hd, b_st, b_sz, b_pt, b_ng, b_va, b_kp, b_ds, b_cn⟩ hok) (cwV 0 hts (gd_v ml_M_67 im_M_keep se_M_keep ini_M cd_M_keep) rfl rfl rfl (by decide +kernel) ⟨Nat.le_of_ble_eq_true rfl, Nat.le_of_ble_eq_true rfl⟩) (va_recv hK hP (ci := 1) (q0 := 0) rfl rfl) hK hP hD hS hA rfl hl.1 rfl (Nat.le_of_ble_eq_true rfl) d_M_influence_11 ⟨Nat.le_of_ble_eq_true rfl, Nat.le_of_ble_eq_true rfl⟩ (fun u11 H locs hp11 hP hD hS => ?_)
      obtain ⟨v11, q11⟩ := u11
      obtain ⟨hs11, bv11, bq11, hq11⟩ := hp11
      have hs11 : ch_Sol (ch_wor st sz pt ng) hd cn se (-1) v11 := hs11
      have hq11 : ∀ j, j < 16 → q11 j = v11 j := hq11
      have hP : va_P D classes (wM h0 ad ca se dp dn hd st sz pt ng v11 q11 ds cn) H := hP
      have hD : va_D A (wM h0 ad ca se dp dn hd st sz pt ng v11 q11 ds cn) := hD
      refine lv_aload_n hx hb d_M_influence_14 rfl (lv_at hl 0 rfl) ?_
      refine lv_iload_n hx hb d_M_influence_15 rfl (lv_at hl 1 rfl) ?_
      refine lv_iconst (v := nI 0) hx hb d_M_influence_16 (by decide) ?_
      refine lv_iconst (v := (-1)) hx hb d_M_influence_17 (by decide) ?_
      refine xc_vV (C := R_M) (rest := []) ⟨hx, hb, hml, hown, hts⟩ (c_M_workOut l D h0 ad ca se dp dn hd st sz pt ng v11 q11 ds cn H.size ⟨b_se, b_dp, b_dn, b_hd, b_st, b_sz, b_pt, b_ng, bv11, bq11, b_ds, b_cn⟩ (nI jx) 0 (-1) (ch_up se jx 0) (by decide) hok (wo_sv hjx)) (cwV 3 hts (gd_v ml_M_63 im_M_workOut se_M_workOut ini_M cd_M_workOut) rfl rfl rfl (by decide +kernel) ⟨Nat.le_of_ble_eq_true rfl, Nat.le_of_ble_eq_true rfl⟩) (va_recv hK hP (ci := 1) (q0 := 0) rfl rfl) hK hP hD hS hA rfl hl.1 rfl (Nat.le_of_ble_eq_true rfl) d_M_influence_18 ⟨Nat.le_of_ble_eq_true rfl, Nat.le_of_ble_eq_true rfl⟩ (fun u18 H locs hp18 hP hD hS => ?_)
      obtain ⟨hs18, bv18⟩ := hp18
      have hs18 : ch_Sol (ch_wor st sz pt ng) hd cn (ch_up se jx 0) (-1) u18 := hs18
      have hP : va_P D classes (wM h0 ad ca se dp dn hd st sz pt ng u18 q11 ds cn) H := hP
      have hD : va_D A (wM h0 ad ca se dp dn hd st sz pt ng u18 q11 ds cn) := hD
      refine lv_aload_n hx hb d_M_influence_21 rfl (lv_at hl 0 rfl) ?_
      refine xc_iV (C := R_M) (rest := []) ⟨hx, hb, hml, hown, hts⟩ (c_M_others l D h0 ad ca se dp dn hd st sz pt ng u18 q11 ds cn H.size ⟨b_se, b_dp, b_dn, b_hd, b_st, b_sz, b_pt, b_ng, bv18, bq11, b_ds, b_cn⟩ ) (cwV 0 hts (gd_v ml_M_70 im_M_others se_M_others ini_M cd_M_others) rfl rfl rfl (by decide +kernel) ⟨Nat.le_of_ble_eq_true rfl, Nat.le_of_ble_eq_true rfl⟩) (va_recv hK hP (ci := 1) (q0 := 0) rfl rfl) hK hP hD hS hA rfl hl.1 rfl (Nat.le_of_ble_eq_true rfl) d_M_influence_22 ⟨Nat.le_of_ble_eq_true rfl, Nat.le_of_ble_eq_true rfl⟩ (fun r22 u22 H locs hp22 hP hD hS => ?_)
      have hP : va_P D classes (wM h0 ad ca se dp dn hd st sz pt ng u18 q11 ds cn) H := hP
      have hD : va_D A (wM h0 ad ca se dp dn hd st sz pt ng u18 q11 ds cn) := hD
      obtain rfl := hp22
      exact ct_iret (u18, q11) hQ hx hb hr hlocks hAe hK hP hD hS ⟨fun V hV => by rw [sp_inf, if_pos hc2, ch_tn_nI (nr_31 (Nat.le_of_lt hjx) (by decide)), ch_df_cg 16 (fun j hj => (hq11 j hj).trans (ch_Slv_at hV b_se hs11 j hj)) (ch_Slv_at hV (ch_bd_up b_se (Nat.zero_le _)) hs18)], bv18, bq11⟩ d_M_influence_25
    · exact absurd c5 (by decide)
  · refine nr_if_eq (tgt := 10) hx hb (by decide) d_M_influence_5 (by decide) (fun c5 => ?_) (fun c5 => ?_)
    · exact absurd c5 (by decide)
    · refine lv_iconst (v := (-1)) hx hb d_M_influence_8 (by decide) ?_
      exact ct_iret (va, kp) hQ hx hb hr hlocks hAe hK hP hD hS ⟨fun V hV => by rw [sp_inf, if_neg (by rw [hc2]; decide)], b_va, b_kp⟩ d_M_influence_9
end
section
/-! ===== the constructors ===== -/
def l13 {α : Type} (x0 x1 x2 x3 x4 x5 x6 x7 x8 x9 x10 x11 x12 : α) : Nat → α := fun k => match k with
  | 0 => x0
  | 1 => x1
  | 2 => x2
  | 3 => x3
  | 4 => x4
  | 5 => x5
  | 6 => x6
  | 7 => x7
  | 8 => x8
  | 9 => x9
  | 10 => x10
  | 11 => x11
  | _ => x12
abbrev rm_X_init : Room := { frames := 1, cells := 13, slots := 286, locals := 12 }
set_option maxHeartbeats 4000000 in
set_option maxRecDepth 100000 in
theorem c_X_init (l : Launch) (D : va_G) (h0 hz : Nat) : Met l y_X_init w_X_init rm_X_init (va_Pc [.ref h0] (Pw D [(h0, .inr (0, [.null, .null, .null, .null, .null, .null, .null, .null, .null, .null, .null, .null, .null, .int (nI 0), .int (nI 0), .int (nI 0), .int (nI 0)]))] [] hz)) (va_Qv (fun (_ : (Nat → Nat) × (Nat → ClassId)) => True) (fun (u : (Nat → Nat) × (Nat → ClassId)) => Bw D [(h0, .inr (0, [.null, .null, .null, .null, .null, .null, .null, .null, .null, .null, .null, .null, .null, .int (nI 0), .int (nI 0), .int (nI 0), .int (nI 0)]))] (wX h0 u.1 u.2 (fun _ => 0) (fun _ => 0) (fun _ => 0) (fun _ => 0) (fun _ => 0) (fun _ => 0) (fun _ => 0) (fun _ => 0) (fun _ => 0) (fun _ => 0) (fun _ => 0) (nF (fun _ => 0)) (fun _ => 0) 0 0 (-1) 0) (yX u.2) hz) (va_A [(h0, .inr (0, [.null, .null, .null, .null, .null, .null, .null, .null, .null, .null, .null, .null, .null, .int (nI 0), .int (nI 0), .int (nI 0), .int (nI 0)]))] hz)) 13 286 (va_A [(h0, .inr (0, [.null, .null, .null, .null, .null, .null, .null, .null, .null, .null, .null, .null, .null, .int (nI 0), .int (nI 0), .int (nI 0), .int (nI 0)]))] hz) := by
  refine ct_start (by decide) (Nat.le_of_ble_eq_true rfl) ?_
  intro p e s m args below meth c A Q ls hx hb hr hlocks hml hts hown hnm hA hAe hsz hS hP hD hK hl hQ
  have hown : s.vm.findClass R_X = some m.cls := hown
  have hl : lv_has ls 1 [(0, .ref h0)] := hl
  refine lv_aload_n hx hb d_X_init_0 rfl (lv_at hl 0 rfl) ?_
  refine W.objInit hx hb hown (hts _ oi_X) (hts _ oi_i) (hts _ oi_c) rfl (by rw [hml]; exact hl.1) rfl d_X_init_1 (Nat.le_of_ble_eq_true rfl) (Nat.le_of_ble_eq_true rfl) ?_
  refine W.eq (g2 := F0 m 4 ls []) rfl ?_
  refine lv_aload_n hx hb d_X_init_4 rfl (lv_at hl 0 rfl) ?_
  refine lv_bipush (v := nI 20) hx hb d_X_init_5 (by decide) ?_
  refine va_newa (atype := .int) hx hb (hts _ arr_I) (ty := .int) rfl hK hP hD hS hA (n := nI 20) (N' := 20) (a0 := (20, .inl (nF (fun _ => 0)))) (fun _ => rfl) (by decide) (by decide) (by decide) (Nat.le_of_ble_eq_true rfl) (Nat.le_of_ble_eq_true rfl) d_X_init_7 (fun q0 c0 H hK hP hD hS => ?_)
  have hK : va_K D classes [(c0, .int)] s := hK
  have hP : va_P D classes [(h0, .inr (0, [.null, .null, .null, .null, .null, .null, .null, .null, .null, .null, .null, .null, .null, .int (nI 0), .int (nI 0), .int (nI 0), .int (nI 0)])), (q0, .inl (c0, 20, .inl (nF (fun _ => 0))))] H := hP
  have hD : va_D A [(h0, .inr (0, [.null, .null, .null, .null, .null, .null, .null, .null, .null, .null, .null, .null, .null, .int (nI 0), .int (nI 0), .int (nI 0), .int (nI 0)])), (q0, .inl (c0, 20, .inl (nF (fun _ => 0))))] := hD
  refine W.widen (k := 1) (n := 20) (Nat.le_of_ble_eq_true rfl) (Nat.le_of_ble_eq_true rfl) ?_
  refine va_putF (D := D) (ci := 0) (v := .ref q0) (ty := .array .int) (C := R_X) (T := F_X) (N := 17) hx hb hts i_X t_X t_X_ok n_X hown hK hP hD hS 0 rfl rfl 0 (by decide) (hts _ fl_X_7) (fun _ h9 => h9) rfl hnm rfl (by decide +kernel) rfl rfl (Nat.le_of_ble_eq_true rfl) d_X_init_9 (fun H locs hP hD hS => ?_)
  have hP : va_P D classes [(h0, .inr (0, [.ref q0, .null, .null, .null, .null, .null, .null, .null, .null, .null, .null, .null, .null, .int (nI 0), .int (nI 0), .int (nI 0), .int (nI 0)])), (q0, .inl (c0, 20, .inl (nF (fun _ => 0))))] H := hP
  have hD : va_D A [(h0, .inr (0, [.ref q0, .null, .null, .null, .null, .null, .null, .null, .null, .null, .null, .null, .null, .int (nI 0), .int (nI 0), .int (nI 0), .int (nI 0)])), (q0, .inl (c0, 20, .inl (nF (fun _ => 0))))] := hD
  refine lv_aload_n hx hb d_X_init_12 rfl (lv_at hl 0 rfl) ?_
  refine lv_bipush (v := nI 20) hx hb d_X_init_13 (by decide) ?_
  refine va_newa (atype := .int) hx hb (hts _ arr_I) (ty := .int) rfl hK hP hD hS hA (n := nI 20) (N' := 20) (a0 := (20, .inl (nF (fun _ => 0)))) (fun _ => rfl) (by decide) (by decide) (by decide) (Nat.le_of_ble_eq_true rfl) (Nat.le_of_ble_eq_true rfl) d_X_init_15 (fun q1 c1 H hK hP hD hS => ?_)
  have hK : va_K D classes [(c0, .int), (c1, .int)] s := hK
  have hP : va_P D classes [(h0, .inr (0, [.ref q0, .null, .null, .null, .null, .null, .null, .null, .null, .null, .null, .null, .null, .int (nI 0), .int (nI 0), .int (nI 0), .int (nI 0)])), (q0, .inl (c0, 20, .inl (nF (fun _ => 0)))), (q1, .inl (c1, 20, .inl (nF (fun _ => 0))))] H := hP
  have hD : va_D A [(h0, .inr (0, [.ref q0, .null, .null, .null, .null, .null, .null, .null, .null, .null, .null, .null, .null, .int (nI 0), .int (nI 0), .int (nI 0), .int (nI 0)])), (q0, .inl (c0, 20, .inl (nF (fun _ => 0)))), (q1, .inl (c1, 20, .inl (nF (fun _ => 0))))] := hD
  refine W.widen (k := 2) (n := 40) (Nat.le_of_ble_eq_true rfl) (Nat.le_of_ble_eq_true rfl) ?_
  refine va_putF (D := D) (ci := 0) (v := .ref q1) (ty := .array .int) (C := R_X) (T := F_X) (N := 17) hx hb hts i_X t_X t_X_ok n_X hown hK hP hD hS 0 rfl rfl 1 (by decide) (hts _ fl_X_13) (fun _ h9 => h9) rfl hnm rfl (by decide +kernel) rfl rfl (Nat.le_of_ble_eq_true rfl) d_X_init_17 (fun H locs hP hD hS => ?_)
  have hP : va_P D classes [(h0, .inr (0, [.ref q0, .ref q1, .null, .null, .null, .null, .null, .null, .null, .null, .null, .null, .null, .int (nI 0), .int (nI 0), .int (nI 0), .int (nI 0)])), (q0, .inl (c0, 20, .inl (nF (fun _ => 0)))), (q1, .inl (c1, 20, .inl (nF (fun _ => 0))))] H := hP
  have hD : va_D A [(h0, .inr (0, [.ref q0, .ref q1, .null, .null, .null, .null, .null, .null, .null, .null, .null, .null, .null, .int (nI 0), .int (nI 0), .int (nI 0), .int (nI 0)])), (q0, .inl (c0, 20, .inl (nF (fun _ => 0)))), (q1, .inl (c1, 20, .inl (nF (fun _ => 0))))] := hD
  refine lv_aload_n hx hb d_X_init_20 rfl (lv_at hl 0 rfl) ?_
  refine lv_bipush (v := nI 20) hx hb d_X_init_21 (by decide) ?_
  refine va_newa (atype := .int) hx hb (hts _ arr_I) (ty := .int) rfl hK hP hD hS hA (n := nI 20) (N' := 20) (a0 := (20, .inl (nF (fun _ => 0)))) (fun _ => rfl) (by decide) (by decide) (by decide) (Nat.le_of_ble_eq_true rfl) (Nat.le_of_ble_eq_true rfl) d_X_init_23 (fun q2 c2 H hK hP hD hS => ?_)
  have hK : va_K D classes [(c0, .int), (c1, .int), (c2, .int)] s := hK
  have hP : va_P D classes [(h0, .inr (0, [.ref q0, .ref q1, .null, .null, .null, .null, .null, .null, .null, .null, .null, .null, .null, .int (nI 0), .int (nI 0), .int (nI 0), .int (nI 0)])), (q0, .inl (c0, 20, .inl (nF (fun _ => 0)))), (q1, .inl (c1, 20, .inl (nF (fun _ => 0)))), (q2, .inl (c2, 20, .inl (nF (fun _ => 0))))] H := hP
  have hD : va_D A [(h0, .inr (0, [.ref q0, .ref q1, .null, .null, .null, .null, .null, .null, .null, .null, .null, .null, .null, .int (nI 0), .int (nI 0), .int (nI 0), .int (nI 0)])), (q0, .inl (c0, 20, .inl (nF (fun _ => 0)))), (q1, .inl (c1, 20, .inl (nF (fun _ => 0)))), (q2, .inl (c2, 20, .inl (nF (fun _ => 0))))] := hD
  refine W.widen (k := 3) (n := 60) (Nat.le_of_ble_eq_true rfl) (Nat.le_of_ble_eq_true rfl) ?_
  refine va_putF (D := D) (ci := 0) (v := .ref q2) (ty := .array .int) (C := R_X) (T := F_X) (N := 17) hx hb hts i_X t_X t_X_ok n_X hown hK hP hD hS 0 rfl rfl 2 (by decide) (hts _ fl_X_16) (fun _ h9 => h9) rfl hnm rfl (by decide +kernel) rfl rfl (Nat.le_of_ble_eq_true rfl) d_X_init_25 (fun H locs hP hD hS => ?_)
  have hP : va_P D classes [(h0, .inr (0, [.ref q0, .ref q1, .ref q2, .null, .null, .null, .null, .null, .null, .null, .null, .null, .null, .int (nI 0), .int (nI 0), .int (nI 0), .int (nI 0)])), (q0, .inl (c0, 20, .inl (nF (fun _ => 0)))), (q1, .inl (c1, 20, .inl (nF (fun _ => 0)))), (q2, .inl (c2, 20, .inl (nF (fun _ => 0))))] H := hP
  have hD : va_D A [(h0, .inr (0, [.ref q0, .ref q1, .ref q2, .null, .null, .null, .null, .null, .null, .null, .null, .null, .null, .int (nI 0), .int (nI 0), .int (nI 0), .int (nI 0)])), (q0, .inl (c0, 20, .inl (nF (fun _ => 0)))), (q1, .inl (c1, 20, .inl (nF (fun _ => 0)))), (q2, .inl (c2, 20, .inl (nF (fun _ => 0))))] := hD
  refine lv_aload_n hx hb d_X_init_28 rfl (lv_at hl 0 rfl) ?_
  refine lv_bipush (v := nI 60) hx hb d_X_init_29 (by decide) ?_
  refine va_newa (atype := .int) hx hb (hts _ arr_I) (ty := .int) rfl hK hP hD hS hA (n := nI 60) (N' := 60) (a0 := (60, .inl (nF (fun _ => 0)))) (fun _ => rfl) (by decide) (by decide) (by decide) (Nat.le_of_ble_eq_true rfl) (Nat.le_of_ble_eq_true rfl) d_X_init_31 (fun q3 c3 H hK hP hD hS => ?_)
  have hK : va_K D classes [(c0, .int), (c1, .int), (c2, .int), (c3, .int)] s := hK
  have hP : va_P D classes [(h0, .inr (0, [.ref q0, .ref q1, .ref q2, .null, .null, .null, .null, .null, .null, .null, .null, .null, .null, .int (nI 0), .int (nI 0), .int (nI 0), .int (nI 0)])), (q0, .inl (c0, 20, .inl (nF (fun _ => 0)))), (q1, .inl (c1, 20, .inl (nF (fun _ => 0)))), (q2, .inl (c2, 20, .inl (nF (fun _ => 0)))), (q3, .inl (c3, 60, .inl (nF (fun _ => 0))))] H := hP
  have hD : va_D A [(h0, .inr (0, [.ref q0, .ref q1, .ref q2, .null, .null, .null, .null, .null, .null, .null, .null, .null, .null, .int (nI 0), .int (nI 0), .int (nI 0), .int (nI 0)])), (q0, .inl (c0, 20, .inl (nF (fun _ => 0)))), (q1, .inl (c1, 20, .inl (nF (fun _ => 0)))), (q2, .inl (c2, 20, .inl (nF (fun _ => 0)))), (q3, .inl (c3, 60, .inl (nF (fun _ => 0))))] := hD
  refine W.widen (k := 4) (n := 120) (Nat.le_of_ble_eq_true rfl) (Nat.le_of_ble_eq_true rfl) ?_
  refine va_putF (D := D) (ci := 0) (v := .ref q3) (ty := .array .int) (C := R_X) (T := F_X) (N := 17) hx hb hts i_X t_X t_X_ok n_X hown hK hP hD hS 0 rfl rfl 3 (by decide) (hts _ fl_X_19) (fun _ h9 => h9) rfl hnm rfl (by decide +kernel) rfl rfl (Nat.le_of_ble_eq_true rfl) d_X_init_33 (fun H locs hP hD hS => ?_)
  have hP : va_P D classes [(h0, .inr (0, [.ref q0, .ref q1, .ref q2, .ref q3, .null, .null, .null, .null, .null, .null, .null, .null, .null, .int (nI 0), .int (nI 0), .int (nI 0), .int (nI 0)])), (q0, .inl (c0, 20, .inl (nF (fun _ => 0)))), (q1, .inl (c1, 20, .inl (nF (fun _ => 0)))), (q2, .inl (c2, 20, .inl (nF (fun _ => 0)))), (q3, .inl (c3, 60, .inl (nF (fun _ => 0))))] H := hP
  have hD : va_D A [(h0, .inr (0, [.ref q0, .ref q1, .ref q2, .ref q3, .null, .null, .null, .null, .null, .null, .null, .null, .null, .int (nI 0), .int (nI 0), .int (nI 0), .int (nI 0)])), (q0, .inl (c0, 20, .inl (nF (fun _ => 0)))), (q1, .inl (c1, 20, .inl (nF (fun _ => 0)))), (q2, .inl (c2, 20, .inl (nF (fun _ => 0)))), (q3, .inl (c3, 60, .inl (nF (fun _ => 0))))] := hD
  refine lv_aload_n hx hb d_X_init_36 rfl (lv_at hl 0 rfl) ?_
  refine lv_bipush (v := nI 60) hx hb d_X_init_37 (by decide) ?_
  refine va_newa (atype := .boolean) hx hb (hts _ arr_Z) (ty := .boolean) rfl hK hP hD hS hA (n := nI 60) (N' := 60) (a0 := (60, .inl (nF (fun _ => 0)))) (fun _ => rfl) (by decide) (by decide) (by decide) (Nat.le_of_ble_eq_true rfl) (Nat.le_of_ble_eq_true rfl) d_X_init_39 (fun q4 c4 H hK hP hD hS => ?_)
  have hK : va_K D classes [(c0, .int), (c1, .int), (c2, .int), (c3, .int), (c4, .boolean)] s := hK
  have hP : va_P D classes [(h0, .inr (0, [.ref q0, .ref q1, .ref q2, .ref q3, .null, .null, .null, .null, .null, .null, .null, .null, .null, .int (nI 0), .int (nI 0), .int (nI 0), .int (nI 0)])), (q0, .inl (c0, 20, .inl (nF (fun _ => 0)))), (q1, .inl (c1, 20, .inl (nF (fun _ => 0)))), (q2, .inl (c2, 20, .inl (nF (fun _ => 0)))), (q3, .inl (c3, 60, .inl (nF (fun _ => 0)))), (q4, .inl (c4, 60, .inl (nF (fun _ => 0))))] H := hP
  have hD : va_D A [(h0, .inr (0, [.ref q0, .ref q1, .ref q2, .ref q3, .null, .null, .null, .null, .null, .null, .null, .null, .null, .int (nI 0), .int (nI 0), .int (nI 0), .int (nI 0)])), (q0, .inl (c0, 20, .inl (nF (fun _ => 0)))), (q1, .inl (c1, 20, .inl (nF (fun _ => 0)))), (q2, .inl (c2, 20, .inl (nF (fun _ => 0)))), (q3, .inl (c3, 60, .inl (nF (fun _ => 0)))), (q4, .inl (c4, 60, .inl (nF (fun _ => 0))))] := hD
  refine W.widen (k := 5) (n := 180) (Nat.le_of_ble_eq_true rfl) (Nat.le_of_ble_eq_true rfl) ?_
  refine va_putF (D := D) (ci := 0) (v := .ref q4) (ty := .array .boolean) (C := R_X) (T := F_X) (N := 17) hx hb hts i_X t_X t_X_ok n_X hown hK hP hD hS 0 rfl rfl 4 (by decide) (hts _ fl_X_22) (fun _ h9 => h9) rfl hnm rfl (by decide +kernel) rfl rfl (Nat.le_of_ble_eq_true rfl) d_X_init_41 (fun H locs hP hD hS => ?_)
  have hP : va_P D classes [(h0, .inr (0, [.ref q0, .ref q1, .ref q2, .ref q3, .ref q4, .null, .null, .null, .null, .null, .null, .null, .null, .int (nI 0), .int (nI 0), .int (nI 0), .int (nI 0)])), (q0, .inl (c0, 20, .inl (nF (fun _ => 0)))), (q1, .inl (c1, 20, .inl (nF (fun _ => 0)))), (q2, .inl (c2, 20, .inl (nF (fun _ => 0)))), (q3, .inl (c3, 60, .inl (nF (fun _ => 0)))), (q4, .inl (c4, 60, .inl (nF (fun _ => 0))))] H := hP
  have hD : va_D A [(h0, .inr (0, [.ref q0, .ref q1, .ref q2, .ref q3, .ref q4, .null, .null, .null, .null, .null, .null, .null, .null, .int (nI 0), .int (nI 0), .int (nI 0), .int (nI 0)])), (q0, .inl (c0, 20, .inl (nF (fun _ => 0)))), (q1, .inl (c1, 20, .inl (nF (fun _ => 0)))), (q2, .inl (c2, 20, .inl (nF (fun _ => 0)))), (q3, .inl (c3, 60, .inl (nF (fun _ => 0)))), (q4, .inl (c4, 60, .inl (nF (fun _ => 0))))] := hD
  refine lv_aload_n hx hb d_X_init_44 rfl (lv_at hl 0 rfl) ?_
  refine lv_iconst (v := nI 3) hx hb d_X_init_45 (by decide) ?_
  refine va_newa (atype := .int) hx hb (hts _ arr_I) (ty := .int) rfl hK hP hD hS hA (n := nI 3) (N' := 3) (a0 := (3, .inl (nF (fun _ => 0)))) (fun _ => rfl) (by decide) (by decide) (by decide) (Nat.le_of_ble_eq_true rfl) (Nat.le_of_ble_eq_true rfl) d_X_init_46 (fun q5 c5 H hK hP hD hS => ?_)
  have hK : va_K D classes [(c0, .int), (c1, .int), (c2, .int), (c3, .int), (c4, .boolean), (c5, .int)] s := hK
  have hP : va_P D classes [(h0, .inr (0, [.ref q0, .ref q1, .ref q2, .ref q3, .ref q4, .null, .null, .null, .null, .null, .null, .null, .null, .int (nI 0), .int (nI 0), .int (nI 0), .int (nI 0)])), (q0, .inl (c0, 20, .inl (nF (fun _ => 0)))), (q1, .inl (c1, 20, .inl (nF (fun _ => 0)))), (q2, .inl (c2, 20, .inl (nF (fun _ => 0)))), (q3, .inl (c3, 60, .inl (nF (fun _ => 0)))), (q4, .inl (c4, 60, .inl (nF (fun _ => 0)))), (q5, .inl (c5, 3, .inl (nF (fun _ => 0))))] H := hP
  have hD : va_D A [(h0, .inr (0, [.ref q0, .ref q1, .ref q2, .ref q3, .ref q4, .null, .null, .null, .null, .null, .null, .null, .null, .int (nI 0), .int (nI 0), .int (nI 0), .int (nI 0)])), (q0, .inl (c0, 20, .inl (nF (fun _ => 0)))), (q1, .inl (c1, 20, .inl (nF (fun _ => 0)))), (q2, .inl (c2, 20, .inl (nF (fun _ => 0)))), (q3, .inl (c3, 60, .inl (nF (fun _ => 0)))), (q4, .inl (c4, 60, .inl (nF (fun _ => 0)))), (q5, .inl (c5, 3, .inl (nF (fun _ => 0))))] := hD
  refine W.widen (k := 6) (n := 183) (Nat.le_of_ble_eq_true rfl) (Nat.le_of_ble_eq_true rfl) ?_
  refine va_putF (D := D) (ci := 0) (v := .ref q5) (ty := .array .int) (C := R_X) (T := F_X) (N := 17) hx hb hts i_X t_X t_X_ok n_X hown hK hP hD hS 0 rfl rfl 5 (by decide) (hts _ fl_X_26) (fun _ h9 => h9) rfl hnm rfl (by decide +kernel) rfl rfl (Nat.le_of_ble_eq_true rfl) d_X_init_48 (fun H locs hP hD hS => ?_)
  have hP : va_P D classes [(h0, .inr (0, [.ref q0, .ref q1, .ref q2, .ref q3, .ref q4, .ref q5, .null, .null, .null, .null, .null, .null, .null, .int (nI 0), .int (nI 0), .int (nI 0), .int (nI 0)])), (q0, .inl (c0, 20, .inl (nF (fun _ => 0)))), (q1, .inl (c1, 20, .inl (nF (fun _ => 0)))), (q2, .inl (c2, 20, .inl (nF (fun _ => 0)))), (q3, .inl (c3, 60, .inl (nF (fun _ => 0)))), (q4, .inl (c4, 60, .inl (nF (fun _ => 0)))), (q5, .inl (c5, 3, .inl (nF (fun _ => 0))))] H := hP
  have hD : va_D A [(h0, .inr (0, [.ref q0, .ref q1, .ref q2, .ref q3, .ref q4, .ref q5, .null, .null, .null, .null, .null, .null, .null, .int (nI 0), .int (nI 0), .int (nI 0), .int (nI 0)])), (q0, .inl (c0, 20, .inl (nF (fun _ => 0)))), (q1, .inl (c1, 20, .inl (nF (fun _ => 0)))), (q2, .inl (c2, 20, .inl (nF (fun _ => 0)))), (q3, .inl (c3, 60, .inl (nF (fun _ => 0)))), (q4, .inl (c4, 60, .inl (nF (fun _ => 0)))), (q5, .inl (c5, 3, .inl (nF (fun _ => 0))))] := hD
  refine lv_aload_n hx hb d_X_init_51 rfl (lv_at hl 0 rfl) ?_
  refine lv_iconst (v := nI 3) hx hb d_X_init_52 (by decide) ?_
  refine va_newa (atype := .boolean) hx hb (hts _ arr_Z) (ty := .boolean) rfl hK hP hD hS hA (n := nI 3) (N' := 3) (a0 := (3, .inl (nF (fun _ => 0)))) (fun _ => rfl) (by decide) (by decide) (by decide) (Nat.le_of_ble_eq_true rfl) (Nat.le_of_ble_eq_true rfl) d_X_init_53 (fun q6 c6 H hK hP hD hS => ?_)
  have hK : va_K D classes [(c0, .int), (c1, .int), (c2, .int), (c3, .int), (c4, .boolean), (c5, .int), (c6, .boolean)] s := hK
  have hP : va_P D classes [(h0, .inr (0, [.ref q0, .ref q1, .ref q2, .ref q3, .ref q4, .ref q5, .null, .null, .null, .null, .null, .null, .null, .int (nI 0), .int (nI 0), .int (nI 0), .int (nI 0)])), (q0, .inl (c0, 20, .inl (nF (fun _ => 0)))), (q1, .inl (c1, 20, .inl (nF (fun _ => 0)))), (q2, .inl (c2, 20, .inl (nF (fun _ => 0)))), (q3, .inl (c3, 60, .inl (nF (fun _ => 0)))), (q4, .inl (c4, 60, .inl (nF (fun _ => 0)))), (q5, .inl (c5, 3, .inl (nF (fun _ => 0)))), (q6, .inl (c6, 3, .inl (nF (fun _ => 0))))] H := hP
  have hD : va_D A [(h0, .inr (0, [.ref q0, .ref q1, .ref q2, .ref q3, .ref q4, .ref q5, .null, .null, .null, .null, .null, .null, .null, .int (nI 0), .int (nI 0), .int (nI 0), .int (nI 0)])), (q0, .inl (c0, 20, .inl (nF (fun _ => 0)))), (q1, .inl (c1, 20, .inl (nF (fun _ => 0)))), (q2, .inl (c2, 20, .inl (nF (fun _ => 0)))), (q3, .inl (c3, 60, .inl (nF (fun _ => 0)))), (q4, .inl (c4, 60, .inl (nF (fun _ => 0)))), (q5, .inl (c5, 3, .inl (nF (fun _ => 0)))), (q6, .inl (c6, 3, .inl (nF (fun _ => 0))))] := hD
  refine W.widen (k := 7) (n := 186) (Nat.le_of_ble_eq_true rfl) (Nat.le_of_ble_eq_true rfl) ?_
  refine va_putF (D := D) (ci := 0) (v := .ref q6) (ty := .array .boolean) (C := R_X) (T := F_X) (N := 17) hx hb hts i_X t_X t_X_ok n_X hown hK hP hD hS 0 rfl rfl 6 (by decide) (hts _ fl_X_29) (fun _ h9 => h9) rfl hnm rfl (by decide +kernel) rfl rfl (Nat.le_of_ble_eq_true rfl) d_X_init_55 (fun H locs hP hD hS => ?_)
  have hP : va_P D classes [(h0, .inr (0, [.ref q0, .ref q1, .ref q2, .ref q3, .ref q4, .ref q5, .ref q6, .null, .null, .null, .null, .null, .null, .int (nI 0), .int (nI 0), .int (nI 0), .int (nI 0)])), (q0, .inl (c0, 20, .inl (nF (fun _ => 0)))), (q1, .inl (c1, 20, .inl (nF (fun _ => 0)))), (q2, .inl (c2, 20, .inl (nF (fun _ => 0)))), (q3, .inl (c3, 60, .inl (nF (fun _ => 0)))), (q4, .inl (c4, 60, .inl (nF (fun _ => 0)))), (q5, .inl (c5, 3, .inl (nF (fun _ => 0)))), (q6, .inl (c6, 3, .inl (nF (fun _ => 0))))] H := hP
  have hD : va_D A [(h0, .inr (0, [.ref q0, .ref q1, .ref q2, .ref q3, .ref q4, .ref q5, .ref q6, .null, .null, .null, .null, .null, .null, .int (nI 0), .int (nI 0), .int (nI 0), .int (nI 0)])), (q0, .inl (c0, 20, .inl (nF (fun _ => 0)))), (q1, .inl (c1, 20, .inl (nF (fun _ => 0)))), (q2, .inl (c2, 20, .inl (nF (fun _ => 0)))), (q3, .inl (c3, 60, .inl (nF (fun _ => 0)))), (q4, .inl (c4, 60, .inl (nF (fun _ => 0)))), (q5, .inl (c5, 3, .inl (nF (fun _ => 0)))), (q6, .inl (c6, 3, .inl (nF (fun _ => 0))))] := hD
  refine lv_aload_n hx hb d_X_init_58 rfl (lv_at hl 0 rfl) ?_
  refine lv_bipush (v := nI 16) hx hb d_X_init_59 (by decide) ?_
  refine va_newa (atype := .int) hx hb (hts _ arr_I) (ty := .int) rfl hK hP hD hS hA (n := nI 16) (N' := 16) (a0 := (16, .inl (nF (fun _ => 0)))) (fun _ => rfl) (by decide) (by decide) (by decide) (Nat.le_of_ble_eq_true rfl) (Nat.le_of_ble_eq_true rfl) d_X_init_61 (fun q7 c7 H hK hP hD hS => ?_)
  have hK : va_K D classes [(c0, .int), (c1, .int), (c2, .int), (c3, .int), (c4, .boolean), (c5, .int), (c6, .boolean), (c7, .int)] s := hK
  have hP : va_P D classes [(h0, .inr (0, [.ref q0, .ref q1, .ref q2, .ref q3, .ref q4, .ref q5, .ref q6, .null, .null, .null, .null, .null, .null, .int (nI 0), .int (nI 0), .int (nI 0), .int (nI 0)])), (q0, .inl (c0, 20, .inl (nF (fun _ => 0)))), (q1, .inl (c1, 20, .inl (nF (fun _ => 0)))), (q2, .inl (c2, 20, .inl (nF (fun _ => 0)))), (q3, .inl (c3, 60, .inl (nF (fun _ => 0)))), (q4, .inl (c4, 60, .inl (nF (fun _ => 0)))), (q5, .inl (c5, 3, .inl (nF (fun _ => 0)))), (q6, .inl (c6, 3, .inl (nF (fun _ => 0)))), (q7, .inl (c7, 16, .inl (nF (fun _ => 0))))] H := hP
  have hD : va_D A [(h0, .inr (0, [.ref q0, .ref q1, .ref q2, .ref q3, .ref q4, .ref q5, .ref q6, .null, .null, .null, .null, .null, .null, .int (nI 0), .int (nI 0), .int (nI 0), .int (nI 0)])), (q0, .inl (c0, 20, .inl (nF (fun _ => 0)))), (q1, .inl (c1, 20, .inl (nF (fun _ => 0)))), (q2, .inl (c2, 20, .inl (nF (fun _ => 0)))), (q3, .inl (c3, 60, .inl (nF (fun _ => 0)))), (q4, .inl (c4, 60, .inl (nF (fun _ => 0)))), (q5, .inl (c5, 3, .inl (nF (fun _ => 0)))), (q6, .inl (c6, 3, .inl (nF (fun _ => 0)))), (q7, .inl (c7, 16, .inl (nF (fun _ => 0))))] := hD
  refine W.widen (k := 8) (n := 202) (Nat.le_of_ble_eq_true rfl) (Nat.le_of_ble_eq_true rfl) ?_
  refine va_putF (D := D) (ci := 0) (v := .ref q7) (ty := .array .int) (C := R_X) (T := F_X) (N := 17) hx hb hts i_X t_X t_X_ok n_X hown hK hP hD hS 0 rfl rfl 7 (by decide) (hts _ fl_X_32) (fun _ h9 => h9) rfl hnm rfl (by decide +kernel) rfl rfl (Nat.le_of_ble_eq_true rfl) d_X_init_63 (fun H locs hP hD hS => ?_)
  have hP : va_P D classes [(h0, .inr (0, [.ref q0, .ref q1, .ref q2, .ref q3, .ref q4, .ref q5, .ref q6, .ref q7, .null, .null, .null, .null, .null, .int (nI 0), .int (nI 0), .int (nI 0), .int (nI 0)])), (q0, .inl (c0, 20, .inl (nF (fun _ => 0)))), (q1, .inl (c1, 20, .inl (nF (fun _ => 0)))), (q2, .inl (c2, 20, .inl (nF (fun _ => 0)))), (q3, .inl (c3, 60, .inl (nF (fun _ => 0)))), (q4, .inl (c4, 60, .inl (nF (fun _ => 0)))), (q5, .inl (c5, 3, .inl (nF (fun _ => 0)))), (q6, .inl (c6, 3, .inl (nF (fun _ => 0)))), (q7, .inl (c7, 16, .inl (nF (fun _ => 0))))] H := hP
  have hD : va_D A [(h0, .inr (0, [.ref q0, .ref q1, .ref q2, .ref q3, .ref q4, .ref q5, .ref q6, .ref q7, .null, .null, .null, .null, .null, .int (nI 0), .int (nI 0), .int (nI 0), .int (nI 0)])), (q0, .inl (c0, 20, .inl (nF (fun _ => 0)))), (q1, .inl (c1, 20, .inl (nF (fun _ => 0)))), (q2, .inl (c2, 20, .inl (nF (fun _ => 0)))), (q3, .inl (c3, 60, .inl (nF (fun _ => 0)))), (q4, .inl (c4, 60, .inl (nF (fun _ => 0)))), (q5, .inl (c5, 3, .inl (nF (fun _ => 0)))), (q6, .inl (c6, 3, .inl (nF (fun _ => 0)))), (q7, .inl (c7, 16, .inl (nF (fun _ => 0))))] := hD
  refine lv_aload_n hx hb d_X_init_66 rfl (lv_at hl 0 rfl) ?_
  refine lv_bipush (v := nI 16) hx hb d_X_init_67 (by decide) ?_
  refine va_newa (atype := .int) hx hb (hts _ arr_I) (ty := .int) rfl hK hP hD hS hA (n := nI 16) (N' := 16) (a0 := (16, .inl (nF (fun _ => 0)))) (fun _ => rfl) (by decide) (by decide) (by decide) (Nat.le_of_ble_eq_true rfl) (Nat.le_of_ble_eq_true rfl) d_X_init_69 (fun q8 c8 H hK hP hD hS => ?_)
  have hK : va_K D classes [(c0, .int), (c1, .int), (c2, .int), (c3, .int), (c4, .boolean), (c5, .int), (c6, .boolean), (c7, .int), (c8, .int)] s := hK
  have hP : va_P D classes [(h0, .inr (0, [.ref q0, .ref q1, .ref q2, .ref q3, .ref q4, .ref q5, .ref q6, .ref q7, .null, .null, .null, .null, .null, .int (nI 0), .int (nI 0), .int (nI 0), .int (nI 0)])), (q0, .inl (c0, 20, .inl (nF (fun _ => 0)))), (q1, .inl (c1, 20, .inl (nF (fun _ => 0)))), (q2, .inl (c2, 20, .inl (nF (fun _ => 0)))), (q3, .inl (c3, 60, .inl (nF (fun _ => 0)))), (q4, .inl (c4, 60, .inl (nF (fun _ => 0)))), (q5, .inl (c5, 3, .inl (nF (fun _ => 0)))), (q6, .inl (c6, 3, .inl (nF (fun _ => 0)))), (q7, .inl (c7, 16, .inl (nF (fun _ => 0)))), (q8, .inl (c8, 16, .inl (nF (fun _ => 0))))] H := hP
  have hD : va_D A [(h0, .inr (0, [.ref q0, .ref q1, .ref q2, .ref q3, .ref q4, .ref q5, .ref q6, .ref q7, .null, .null, .null, .null, .null, .int (nI 0), .int (nI 0), .int (nI 0), .int (nI 0)])), (q0, .inl (c0, 20, .inl (nF (fun _ => 0)))), (q1, .inl (c1, 20, .inl (nF (fun _ => 0)))), (q2, .inl (c2, 20, .inl (nF (fun _ => 0)))), (q3, .inl (c3, 60, .inl (nF (fun _ => 0)))), (q4, .inl (c4, 60, .inl (nF (fun _ => 0)))), (q5, .inl (c5, 3, .inl (nF (fun _ => 0)))), (q6, .inl (c6, 3, .inl (nF (fun _ => 0)))), (q7, .inl (c7, 16, .inl (nF (fun _ => 0)))), (q8, .inl (c8, 16, .inl (nF (fun _ => 0))))] := hD
  refine W.widen (k := 9) (n := 218) (Nat.le_of_ble_eq_true rfl) (Nat.le_of_ble_eq_true rfl) ?_
  refine va_putF (D := D) (ci := 0) (v := .ref q8) (ty := .array .int) (C := R_X) (T := F_X) (N := 17) hx hb hts i_X t_X t_X_ok n_X hown hK hP hD hS 0 rfl rfl 8 (by decide) (hts _ fl_X_35) (fun _ h9 => h9) rfl hnm rfl (by decide +kernel) rfl rfl (Nat.le_of_ble_eq_true rfl) d_X_init_71 (fun H locs hP hD hS => ?_)
  have hP : va_P D classes [(h0, .inr (0, [.ref q0, .ref q1, .ref q2, .ref q3, .ref q4, .ref q5, .ref q6, .ref q7, .ref q8, .null, .null, .null, .null, .int (nI 0), .int (nI 0), .int (nI 0), .int (nI 0)])), (q0, .inl (c0, 20, .inl (nF (fun _ => 0)))), (q1, .inl (c1, 20, .inl (nF (fun _ => 0)))), (q2, .inl (c2, 20, .inl (nF (fun _ => 0)))), (q3, .inl (c3, 60, .inl (nF (fun _ => 0)))), (q4, .inl (c4, 60, .inl (nF (fun _ => 0)))), (q5, .inl (c5, 3, .inl (nF (fun _ => 0)))), (q6, .inl (c6, 3, .inl (nF (fun _ => 0)))), (q7, .inl (c7, 16, .inl (nF (fun _ => 0)))), (q8, .inl (c8, 16, .inl (nF (fun _ => 0))))] H := hP
  have hD : va_D A [(h0, .inr (0, [.ref q0, .ref q1, .ref q2, .ref q3, .ref q4, .ref q5, .ref q6, .ref q7, .ref q8, .null, .null, .null, .null, .int (nI 0), .int (nI 0), .int (nI 0), .int (nI 0)])), (q0, .inl (c0, 20, .inl (nF (fun _ => 0)))), (q1, .inl (c1, 20, .inl (nF (fun _ => 0)))), (q2, .inl (c2, 20, .inl (nF (fun _ => 0)))), (q3, .inl (c3, 60, .inl (nF (fun _ => 0)))), (q4, .inl (c4, 60, .inl (nF (fun _ => 0)))), (q5, .inl (c5, 3, .inl (nF (fun _ => 0)))), (q6, .inl (c6, 3, .inl (nF (fun _ => 0)))), (q7, .inl (c7, 16, .inl (nF (fun _ => 0)))), (q8, .inl (c8, 16, .inl (nF (fun _ => 0))))] := hD
  refine lv_aload_n hx hb d_X_init_74 rfl (lv_at hl 0 rfl) ?_
  refine lv_bipush (v := nI 16) hx hb d_X_init_75 (by decide) ?_
  refine va_newa (atype := .int) hx hb (hts _ arr_I) (ty := .int) rfl hK hP hD hS hA (n := nI 16) (N' := 16) (a0 := (16, .inl (nF (fun _ => 0)))) (fun _ => rfl) (by decide) (by decide) (by decide) (Nat.le_of_ble_eq_true rfl) (Nat.le_of_ble_eq_true rfl) d_X_init_77 (fun q9 c9 H hK hP hD hS => ?_)
  have hK : va_K D classes [(c0, .int), (c1, .int), (c2, .int), (c3, .int), (c4, .boolean), (c5, .int), (c6, .boolean), (c7, .int), (c8, .int), (c9, .int)] s := hK
  have hP : va_P D classes [(h0, .inr (0, [.ref q0, .ref q1, .ref q2, .ref q3, .ref q4, .ref q5, .ref q6, .ref q7, .ref q8, .null, .null, .null, .null, .int (nI 0), .int (nI 0), .int (nI 0), .int (nI 0)])), (q0, .inl (c0, 20, .inl (nF (fun _ => 0)))), (q1, .inl (c1, 20, .inl (nF (fun _ => 0)))), (q2, .inl (c2, 20, .inl (nF (fun _ => 0)))), (q3, .inl (c3, 60, .inl (nF (fun _ => 0)))), (q4, .inl (c4, 60, .inl (nF (fun _ => 0)))), (q5, .inl (c5, 3, .inl (nF (fun _ => 0)))), (q6, .inl (c6, 3, .inl (nF (fun _ => 0)))), (q7, .inl (c7, 16, .inl (nF (fun _ => 0)))), (q8, .inl (c8, 16, .inl (nF (fun _ => 0)))), (q9, .inl (c9, 16, .inl (nF (fun _ => 0))))] H := hP
  have hD : va_D A [(h0, .inr (0, [.ref q0, .ref q1, .ref q2, .ref q3, .ref q4, .ref q5, .ref q6, .ref q7, .ref q8, .null, .null, .null, .null, .int (nI 0), .int (nI 0), .int (nI 0), .int (nI 0)])), (q0, .inl (c0, 20, .inl (nF (fun _ => 0)))), (q1, .inl (c1, 20, .inl (nF (fun _ => 0)))), (q2, .inl (c2, 20, .inl (nF (fun _ => 0)))), (q3, .inl (c3, 60, .inl (nF (fun _ => 0)))), (q4, .inl (c4, 60, .inl (nF (fun _ => 0)))), (q5, .inl (c5, 3, .inl (nF (fun _ => 0)))), (q6, .inl (c6, 3, .inl (nF (fun _ => 0)))), (q7, .inl (c7, 16, .inl (nF (fun _ => 0)))), (q8, .inl (c8, 16, .inl (nF (fun _ => 0)))), (q9, .inl (c9, 16, .inl (nF (fun _ => 0))))] := hD
  refine W.widen (k := 10) (n := 234) (Nat.le_of_ble_eq_true rfl) (Nat.le_of_ble_eq_true rfl) ?_
  refine va_putF (D := D) (ci := 0) (v := .ref q9) (ty := .array .int) (C := R_X) (T := F_X) (N := 17) hx hb hts i_X t_X t_X_ok n_X hown hK hP hD hS 0 rfl rfl 9 (by decide) (hts _ fl_X_38) (fun _ h9 => h9) rfl hnm rfl (by decide +kernel) rfl rfl (Nat.le_of_ble_eq_true rfl) d_X_init_79 (fun H locs hP hD hS => ?_)
  have hP : va_P D classes [(h0, .inr (0, [.ref q0, .ref q1, .ref q2, .ref q3, .ref q4, .ref q5, .ref q6, .ref q7, .ref q8, .ref q9, .null, .null, .null, .int (nI 0), .int (nI 0), .int (nI 0), .int (nI 0)])), (q0, .inl (c0, 20, .inl (nF (fun _ => 0)))), (q1, .inl (c1, 20, .inl (nF (fun _ => 0)))), (q2, .inl (c2, 20, .inl (nF (fun _ => 0)))), (q3, .inl (c3, 60, .inl (nF (fun _ => 0)))), (q4, .inl (c4, 60, .inl (nF (fun _ => 0)))), (q5, .inl (c5, 3, .inl (nF (fun _ => 0)))), (q6, .inl (c6, 3, .inl (nF (fun _ => 0)))), (q7, .inl (c7, 16, .inl (nF (fun _ => 0)))), (q8, .inl (c8, 16, .inl (nF (fun _ => 0)))), (q9, .inl (c9, 16, .inl (nF (fun _ => 0))))] H := hP
  have hD : va_D A [(h0, .inr (0, [.ref q0, .ref q1, .ref q2, .ref q3, .ref q4, .ref q5, .ref q6, .ref q7, .ref q8, .ref q9, .null, .null, .null, .int (nI 0), .int (nI 0), .int (nI 0), .int (nI 0)])), (q0, .inl (c0, 20, .inl (nF (fun _ => 0)))), (q1, .inl (c1, 20, .inl (nF (fun _ => 0)))), (q2, .inl (c2, 20, .inl (nF (fun _ => 0)))), (q3, .inl (c3, 60, .inl (nF (fun _ => 0)))), (q4, .inl (c4, 60, .inl (nF (fun _ => 0)))), (q5, .inl (c5, 3, .inl (nF (fun _ => 0)))), (q6, .inl (c6, 3, .inl (nF (fun _ => 0)))), (q7, .inl (c7, 16, .inl (nF (fun _ => 0)))), (q8, .inl (c8, 16, .inl (nF (fun _ => 0)))), (q9, .inl (c9, 16, .inl (nF (fun _ => 0))))] := hD
  refine lv_aload_n hx hb d_X_init_82 rfl (lv_at hl 0 rfl) ?_
  refine lv_bipush (v := nI 16) hx hb d_X_init_83 (by decide) ?_
  refine va_newa (atype := .boolean) hx hb (hts _ arr_Z) (ty := .boolean) rfl hK hP hD hS hA (n := nI 16) (N' := 16) (a0 := (16, .inl (nF (fun _ => 0)))) (fun _ => rfl) (by decide) (by decide) (by decide) (Nat.le_of_ble_eq_true rfl) (Nat.le_of_ble_eq_true rfl) d_X_init_85 (fun q10 c10 H hK hP hD hS => ?_)
  have hK : va_K D classes [(c0, .int), (c1, .int), (c2, .int), (c3, .int), (c4, .boolean), (c5, .int), (c6, .boolean), (c7, .int), (c8, .int), (c9, .int), (c10, .boolean)] s := hK
  have hP : va_P D classes [(h0, .inr (0, [.ref q0, .ref q1, .ref q2, .ref q3, .ref q4, .ref q5, .ref q6, .ref q7, .ref q8, .ref q9, .null, .null, .null, .int (nI 0), .int (nI 0), .int (nI 0), .int (nI 0)])), (q0, .inl (c0, 20, .inl (nF (fun _ => 0)))), (q1, .inl (c1, 20, .inl (nF (fun _ => 0)))), (q2, .inl (c2, 20, .inl (nF (fun _ => 0)))), (q3, .inl (c3, 60, .inl (nF (fun _ => 0)))), (q4, .inl (c4, 60, .inl (nF (fun _ => 0)))), (q5, .inl (c5, 3, .inl (nF (fun _ => 0)))), (q6, .inl (c6, 3, .inl (nF (fun _ => 0)))), (q7, .inl (c7, 16, .inl (nF (fun _ => 0)))), (q8, .inl (c8, 16, .inl (nF (fun _ => 0)))), (q9, .inl (c9, 16, .inl (nF (fun _ => 0)))), (q10, .inl (c10, 16, .inl (nF (fun _ => 0))))] H := hP
  have hD : va_D A [(h0, .inr (0, [.ref q0, .ref q1, .ref q2, .ref q3, .ref q4, .ref q5, .ref q6, .ref q7, .ref q8, .ref q9, .null, .null, .null, .int (nI 0), .int (nI 0), .int (nI 0), .int (nI 0)])), (q0, .inl (c0, 20, .inl (nF (fun _ => 0)))), (q1, .inl (c1, 20, .inl (nF (fun _ => 0)))), (q2, .inl (c2, 20, .inl (nF (fun _ => 0)))), (q3, .inl (c3, 60, .inl (nF (fun _ => 0)))), (q4, .inl (c4, 60, .inl (nF (fun _ => 0)))), (q5, .inl (c5, 3, .inl (nF (fun _ => 0)))), (q6, .inl (c6, 3, .inl (nF (fun _ => 0)))), (q7, .inl (c7, 16, .inl (nF (fun _ => 0)))), (q8, .inl (c8, 16, .inl (nF (fun _ => 0)))), (q9, .inl (c9, 16, .inl (nF (fun _ => 0)))), (q10, .inl (c10, 16, .inl (nF (fun _ => 0))))] := hD
  refine W.widen (k := 11) (n := 250) (Nat.le_of_ble_eq_true rfl) (Nat.le_of_ble_eq_true rfl) ?_
  refine va_putF (D := D) (ci := 0) (v := .ref q10) (ty := .array .boolean) (C := R_X) (T := F_X) (N := 17) hx hb hts i_X t_X t_X_ok n_X hown hK hP hD hS 0 rfl rfl 10 (by decide) (hts _ fl_X_41) (fun _ h9 => h9) rfl hnm rfl (by decide +kernel) rfl rfl (Nat.le_of_ble_eq_true rfl) d_X_init_87 (fun H locs hP hD hS => ?_)
  have hP : va_P D classes [(h0, .inr (0, [.ref q0, .ref q1, .ref q2, .ref q3, .ref q4, .ref q5, .ref q6, .ref q7, .ref q8, .ref q9, .ref q10, .null, .null, .int (nI 0), .int (nI 0), .int (nI 0), .int (nI 0)])), (q0, .inl (c0, 20, .inl (nF (fun _ => 0)))), (q1, .inl (c1, 20, .inl (nF (fun _ => 0)))), (q2, .inl (c2, 20, .inl (nF (fun _ => 0)))), (q3, .inl (c3, 60, .inl (nF (fun _ => 0)))), (q4, .inl (c4, 60, .inl (nF (fun _ => 0)))), (q5, .inl (c5, 3, .inl (nF (fun _ => 0)))), (q6, .inl (c6, 3, .inl (nF (fun _ => 0)))), (q7, .inl (c7, 16, .inl (nF (fun _ => 0)))), (q8, .inl (c8, 16, .inl (nF (fun _ => 0)))), (q9, .inl (c9, 16, .inl (nF (fun _ => 0)))), (q10, .inl (c10, 16, .inl (nF (fun _ => 0))))] H := hP
  have hD : va_D A [(h0, .inr (0, [.ref q0, .ref q1, .ref q2, .ref q3, .ref q4, .ref q5, .ref q6, .ref q7, .ref q8, .ref q9, .ref q10, .null, .null, .int (nI 0), .int (nI 0), .int (nI 0), .int (nI 0)])), (q0, .inl (c0, 20, .inl (nF (fun _ => 0)))), (q1, .inl (c1, 20, .inl (nF (fun _ => 0)))), (q2, .inl (c2, 20, .inl (nF (fun _ => 0)))), (q3, .inl (c3, 60, .inl (nF (fun _ => 0)))), (q4, .inl (c4, 60, .inl (nF (fun _ => 0)))), (q5, .inl (c5, 3, .inl (nF (fun _ => 0)))), (q6, .inl (c6, 3, .inl (nF (fun _ => 0)))), (q7, .inl (c7, 16, .inl (nF (fun _ => 0)))), (q8, .inl (c8, 16, .inl (nF (fun _ => 0)))), (q9, .inl (c9, 16, .inl (nF (fun _ => 0)))), (q10, .inl (c10, 16, .inl (nF (fun _ => 0))))] := hD
  refine lv_aload_n hx hb d_X_init_90 rfl (lv_at hl 0 rfl) ?_
  refine lv_bipush (v := nI 20) hx hb d_X_init_91 (by decide) ?_
  refine va_newa (atype := .int) hx hb (hts _ arr_I) (ty := .int) rfl hK hP hD hS hA (n := nI 20) (N' := 20) (a0 := (20, .inl (nF (fun _ => 0)))) (fun _ => rfl) (by decide) (by decide) (by decide) (Nat.le_of_ble_eq_true rfl) (Nat.le_of_ble_eq_true rfl) d_X_init_93 (fun q11 c11 H hK hP hD hS => ?_)
  have hK : va_K D classes [(c0, .int), (c1, .int), (c2, .int), (c3, .int), (c4, .boolean), (c5, .int), (c6, .boolean), (c7, .int), (c8, .int), (c9, .int), (c10, .boolean), (c11, .int)] s := hK
  have hP : va_P D classes [(h0, .inr (0, [.ref q0, .ref q1, .ref q2, .ref q3, .ref q4, .ref q5, .ref q6, .ref q7, .ref q8, .ref q9, .ref q10, .null, .null, .int (nI 0), .int (nI 0), .int (nI 0), .int (nI 0)])), (q0, .inl (c0, 20, .inl (nF (fun _ => 0)))), (q1, .inl (c1, 20, .inl (nF (fun _ => 0)))), (q2, .inl (c2, 20, .inl (nF (fun _ => 0)))), (q3, .inl (c3, 60, .inl (nF (fun _ => 0)))), (q4, .inl (c4, 60, .inl (nF (fun _ => 0)))), (q5, .inl (c5, 3, .inl (nF (fun _ => 0)))), (q6, .inl (c6, 3, .inl (nF (fun _ => 0)))), (q7, .inl (c7, 16, .inl (nF (fun _ => 0)))), (q8, .inl (c8, 16, .inl (nF (fun _ => 0)))), (q9, .inl (c9, 16, .inl (nF (fun _ => 0)))), (q10, .inl (c10, 16, .inl (nF (fun _ => 0)))), (q11, .inl (c11, 20, .inl (nF (fun _ => 0))))] H := hP
  have hD : va_D A [(h0, .inr (0, [.ref q0, .ref q1, .ref q2, .ref q3, .ref q4, .ref q5, .ref q6, .ref q7, .ref q8, .ref q9, .ref q10, .null, .null, .int (nI 0), .int (nI 0), .int (nI 0), .int (nI 0)])), (q0, .inl (c0, 20, .inl (nF (fun _ => 0)))), (q1, .inl (c1, 20, .inl (nF (fun _ => 0)))), (q2, .inl (c2, 20, .inl (nF (fun _ => 0)))), (q3, .inl (c3, 60, .inl (nF (fun _ => 0)))), (q4, .inl (c4, 60, .inl (nF (fun _ => 0)))), (q5, .inl (c5, 3, .inl (nF (fun _ => 0)))), (q6, .inl (c6, 3, .inl (nF (fun _ => 0)))), (q7, .inl (c7, 16, .inl (nF (fun _ => 0)))), (q8, .inl (c8, 16, .inl (nF (fun _ => 0)))), (q9, .inl (c9, 16, .inl (nF (fun _ => 0)))), (q10, .inl (c10, 16, .inl (nF (fun _ => 0)))), (q11, .inl (c11, 20, .inl (nF (fun _ => 0))))] := hD
  refine W.widen (k := 12) (n := 270) (Nat.le_of_ble_eq_true rfl) (Nat.le_of_ble_eq_true rfl) ?_
  refine va_putF (D := D) (ci := 0) (v := .ref q11) (ty := .array .int) (C := R_X) (T := F_X) (N := 17) hx hb hts i_X t_X t_X_ok n_X hown hK hP hD hS 0 rfl rfl 11 (by decide) (hts _ fl_X_44) (fun _ h9 => h9) rfl hnm rfl (by decide +kernel) rfl rfl (Nat.le_of_ble_eq_true rfl) d_X_init_95 (fun H locs hP hD hS => ?_)
  have hP : va_P D classes [(h0, .inr (0, [.ref q0, .ref q1, .ref q2, .ref q3, .ref q4, .ref q5, .ref q6, .ref q7, .ref q8, .ref q9, .ref q10, .ref q11, .null, .int (nI 0), .int (nI 0), .int (nI 0), .int (nI 0)])), (q0, .inl (c0, 20, .inl (nF (fun _ => 0)))), (q1, .inl (c1, 20, .inl (nF (fun _ => 0)))), (q2, .inl (c2, 20, .inl (nF (fun _ => 0)))), (q3, .inl (c3, 60, .inl (nF (fun _ => 0)))), (q4, .inl (c4, 60, .inl (nF (fun _ => 0)))), (q5, .inl (c5, 3, .inl (nF (fun _ => 0)))), (q6, .inl (c6, 3, .inl (nF (fun _ => 0)))), (q7, .inl (c7, 16, .inl (nF (fun _ => 0)))), (q8, .inl (c8, 16, .inl (nF (fun _ => 0)))), (q9, .inl (c9, 16, .inl (nF (fun _ => 0)))), (q10, .inl (c10, 16, .inl (nF (fun _ => 0)))), (q11, .inl (c11, 20, .inl (nF (fun _ => 0))))] H := hP
  have hD : va_D A [(h0, .inr (0, [.ref q0, .ref q1, .ref q2, .ref q3, .ref q4, .ref q5, .ref q6, .ref q7, .ref q8, .ref q9, .ref q10, .ref q11, .null, .int (nI 0), .int (nI 0), .int (nI 0), .int (nI 0)])), (q0, .inl (c0, 20, .inl (nF (fun _ => 0)))), (q1, .inl (c1, 20, .inl (nF (fun _ => 0)))), (q2, .inl (c2, 20, .inl (nF (fun _ => 0)))), (q3, .inl (c3, 60, .inl (nF (fun _ => 0)))), (q4, .inl (c4, 60, .inl (nF (fun _ => 0)))), (q5, .inl (c5, 3, .inl (nF (fun _ => 0)))), (q6, .inl (c6, 3, .inl (nF (fun _ => 0)))), (q7, .inl (c7, 16, .inl (nF (fun _ => 0)))), (q8, .inl (c8, 16, .inl (nF (fun _ => 0)))), (q9, .inl (c9, 16, .inl (nF (fun _ => 0)))), (q10, .inl (c10, 16, .inl (nF (fun _ => 0)))), (q11, .inl (c11, 20, .inl (nF (fun _ => 0))))] := hD
  refine lv_aload_n hx hb d_X_init_98 rfl (lv_at hl 0 rfl) ?_
  refine lv_bipush (v := nI 16) hx hb d_X_init_99 (by decide) ?_
  refine va_newa (atype := .int) hx hb (hts _ arr_I) (ty := .int) rfl hK hP hD hS hA (n := nI 16) (N' := 16) (a0 := (16, .inl (nF (fun _ => 0)))) (fun _ => rfl) (by decide) (by decide) (by decide) (Nat.le_of_ble_eq_true rfl) (Nat.le_of_ble_eq_true rfl) d_X_init_101 (fun q12 c12 H hK hP hD hS => ?_)
  have hK : va_K D classes [(c0, .int), (c1, .int), (c2, .int), (c3, .int), (c4, .boolean), (c5, .int), (c6, .boolean), (c7, .int), (c8, .int), (c9, .int), (c10, .boolean), (c11, .int), (c12, .int)] s := hK
  have hP : va_P D classes [(h0, .inr (0, [.ref q0, .ref q1, .ref q2, .ref q3, .ref q4, .ref q5, .ref q6, .ref q7, .ref q8, .ref q9, .ref q10, .ref q11, .null, .int (nI 0), .int (nI 0), .int (nI 0), .int (nI 0)])), (q0, .inl (c0, 20, .inl (nF (fun _ => 0)))), (q1, .inl (c1, 20, .inl (nF (fun _ => 0)))), (q2, .inl (c2, 20, .inl (nF (fun _ => 0)))), (q3, .inl (c3, 60, .inl (nF (fun _ => 0)))), (q4, .inl (c4, 60, .inl (nF (fun _ => 0)))), (q5, .inl (c5, 3, .inl (nF (fun _ => 0)))), (q6, .inl (c6, 3, .inl (nF (fun _ => 0)))), (q7, .inl (c7, 16, .inl (nF (fun _ => 0)))), (q8, .inl (c8, 16, .inl (nF (fun _ => 0)))), (q9, .inl (c9, 16, .inl (nF (fun _ => 0)))), (q10, .inl (c10, 16, .inl (nF (fun _ => 0)))), (q11, .inl (c11, 20, .inl (nF (fun _ => 0)))), (q12, .inl (c12, 16, .inl (nF (fun _ => 0))))] H := hP
  have hD : va_D A [(h0, .inr (0, [.ref q0, .ref q1, .ref q2, .ref q3, .ref q4, .ref q5, .ref q6, .ref q7, .ref q8, .ref q9, .ref q10, .ref q11, .null, .int (nI 0), .int (nI 0), .int (nI 0), .int (nI 0)])), (q0, .inl (c0, 20, .inl (nF (fun _ => 0)))), (q1, .inl (c1, 20, .inl (nF (fun _ => 0)))), (q2, .inl (c2, 20, .inl (nF (fun _ => 0)))), (q3, .inl (c3, 60, .inl (nF (fun _ => 0)))), (q4, .inl (c4, 60, .inl (nF (fun _ => 0)))), (q5, .inl (c5, 3, .inl (nF (fun _ => 0)))), (q6, .inl (c6, 3, .inl (nF (fun _ => 0)))), (q7, .inl (c7, 16, .inl (nF (fun _ => 0)))), (q8, .inl (c8, 16, .inl (nF (fun _ => 0)))), (q9, .inl (c9, 16, .inl (nF (fun _ => 0)))), (q10, .inl (c10, 16, .inl (nF (fun _ => 0)))), (q11, .inl (c11, 20, .inl (nF (fun _ => 0)))), (q12, .inl (c12, 16, .inl (nF (fun _ => 0))))] := hD
  refine W.widen (k := 13) (n := 286) (Nat.le_of_ble_eq_true rfl) (Nat.le_of_ble_eq_true rfl) ?_
  refine va_putF (D := D) (ci := 0) (v := .ref q12) (ty := .array .int) (C := R_X) (T := F_X) (N := 17) hx hb hts i_X t_X t_X_ok n_X hown hK hP hD hS 0 rfl rfl 12 (by decide) (hts _ fl_X_47) (fun _ h9 => h9) rfl hnm rfl (by decide +kernel) rfl rfl (Nat.le_of_ble_eq_true rfl) d_X_init_103 (fun H locs hP hD hS => ?_)
  have hP : va_P D classes [(h0, .inr (0, [.ref q0, .ref q1, .ref q2, .ref q3, .ref q4, .ref q5, .ref q6, .ref q7, .ref q8, .ref q9, .ref q10, .ref q11, .ref q12, .int (nI 0), .int (nI 0), .int (nI 0), .int (nI 0)])), (q0, .inl (c0, 20, .inl (nF (fun _ => 0)))), (q1, .inl (c1, 20, .inl (nF (fun _ => 0)))), (q2, .inl (c2, 20, .inl (nF (fun _ => 0)))), (q3, .inl (c3, 60, .inl (nF (fun _ => 0)))), (q4, .inl (c4, 60, .inl (nF (fun _ => 0)))), (q5, .inl (c5, 3, .inl (nF (fun _ => 0)))), (q6, .inl (c6, 3, .inl (nF (fun _ => 0)))), (q7, .inl (c7, 16, .inl (nF (fun _ => 0)))), (q8, .inl (c8, 16, .inl (nF (fun _ => 0)))), (q9, .inl (c9, 16, .inl (nF (fun _ => 0)))), (q10, .inl (c10, 16, .inl (nF (fun _ => 0)))), (q11, .inl (c11, 20, .inl (nF (fun _ => 0)))), (q12, .inl (c12, 16, .inl (nF (fun _ => 0))))] H := hP
  have hD : va_D A [(h0, .inr (0, [.ref q0, .ref q1, .ref q2, .ref q3, .ref q4, .ref q5, .ref q6, .ref q7, .ref q8, .ref q9, .ref q10, .ref q11, .ref q12, .int (nI 0), .int (nI 0), .int (nI 0), .int (nI 0)])), (q0, .inl (c0, 20, .inl (nF (fun _ => 0)))), (q1, .inl (c1, 20, .inl (nF (fun _ => 0)))), (q2, .inl (c2, 20, .inl (nF (fun _ => 0)))), (q3, .inl (c3, 60, .inl (nF (fun _ => 0)))), (q4, .inl (c4, 60, .inl (nF (fun _ => 0)))), (q5, .inl (c5, 3, .inl (nF (fun _ => 0)))), (q6, .inl (c6, 3, .inl (nF (fun _ => 0)))), (q7, .inl (c7, 16, .inl (nF (fun _ => 0)))), (q8, .inl (c8, 16, .inl (nF (fun _ => 0)))), (q9, .inl (c9, 16, .inl (nF (fun _ => 0)))), (q10, .inl (c10, 16, .inl (nF (fun _ => 0)))), (q11, .inl (c11, 20, .inl (nF (fun _ => 0)))), (q12, .inl (c12, 16, .inl (nF (fun _ => 0))))] := hD
  refine lv_aload_n hx hb d_X_init_106 rfl (lv_at hl 0 rfl) ?_
  refine lv_iconst (v := (-1)) hx hb d_X_init_107 (by decide) ?_
  refine ptX hx hb hts hown hK hP hD hS fl_X_50 rfl (k := 15) (by decide) ⟨rfl, rfl, rfl, rfl⟩ (ty := .int) (by decide +kernel) rfl rfl (Nat.le_of_ble_eq_true rfl) d_X_init_108 (fun H locs hP hD hS => ?_)
  have hP : va_P D classes [(h0, .inr (0, [.ref q0, .ref q1, .ref q2, .ref q3, .ref q4, .ref q5, .ref q6, .ref q7, .ref q8, .ref q9, .ref q10, .ref q11, .ref q12, .int (nI 0), .int (nI 0), .int (-1), .int (nI 0)])), (q0, .inl (c0, 20, .inl (nF (fun _ => 0)))), (q1, .inl (c1, 20, .inl (nF (fun _ => 0)))), (q2, .inl (c2, 20, .inl (nF (fun _ => 0)))), (q3, .inl (c3, 60, .inl (nF (fun _ => 0)))), (q4, .inl (c4, 60, .inl (nF (fun _ => 0)))), (q5, .inl (c5, 3, .inl (nF (fun _ => 0)))), (q6, .inl (c6, 3, .inl (nF (fun _ => 0)))), (q7, .inl (c7, 16, .inl (nF (fun _ => 0)))), (q8, .inl (c8, 16, .inl (nF (fun _ => 0)))), (q9, .inl (c9, 16, .inl (nF (fun _ => 0)))), (q10, .inl (c10, 16, .inl (nF (fun _ => 0)))), (q11, .inl (c11, 20, .inl (nF (fun _ => 0)))), (q12, .inl (c12, 16, .inl (nF (fun _ => 0))))] H := hP
  have hD : va_D A [(h0, .inr (0, [.ref q0, .ref q1, .ref q2, .ref q3, .ref q4, .ref q5, .ref q6, .ref q7, .ref q8, .ref q9, .ref q10, .ref q11, .ref q12, .int (nI 0), .int (nI 0), .int (-1), .int (nI 0)])), (q0, .inl (c0, 20, .inl (nF (fun _ => 0)))), (q1, .inl (c1, 20, .inl (nF (fun _ => 0)))), (q2, .inl (c2, 20, .inl (nF (fun _ => 0)))), (q3, .inl (c3, 60, .inl (nF (fun _ => 0)))), (q4, .inl (c4, 60, .inl (nF (fun _ => 0)))), (q5, .inl (c5, 3, .inl (nF (fun _ => 0)))), (q6, .inl (c6, 3, .inl (nF (fun _ => 0)))), (q7, .inl (c7, 16, .inl (nF (fun _ => 0)))), (q8, .inl (c8, 16, .inl (nF (fun _ => 0)))), (q9, .inl (c9, 16, .inl (nF (fun _ => 0)))), (q10, .inl (c10, 16, .inl (nF (fun _ => 0)))), (q11, .inl (c11, 20, .inl (nF (fun _ => 0)))), (q12, .inl (c12, 16, .inl (nF (fun _ => 0))))] := hD
  have hP : va_P D classes (wX h0 (l13 q0 q1 q2 q3 q4 q5 q6 q7 q8 q9 q10 q11 q12) (l13 c0 c1 c2 c3 c4 c5 c6 c7 c8 c9 c10 c11 c12) (fun _ => 0) (fun _ => 0) (fun _ => 0) (fun _ => 0) (fun _ => 0) (fun _ => 0) (fun _ => 0) (fun _ => 0) (fun _ => 0) (fun _ => 0) (fun _ => 0) (nF (fun _ => 0)) (fun _ => 0) 0 0 (-1) 0) H := hP
  have hD : va_D A (wX h0 (l13 q0 q1 q2 q3 q4 q5 q6 q7 q8 q9 q10 q11 q12) (l13 c0 c1 c2 c3 c4 c5 c6 c7 c8 c9 c10 c11 c12) (fun _ => 0) (fun _ => 0) (fun _ => 0) (fun _ => 0) (fun _ => 0) (fun _ => 0) (fun _ => 0) (fun _ => 0) (fun _ => 0) (fun _ => 0) (fun _ => 0) (nF (fun _ => 0)) (fun _ => 0) 0 0 (-1) 0) := hD
  have hK : va_K D classes (yX (l13 c0 c1 c2 c3 c4 c5 c6 c7 c8 c9 c10 c11 c12)) s := hK
  subst hAe hQ
  exact W.vret hx hb hr (fun t ht hW => ⟨⟨(l13 q0 q1 q2 q3 q4 q5 q6 q7 q8 q9 q10 q11 q12, l13 c0 c1 c2 c3 c4 c5 c6 c7 c8 c9 c10 c11 c12), rfl, trivial, by rw [ht]; exact hP, va_K.moved hW.alike hK, hD⟩, hS.F ht⟩) hS.2.2 d_X_init_111
def l10 {α : Type} (x0 x1 x2 x3 x4 x5 x6 x7 x8 x9 : α) : Nat → α := fun k => match k with
  | 0 => x0
  | 1 => x1
  | 2 => x2
  | 3 => x3
  | 4 => x4
  | 5 => x5
  | 6 => x6
  | 7 => x7
  | 8 => x8
  | _ => x9
abbrev rm_M_init : Room := { frames := 1, cells := 10, slots := 234, locals := 12 }
set_option maxHeartbeats 4000000 in
set_option maxRecDepth 100000 in
theorem c_M_init (l : Launch) (D : va_G) (h0 hz : Nat) : Met l y_M_init w_M_init rm_M_init (va_Pc [.ref h0] (Pw D [(h0, .inr (1, [.null, .int (nI 0), .null, .null, .int (nI 0), .null, .null, .null, .null, .null, .null, .null]))] [] hz)) (va_Qv (fun (_ : (Nat → Nat) × (Nat → ClassId)) => True) (fun (u : (Nat → Nat) × (Nat → ClassId)) => Bw D [(h0, .inr (1, [.null, .int (nI 0), .null, .null, .int (nI 0), .null, .null, .null, .null, .null, .null, .null]))] (wM h0 u.1 u.2 (fun _ => 0) (fun _ => 0) (fun _ => 0) (fun _ => 0) (fun _ => 0) (fun _ => 0) (fun _ => 0) (fun _ => 0) (fun _ => 0) (fun _ => 0) 0 0) (yM u.2) hz) (va_A [(h0, .inr (1, [.null, .int (nI 0), .null, .null, .int (nI 0), .null, .null, .null, .null, .null, .null, .null]))] hz)) 10 234 (va_A [(h0, .inr (1, [.null, .int (nI 0), .null, .null, .int (nI 0), .null, .null, .null, .null, .null, .null, .null]))] hz) := by
  refine ct_start (by decide) (Nat.le_of_ble_eq_true rfl) ?_
  intro p e s m args below meth c A Q ls hx hb hr hlocks hml hts hown hnm hA hAe hsz hS hP hD hK hl hQ
  have hown : s.vm.findClass R_M = some m.cls := hown
  have hl : lv_has ls 1 [(0, .ref h0)] := hl
  refine lv_aload_n hx hb d_M_init_0 rfl (lv_at hl 0 rfl) ?_
  refine W.objInit hx hb hown (hts _ oi_M) (hts _ oi_i) (hts _ oi_c) rfl (by rw [hml]; exact hl.1) rfl d_M_init_1 (Nat.le_of_ble_eq_true rfl) (Nat.le_of_ble_eq_true rfl) ?_
  refine W.eq (g2 := F0 m 4 ls []) rfl ?_
  refine lv_aload_n hx hb d_M_init_4 rfl (lv_at hl 0 rfl) ?_
  refine lv_bipush (v := nI 16) hx hb d_M_init_5 (by decide) ?_
  refine va_newa (atype := .int) hx hb (hts _ arr_I) (ty := .int) rfl hK hP hD hS hA (n := nI 16) (N' := 16) (a0 := (16, .inl (nF (fun _ => 0)))) (fun _ => rfl) (by decide) (by decide) (by decide) (Nat.le_of_ble_eq_true rfl) (Nat.le_of_ble_eq_true rfl) d_M_init_7 (fun q0 c0 H hK hP hD hS => ?_)
  have hK : va_K D classes [(c0, .int)] s := hK
  have hP : va_P D classes [(h0, .inr (1, [.null, .int (nI 0), .null, .null, .int (nI 0), .null, .null, .null, .null, .null, .null, .null])), (q0, .inl (c0, 16, .inl (nF (fun _ => 0))))] H := hP
  have hD : va_D A [(h0, .inr (1, [.null, .int (nI 0), .null, .null, .int (nI 0), .null, .null, .null, .null, .null, .null, .null])), (q0, .inl (c0, 16, .inl (nF (fun _ => 0))))] := hD
  refine W.widen (k := 1) (n := 16) (Nat.le_of_ble_eq_true rfl) (Nat.le_of_ble_eq_true rfl) ?_
  refine ptM hx hb hts hown hK hP hD hS fl_M_7 rfl (k := 0) (by decide) ⟨rfl, rfl, rfl, rfl⟩ (ty := .array .int) (by decide +kernel) rfl rfl (Nat.le_of_ble_eq_true rfl) d_M_init_9 (fun H locs hP hD hS => ?_)
  have hP : va_P D classes [(h0, .inr (1, [.ref q0, .int (nI 0), .null, .null, .int (nI 0), .null, .null, .null, .null, .null, .null, .null])), (q0, .inl (c0, 16, .inl (nF (fun _ => 0))))] H := hP
  have hD : va_D A [(h0, .inr (1, [.ref q0, .int (nI 0), .null, .null, .int (nI 0), .null, .null, .null, .null, .null, .null, .null])), (q0, .inl (c0, 16, .inl (nF (fun _ => 0))))] := hD
  refine lv_aload_n hx hb d_M_init_12 rfl (lv_at hl 0 rfl) ?_
  refine lv_iconst (v := nI 3) hx hb d_M_init_13 (by decide) ?_
  refine va_newa (atype := .int) hx hb (hts _ arr_I) (ty := .int) rfl hK hP hD hS hA (n := nI 3) (N' := 3) (a0 := (3, .inl (nF (fun _ => 0)))) (fun _ => rfl) (by decide) (by decide) (by decide) (Nat.le_of_ble_eq_true rfl) (Nat.le_of_ble_eq_true rfl) d_M_init_14 (fun q1 c1 H hK hP hD hS => ?_)
  have hK : va_K D classes [(c0, .int), (c1, .int)] s := hK
  have hP : va_P D classes [(h0, .inr (1, [.ref q0, .int (nI 0), .null, .null, .int (nI 0), .null, .null, .null, .null, .null, .null, .null])), (q0, .inl (c0, 16, .inl (nF (fun _ => 0)))), (q1, .inl (c1, 3, .inl (nF (fun _ => 0))))] H := hP
  have hD : va_D A [(h0, .inr (1, [.ref q0, .int (nI 0), .null, .null, .int (nI 0), .null, .null, .null, .null, .null, .null, .null])), (q0, .inl (c0, 16, .inl (nF (fun _ => 0)))), (q1, .inl (c1, 3, .inl (nF (fun _ => 0))))] := hD
  refine W.widen (k := 2) (n := 19) (Nat.le_of_ble_eq_true rfl) (Nat.le_of_ble_eq_true rfl) ?_
  refine ptM hx hb hts hown hK hP hD hS fl_M_13 rfl (k := 2) (by decide) ⟨rfl, rfl, rfl, rfl⟩ (ty := .array .int) (by decide +kernel) rfl rfl (Nat.le_of_ble_eq_true rfl) d_M_init_16 (fun H locs hP hD hS => ?_)
  have hP : va_P D classes [(h0, .inr (1, [.ref q0, .int (nI 0), .ref q1, .null, .int (nI 0), .null, .null, .null, .null, .null, .null, .null])), (q0, .inl (c0, 16, .inl (nF (fun _ => 0)))), (q1, .inl (c1, 3, .inl (nF (fun _ => 0))))] H := hP
  have hD : va_D A [(h0, .inr (1, [.ref q0, .int (nI 0), .ref q1, .null, .int (nI 0), .null, .null, .null, .null, .null, .null, .null])), (q0, .inl (c0, 16, .inl (nF (fun _ => 0)))), (q1, .inl (c1, 3, .inl (nF (fun _ => 0))))] := hD
  refine lv_aload_n hx hb d_M_init_19 rfl (lv_at hl 0 rfl) ?_
  refine lv_iconst (v := nI 3) hx hb d_M_init_20 (by decide) ?_
  refine va_newa (atype := .boolean) hx hb (hts _ arr_Z) (ty := .boolean) rfl hK hP hD hS hA (n := nI 3) (N' := 3) (a0 := (3, .inl (nF (fun _ => 0)))) (fun _ => rfl) (by decide) (by decide) (by decide) (Nat.le_of_ble_eq_true rfl) (Nat.le_of_ble_eq_true rfl) d_M_init_21 (fun q2 c2 H hK hP hD hS => ?_)
  have hK : va_K D classes [(c0, .int), (c1, .int), (c2, .boolean)] s := hK
  have hP : va_P D classes [(h0, .inr (1, [.ref q0, .int (nI 0), .ref q1, .null, .int (nI 0), .null, .null, .null, .null, .null, .null, .null])), (q0, .inl (c0, 16, .inl (nF (fun _ => 0)))), (q1, .inl (c1, 3, .inl (nF (fun _ => 0)))), (q2, .inl (c2, 3, .inl (nF (fun _ => 0))))] H := hP
  have hD : va_D A [(h0, .inr (1, [.ref q0, .int (nI 0), .ref q1, .null, .int (nI 0), .null, .null, .null, .null, .null, .null, .null])), (q0, .inl (c0, 16, .inl (nF (fun _ => 0)))), (q1, .inl (c1, 3, .inl (nF (fun _ => 0)))), (q2, .inl (c2, 3, .inl (nF (fun _ => 0))))] := hD
  refine W.widen (k := 3) (n := 22) (Nat.le_of_ble_eq_true rfl) (Nat.le_of_ble_eq_true rfl) ?_
  refine ptM hx hb hts hown hK hP hD hS fl_M_16 rfl (k := 3) (by decide) ⟨rfl, rfl, rfl, rfl⟩ (ty := .array .boolean) (by decide +kernel) rfl rfl (Nat.le_of_ble_eq_true rfl) d_M_init_23 (fun H locs hP hD hS => ?_)
  have hP : va_P D classes [(h0, .inr (1, [.ref q0, .int (nI 0), .ref q1, .ref q2, .int (nI 0), .null, .null, .null, .null, .null, .null, .null])), (q0, .inl (c0, 16, .inl (nF (fun _ => 0)))), (q1, .inl (c1, 3, .inl (nF (fun _ => 0)))), (q2, .inl (c2, 3, .inl (nF (fun _ => 0))))] H := hP
  have hD : va_D A [(h0, .inr (1, [.ref q0, .int (nI 0), .ref q1, .ref q2, .int (nI 0), .null, .null, .null, .null, .null, .null, .null])), (q0, .inl (c0, 16, .inl (nF (fun _ => 0)))), (q1, .inl (c1, 3, .inl (nF (fun _ => 0)))), (q2, .inl (c2, 3, .inl (nF (fun _ => 0))))] := hD
  refine lv_aload_n hx hb d_M_init_26 rfl (lv_at hl 0 rfl) ?_
  refine lv_bipush (v := nI 20) hx hb d_M_init_27 (by decide) ?_
  refine va_newa (atype := .int) hx hb (hts _ arr_I) (ty := .int) rfl hK hP hD hS hA (n := nI 20) (N' := 20) (a0 := (20, .inl (nF (fun _ => 0)))) (fun _ => rfl) (by decide) (by decide) (by decide) (Nat.le_of_ble_eq_true rfl) (Nat.le_of_ble_eq_true rfl) d_M_init_29 (fun q3 c3 H hK hP hD hS => ?_)
  have hK : va_K D classes [(c0, .int), (c1, .int), (c2, .boolean), (c3, .int)] s := hK
  have hP : va_P D classes [(h0, .inr (1, [.ref q0, .int (nI 0), .ref q1, .ref q2, .int (nI 0), .null, .null, .null, .null, .null, .null, .null])), (q0, .inl (c0, 16, .inl (nF (fun _ => 0)))), (q1, .inl (c1, 3, .inl (nF (fun _ => 0)))), (q2, .inl (c2, 3, .inl (nF (fun _ => 0)))), (q3, .inl (c3, 20, .inl (nF (fun _ => 0))))] H := hP
  have hD : va_D A [(h0, .inr (1, [.ref q0, .int (nI 0), .ref q1, .ref q2, .int (nI 0), .null, .null, .null, .null, .null, .null, .null])), (q0, .inl (c0, 16, .inl (nF (fun _ => 0)))), (q1, .inl (c1, 3, .inl (nF (fun _ => 0)))), (q2, .inl (c2, 3, .inl (nF (fun _ => 0)))), (q3, .inl (c3, 20, .inl (nF (fun _ => 0))))] := hD
  refine W.widen (k := 4) (n := 42) (Nat.le_of_ble_eq_true rfl) (Nat.le_of_ble_eq_true rfl) ?_
  refine ptM hx hb hts hown hK hP hD hS fl_M_20 rfl (k := 5) (by decide) ⟨rfl, rfl, rfl, rfl⟩ (ty := .array .int) (by decide +kernel) rfl rfl (Nat.le_of_ble_eq_true rfl) d_M_init_31 (fun H locs hP hD hS => ?_)
  have hP : va_P D classes [(h0, .inr (1, [.ref q0, .int (nI 0), .ref q1, .ref q2, .int (nI 0), .ref q3, .null, .null, .null, .null, .null, .null])), (q0, .inl (c0, 16, .inl (nF (fun _ => 0)))), (q1, .inl (c1, 3, .inl (nF (fun _ => 0)))), (q2, .inl (c2, 3, .inl (nF (fun _ => 0)))), (q3, .inl (c3, 20, .inl (nF (fun _ => 0))))] H := hP
  have hD : va_D A [(h0, .inr (1, [.ref q0, .int (nI 0), .ref q1, .ref q2, .int (nI 0), .ref q3, .null, .null, .null, .null, .null, .null])), (q0, .inl (c0, 16, .inl (nF (fun _ => 0)))), (q1, .inl (c1, 3, .inl (nF (fun _ => 0)))), (q2, .inl (c2, 3, .inl (nF (fun _ => 0)))), (q3, .inl (c3, 20, .inl (nF (fun _ => 0))))] := hD
  refine lv_aload_n hx hb d_M_init_34 rfl (lv_at hl 0 rfl) ?_
  refine lv_bipush (v := nI 20) hx hb d_M_init_35 (by decide) ?_
  refine va_newa (atype := .int) hx hb (hts _ arr_I) (ty := .int) rfl hK hP hD hS hA (n := nI 20) (N' := 20) (a0 := (20, .inl (nF (fun _ => 0)))) (fun _ => rfl) (by decide) (by decide) (by decide) (Nat.le_of_ble_eq_true rfl) (Nat.le_of_ble_eq_true rfl) d_M_init_37 (fun q4 c4 H hK hP hD hS => ?_)
  have hK : va_K D classes [(c0, .int), (c1, .int), (c2, .boolean), (c3, .int), (c4, .int)] s := hK
  have hP : va_P D classes [(h0, .inr (1, [.ref q0, .int (nI 0), .ref q1, .ref q2, .int (nI 0), .ref q3, .null, .null, .null, .null, .null, .null])), (q0, .inl (c0, 16, .inl (nF (fun _ => 0)))), (q1, .inl (c1, 3, .inl (nF (fun _ => 0)))), (q2, .inl (c2, 3, .inl (nF (fun _ => 0)))), (q3, .inl (c3, 20, .inl (nF (fun _ => 0)))), (q4, .inl (c4, 20, .inl (nF (fun _ => 0))))] H := hP
  have hD : va_D A [(h0, .inr (1, [.ref q0, .int (nI 0), .ref q1, .ref q2, .int (nI 0), .ref q3, .null, .null, .null, .null, .null, .null])), (q0, .inl (c0, 16, .inl (nF (fun _ => 0)))), (q1, .inl (c1, 3, .inl (nF (fun _ => 0)))), (q2, .inl (c2, 3, .inl (nF (fun _ => 0)))), (q3, .inl (c3, 20, .inl (nF (fun _ => 0)))), (q4, .inl (c4, 20, .inl (nF (fun _ => 0))))] := hD
  refine W.widen (k := 5) (n := 62) (Nat.le_of_ble_eq_true rfl) (Nat.le_of_ble_eq_true rfl) ?_
  refine ptM hx hb hts hown hK hP hD hS fl_M_23 rfl (k := 6) (by decide) ⟨rfl, rfl, rfl, rfl⟩ (ty := .array .int) (by decide +kernel) rfl rfl (Nat.le_of_ble_eq_true rfl) d_M_init_39 (fun H locs hP hD hS => ?_)
  have hP : va_P D classes [(h0, .inr (1, [.ref q0, .int (nI 0), .ref q1, .ref q2, .int (nI 0), .ref q3, .ref q4, .null, .null, .null, .null, .null])), (q0, .inl (c0, 16, .inl (nF (fun _ => 0)))), (q1, .inl (c1, 3, .inl (nF (fun _ => 0)))), (q2, .inl (c2, 3, .inl (nF (fun _ => 0)))), (q3, .inl (c3, 20, .inl (nF (fun _ => 0)))), (q4, .inl (c4, 20, .inl (nF (fun _ => 0))))] H := hP
  have hD : va_D A [(h0, .inr (1, [.ref q0, .int (nI 0), .ref q1, .ref q2, .int (nI 0), .ref q3, .ref q4, .null, .null, .null, .null, .null])), (q0, .inl (c0, 16, .inl (nF (fun _ => 0)))), (q1, .inl (c1, 3, .inl (nF (fun _ => 0)))), (q2, .inl (c2, 3, .inl (nF (fun _ => 0)))), (q3, .inl (c3, 20, .inl (nF (fun _ => 0)))), (q4, .inl (c4, 20, .inl (nF (fun _ => 0))))] := hD
  refine lv_aload_n hx hb d_M_init_42 rfl (lv_at hl 0 rfl) ?_
  refine lv_bipush (v := nI 20) hx hb d_M_init_43 (by decide) ?_
  refine va_newa (atype := .int) hx hb (hts _ arr_I) (ty := .int) rfl hK hP hD hS hA (n := nI 20) (N' := 20) (a0 := (20, .inl (nF (fun _ => 0)))) (fun _ => rfl) (by decide) (by decide) (by decide) (Nat.le_of_ble_eq_true rfl) (Nat.le_of_ble_eq_true rfl) d_M_init_45 (fun q5 c5 H hK hP hD hS => ?_)
  have hK : va_K D classes [(c0, .int), (c1, .int), (c2, .boolean), (c3, .int), (c4, .int), (c5, .int)] s := hK
  have hP : va_P D classes [(h0, .inr (1, [.ref q0, .int (nI 0), .ref q1, .ref q2, .int (nI 0), .ref q3, .ref q4, .null, .null, .null, .null, .null])), (q0, .inl (c0, 16, .inl (nF (fun _ => 0)))), (q1, .inl (c1, 3, .inl (nF (fun _ => 0)))), (q2, .inl (c2, 3, .inl (nF (fun _ => 0)))), (q3, .inl (c3, 20, .inl (nF (fun _ => 0)))), (q4, .inl (c4, 20, .inl (nF (fun _ => 0)))), (q5, .inl (c5, 20, .inl (nF (fun _ => 0))))] H := hP
  have hD : va_D A [(h0, .inr (1, [.ref q0, .int (nI 0), .ref q1, .ref q2, .int (nI 0), .ref q3, .ref q4, .null, .null, .null, .null, .null])), (q0, .inl (c0, 16, .inl (nF (fun _ => 0)))), (q1, .inl (c1, 3, .inl (nF (fun _ => 0)))), (q2, .inl (c2, 3, .inl (nF (fun _ => 0)))), (q3, .inl (c3, 20, .inl (nF (fun _ => 0)))), (q4, .inl (c4, 20, .inl (nF (fun _ => 0)))), (q5, .inl (c5, 20, .inl (nF (fun _ => 0))))] := hD
  refine W.widen (k := 6) (n := 82) (Nat.le_of_ble_eq_true rfl) (Nat.le_of_ble_eq_true rfl) ?_
  refine ptM hx hb hts hown hK hP hD hS fl_M_26 rfl (k := 7) (by decide) ⟨rfl, rfl, rfl, rfl⟩ (ty := .array .int) (by decide +kernel) rfl rfl (Nat.le_of_ble_eq_true rfl) d_M_init_47 (fun H locs hP hD hS => ?_)
  have hP : va_P D classes [(h0, .inr (1, [.ref q0, .int (nI 0), .ref q1, .ref q2, .int (nI 0), .ref q3, .ref q4, .ref q5, .null, .null, .null, .null])), (q0, .inl (c0, 16, .inl (nF (fun _ => 0)))), (q1, .inl (c1, 3, .inl (nF (fun _ => 0)))), (q2, .inl (c2, 3, .inl (nF (fun _ => 0)))), (q3, .inl (c3, 20, .inl (nF (fun _ => 0)))), (q4, .inl (c4, 20, .inl (nF (fun _ => 0)))), (q5, .inl (c5, 20, .inl (nF (fun _ => 0))))] H := hP
  have hD : va_D A [(h0, .inr (1, [.ref q0, .int (nI 0), .ref q1, .ref q2, .int (nI 0), .ref q3, .ref q4, .ref q5, .null, .null, .null, .null])), (q0, .inl (c0, 16, .inl (nF (fun _ => 0)))), (q1, .inl (c1, 3, .inl (nF (fun _ => 0)))), (q2, .inl (c2, 3, .inl (nF (fun _ => 0)))), (q3, .inl (c3, 20, .inl (nF (fun _ => 0)))), (q4, .inl (c4, 20, .inl (nF (fun _ => 0)))), (q5, .inl (c5, 20, .inl (nF (fun _ => 0))))] := hD
  refine lv_aload_n hx hb d_M_init_50 rfl (lv_at hl 0 rfl) ?_
  refine lv_bipush (v := nI 60) hx hb d_M_init_51 (by decide) ?_
  refine va_newa (atype := .int) hx hb (hts _ arr_I) (ty := .int) rfl hK hP hD hS hA (n := nI 60) (N' := 60) (a0 := (60, .inl (nF (fun _ => 0)))) (fun _ => rfl) (by decide) (by decide) (by decide) (Nat.le_of_ble_eq_true rfl) (Nat.le_of_ble_eq_true rfl) d_M_init_53 (fun q6 c6 H hK hP hD hS => ?_)
  have hK : va_K D classes [(c0, .int), (c1, .int), (c2, .boolean), (c3, .int), (c4, .int), (c5, .int), (c6, .int)] s := hK
  have hP : va_P D classes [(h0, .inr (1, [.ref q0, .int (nI 0), .ref q1, .ref q2, .int (nI 0), .ref q3, .ref q4, .ref q5, .null, .null, .null, .null])), (q0, .inl (c0, 16, .inl (nF (fun _ => 0)))), (q1, .inl (c1, 3, .inl (nF (fun _ => 0)))), (q2, .inl (c2, 3, .inl (nF (fun _ => 0)))), (q3, .inl (c3, 20, .inl (nF (fun _ => 0)))), (q4, .inl (c4, 20, .inl (nF (fun _ => 0)))), (q5, .inl (c5, 20, .inl (nF (fun _ => 0)))), (q6, .inl (c6, 60, .inl (nF (fun _ => 0))))] H := hP
  have hD : va_D A [(h0, .inr (1, [.ref q0, .int (nI 0), .ref q1, .ref q2, .int (nI 0), .ref q3, .ref q4, .ref q5, .null, .null, .null, .null])), (q0, .inl (c0, 16, .inl (nF (fun _ => 0)))), (q1, .inl (c1, 3, .inl (nF (fun _ => 0)))), (q2, .inl (c2, 3, .inl (nF (fun _ => 0)))), (q3, .inl (c3, 20, .inl (nF (fun _ => 0)))), (q4, .inl (c4, 20, .inl (nF (fun _ => 0)))), (q5, .inl (c5, 20, .inl (nF (fun _ => 0)))), (q6, .inl (c6, 60, .inl (nF (fun _ => 0))))] := hD
  refine W.widen (k := 7) (n := 142) (Nat.le_of_ble_eq_true rfl) (Nat.le_of_ble_eq_true rfl) ?_
  refine ptM hx hb hts hown hK hP hD hS fl_M_29 rfl (k := 8) (by decide) ⟨rfl, rfl, rfl, rfl⟩ (ty := .array .int) (by decide +kernel) rfl rfl (Nat.le_of_ble_eq_true rfl) d_M_init_55 (fun H locs hP hD hS => ?_)
  have hP : va_P D classes [(h0, .inr (1, [.ref q0, .int (nI 0), .ref q1, .ref q2, .int (nI 0), .ref q3, .ref q4, .ref q5, .ref q6, .null, .null, .null])), (q0, .inl (c0, 16, .inl (nF (fun _ => 0)))), (q1, .inl (c1, 3, .inl (nF (fun _ => 0)))), (q2, .inl (c2, 3, .inl (nF (fun _ => 0)))), (q3, .inl (c3, 20, .inl (nF (fun _ => 0)))), (q4, .inl (c4, 20, .inl (nF (fun _ => 0)))), (q5, .inl (c5, 20, .inl (nF (fun _ => 0)))), (q6, .inl (c6, 60, .inl (nF (fun _ => 0))))] H := hP
  have hD : va_D A [(h0, .inr (1, [.ref q0, .int (nI 0), .ref q1, .ref q2, .int (nI 0), .ref q3, .ref q4, .ref q5, .ref q6, .null, .null, .null])), (q0, .inl (c0, 16, .inl (nF (fun _ => 0)))), (q1, .inl (c1, 3, .inl (nF (fun _ => 0)))), (q2, .inl (c2, 3, .inl (nF (fun _ => 0)))), (q3, .inl (c3, 20, .inl (nF (fun _ => 0)))), (q4, .inl (c4, 20, .inl (nF (fun _ => 0)))), (q5, .inl (c5, 20, .inl (nF (fun _ => 0)))), (q6, .inl (c6, 60, .inl (nF (fun _ => 0))))] := hD
  refine lv_aload_n hx hb d_M_init_58 rfl (lv_at hl 0 rfl) ?_
  refine lv_bipush (v := nI 60) hx hb d_M_init_59 (by decide) ?_
  refine va_newa (atype := .boolean) hx hb (hts _ arr_Z) (ty := .boolean) rfl hK hP hD hS hA (n := nI 60) (N' := 60) (a0 := (60, .inl (nF (fun _ => 0)))) (fun _ => rfl) (by decide) (by decide) (by decide) (Nat.le_of_ble_eq_true rfl) (Nat.le_of_ble_eq_true rfl) d_M_init_61 (fun q7 c7 H hK hP hD hS => ?_)
  have hK : va_K D classes [(c0, .int), (c1, .int), (c2, .boolean), (c3, .int), (c4, .int), (c5, .int), (c6, .int), (c7, .boolean)] s := hK
  have hP : va_P D classes [(h0, .inr (1, [.ref q0, .int (nI 0), .ref q1, .ref q2, .int (nI 0), .ref q3, .ref q4, .ref q5, .ref q6, .null, .null, .null])), (q0, .inl (c0, 16, .inl (nF (fun _ => 0)))), (q1, .inl (c1, 3, .inl (nF (fun _ => 0)))), (q2, .inl (c2, 3, .inl (nF (fun _ => 0)))), (q3, .inl (c3, 20, .inl (nF (fun _ => 0)))), (q4, .inl (c4, 20, .inl (nF (fun _ => 0)))), (q5, .inl (c5, 20, .inl (nF (fun _ => 0)))), (q6, .inl (c6, 60, .inl (nF (fun _ => 0)))), (q7, .inl (c7, 60, .inl (nF (fun _ => 0))))] H := hP
  have hD : va_D A [(h0, .inr (1, [.ref q0, .int (nI 0), .ref q1, .ref q2, .int (nI 0), .ref q3, .ref q4, .ref q5, .ref q6, .null, .null, .null])), (q0, .inl (c0, 16, .inl (nF (fun _ => 0)))), (q1, .inl (c1, 3, .inl (nF (fun _ => 0)))), (q2, .inl (c2, 3, .inl (nF (fun _ => 0)))), (q3, .inl (c3, 20, .inl (nF (fun _ => 0)))), (q4, .inl (c4, 20, .inl (nF (fun _ => 0)))), (q5, .inl (c5, 20, .inl (nF (fun _ => 0)))), (q6, .inl (c6, 60, .inl (nF (fun _ => 0)))), (q7, .inl (c7, 60, .inl (nF (fun _ => 0))))] := hD
  refine W.widen (k := 8) (n := 202) (Nat.le_of_ble_eq_true rfl) (Nat.le_of_ble_eq_true rfl) ?_
  refine ptM hx hb hts hown hK hP hD hS fl_M_32 rfl (k := 9) (by decide) ⟨rfl, rfl, rfl, rfl⟩ (ty := .array .boolean) (by decide +kernel) rfl rfl (Nat.le_of_ble_eq_true rfl) d_M_init_63 (fun H locs hP hD hS => ?_)
  have hP : va_P D classes [(h0, .inr (1, [.ref q0, .int (nI 0), .ref q1, .ref q2, .int (nI 0), .ref q3, .ref q4, .ref q5, .ref q6, .ref q7, .null, .null])), (q0, .inl (c0, 16, .inl (nF (fun _ => 0)))), (q1, .inl (c1, 3, .inl (nF (fun _ => 0)))), (q2, .inl (c2, 3, .inl (nF (fun _ => 0)))), (q3, .inl (c3, 20, .inl (nF (fun _ => 0)))), (q4, .inl (c4, 20, .inl (nF (fun _ => 0)))), (q5, .inl (c5, 20, .inl (nF (fun _ => 0)))), (q6, .inl (c6, 60, .inl (nF (fun _ => 0)))), (q7, .inl (c7, 60, .inl (nF (fun _ => 0))))] H := hP
  have hD : va_D A [(h0, .inr (1, [.ref q0, .int (nI 0), .ref q1, .ref q2, .int (nI 0), .ref q3, .ref q4, .ref q5, .ref q6, .ref q7, .null, .null])), (q0, .inl (c0, 16, .inl (nF (fun _ => 0)))), (q1, .inl (c1, 3, .inl (nF (fun _ => 0)))), (q2, .inl (c2, 3, .inl (nF (fun _ => 0)))), (q3, .inl (c3, 20, .inl (nF (fun _ => 0)))), (q4, .inl (c4, 20, .inl (nF (fun _ => 0)))), (q5, .inl (c5, 20, .inl (nF (fun _ => 0)))), (q6, .inl (c6, 60, .inl (nF (fun _ => 0)))), (q7, .inl (c7, 60, .inl (nF (fun _ => 0))))] := hD
  refine lv_aload_n hx hb d_M_init_66 rfl (lv_at hl 0 rfl) ?_
  refine lv_bipush (v := nI 16) hx hb d_M_init_67 (by decide) ?_
  refine va_newa (atype := .int) hx hb (hts _ arr_I) (ty := .int) rfl hK hP hD hS hA (n := nI 16) (N' := 16) (a0 := (16, .inl (nF (fun _ => 0)))) (fun _ => rfl) (by decide) (by decide) (by decide) (Nat.le_of_ble_eq_true rfl) (Nat.le_of_ble_eq_true rfl) d_M_init_69 (fun q8 c8 H hK hP hD hS => ?_)
  have hK : va_K D classes [(c0, .int), (c1, .int), (c2, .boolean), (c3, .int), (c4, .int), (c5, .int), (c6, .int), (c7, .boolean), (c8, .int)] s := hK
  have hP : va_P D classes [(h0, .inr (1, [.ref q0, .int (nI 0), .ref q1, .ref q2, .int (nI 0), .ref q3, .ref q4, .ref q5, .ref q6, .ref q7, .null, .null])), (q0, .inl (c0, 16, .inl (nF (fun _ => 0)))), (q1, .inl (c1, 3, .inl (nF (fun _ => 0)))), (q2, .inl (c2, 3, .inl (nF (fun _ => 0)))), (q3, .inl (c3, 20, .inl (nF (fun _ => 0)))), (q4, .inl (c4, 20, .inl (nF (fun _ => 0)))), (q5, .inl (c5, 20, .inl (nF (fun _ => 0)))), (q6, .inl (c6, 60, .inl (nF (fun _ => 0)))), (q7, .inl (c7, 60, .inl (nF (fun _ => 0)))), (q8, .inl (c8, 16, .inl (nF (fun _ => 0))))] H := hP
  have hD : va_D A [(h0, .inr (1, [.ref q0, .int (nI 0), .ref q1, .ref q2, .int (nI 0), .ref q3, .ref q4, .ref q5, .ref q6, .ref q7, .null, .null])), (q0, .inl (c0, 16, .inl (nF (fun _ => 0)))), (q1, .inl (c1, 3, .inl (nF (fun _ => 0)))), (q2, .inl (c2, 3, .inl (nF (fun _ => 0)))), (q3, .inl (c3, 20, .inl (nF (fun _ => 0)))), (q4, .inl (c4, 20, .inl (nF (fun _ => 0)))), (q5, .inl (c5, 20, .inl (nF (fun _ => 0)))), (q6, .inl (c6, 60, .inl (nF (fun _ => 0)))), (q7, .inl (c7, 60, .inl (nF (fun _ => 0)))), (q8, .inl (c8, 16, .inl (nF (fun _ => 0))))] := hD
  refine W.widen (k := 9) (n := 218) (Nat.le_of_ble_eq_true rfl) (Nat.le_of_ble_eq_true rfl) ?_
  refine ptM hx hb hts hown hK hP hD hS fl_M_35 rfl (k := 10) (by decide) ⟨rfl, rfl, rfl, rfl⟩ (ty := .array .int) (by decide +kernel) rfl rfl (Nat.le_of_ble_eq_true rfl) d_M_init_71 (fun H locs hP hD hS => ?_)
  have hP : va_P D classes [(h0, .inr (1, [.ref q0, .int (nI 0), .ref q1, .ref q2, .int (nI 0), .ref q3, .ref q4, .ref q5, .ref q6, .ref q7, .ref q8, .null])), (q0, .inl (c0, 16, .inl (nF (fun _ => 0)))), (q1, .inl (c1, 3, .inl (nF (fun _ => 0)))), (q2, .inl (c2, 3, .inl (nF (fun _ => 0)))), (q3, .inl (c3, 20, .inl (nF (fun _ => 0)))), (q4, .inl (c4, 20, .inl (nF (fun _ => 0)))), (q5, .inl (c5, 20, .inl (nF (fun _ => 0)))), (q6, .inl (c6, 60, .inl (nF (fun _ => 0)))), (q7, .inl (c7, 60, .inl (nF (fun _ => 0)))), (q8, .inl (c8, 16, .inl (nF (fun _ => 0))))] H := hP
  have hD : va_D A [(h0, .inr (1, [.ref q0, .int (nI 0), .ref q1, .ref q2, .int (nI 0), .ref q3, .ref q4, .ref q5, .ref q6, .ref q7, .ref q8, .null])), (q0, .inl (c0, 16, .inl (nF (fun _ => 0)))), (q1, .inl (c1, 3, .inl (nF (fun _ => 0)))), (q2, .inl (c2, 3, .inl (nF (fun _ => 0)))), (q3, .inl (c3, 20, .inl (nF (fun _ => 0)))), (q4, .inl (c4, 20, .inl (nF (fun _ => 0)))), (q5, .inl (c5, 20, .inl (nF (fun _ => 0)))), (q6, .inl (c6, 60, .inl (nF (fun _ => 0)))), (q7, .inl (c7, 60, .inl (nF (fun _ => 0)))), (q8, .inl (c8, 16, .inl (nF (fun _ => 0))))] := hD
  refine lv_aload_n hx hb d_M_init_74 rfl (lv_at hl 0 rfl) ?_
  refine lv_bipush (v := nI 16) hx hb d_M_init_75 (by decide) ?_
  refine va_newa (atype := .int) hx hb (hts _ arr_I) (ty := .int) rfl hK hP hD hS hA (n := nI 16) (N' := 16) (a0 := (16, .inl (nF (fun _ => 0)))) (fun _ => rfl) (by decide) (by decide) (by decide) (Nat.le_of_ble_eq_true rfl) (Nat.le_of_ble_eq_true rfl) d_M_init_77 (fun q9 c9 H hK hP hD hS => ?_)
  have hK : va_K D classes [(c0, .int), (c1, .int), (c2, .boolean), (c3, .int), (c4, .int), (c5, .int), (c6, .int), (c7, .boolean), (c8, .int), (c9, .int)] s := hK
  have hP : va_P D classes [(h0, .inr (1, [.ref q0, .int (nI 0), .ref q1, .ref q2, .int (nI 0), .ref q3, .ref q4, .ref q5, .ref q6, .ref q7, .ref q8, .null])), (q0, .inl (c0, 16, .inl (nF (fun _ => 0)))), (q1, .inl (c1, 3, .inl (nF (fun _ => 0)))), (q2, .inl (c2, 3, .inl (nF (fun _ => 0)))), (q3, .inl (c3, 20, .inl (nF (fun _ => 0)))), (q4, .inl (c4, 20, .inl (nF (fun _ => 0)))), (q5, .inl (c5, 20, .inl (nF (fun _ => 0)))), (q6, .inl (c6, 60, .inl (nF (fun _ => 0)))), (q7, .inl (c7, 60, .inl (nF (fun _ => 0)))), (q8, .inl (c8, 16, .inl (nF (fun _ => 0)))), (q9, .inl (c9, 16, .inl (nF (fun _ => 0))))] H := hP
  have hD : va_D A [(h0, .inr (1, [.ref q0, .int (nI 0), .ref q1, .ref q2, .int (nI 0), .ref q3, .ref q4, .ref q5, .ref q6, .ref q7, .ref q8, .null])), (q0, .inl (c0, 16, .inl (nF (fun _ => 0)))), (q1, .inl (c1, 3, .inl (nF (fun _ => 0)))), (q2, .inl (c2, 3, .inl (nF (fun _ => 0)))), (q3, .inl (c3, 20, .inl (nF (fun _ => 0)))), (q4, .inl (c4, 20, .inl (nF (fun _ => 0)))), (q5, .inl (c5, 20, .inl (nF (fun _ => 0)))), (q6, .inl (c6, 60, .inl (nF (fun _ => 0)))), (q7, .inl (c7, 60, .inl (nF (fun _ => 0)))), (q8, .inl (c8, 16, .inl (nF (fun _ => 0)))), (q9, .inl (c9, 16, .inl (nF (fun _ => 0))))] := hD
  refine W.widen (k := 10) (n := 234) (Nat.le_of_ble_eq_true rfl) (Nat.le_of_ble_eq_true rfl) ?_
  refine ptM hx hb hts hown hK hP hD hS fl_M_38 rfl (k := 11) (by decide) ⟨rfl, rfl, rfl, rfl⟩ (ty := .array .int) (by decide +kernel) rfl rfl (Nat.le_of_ble_eq_true rfl) d_M_init_79 (fun H locs hP hD hS => ?_)
  have hP : va_P D classes [(h0, .inr (1, [.ref q0, .int (nI 0), .ref q1, .ref q2, .int (nI 0), .ref q3, .ref q4, .ref q5, .ref q6, .ref q7, .ref q8, .ref q9])), (q0, .inl (c0, 16, .inl (nF (fun _ => 0)))), (q1, .inl (c1, 3, .inl (nF (fun _ => 0)))), (q2, .inl (c2, 3, .inl (nF (fun _ => 0)))), (q3, .inl (c3, 20, .inl (nF (fun _ => 0)))), (q4, .inl (c4, 20, .inl (nF (fun _ => 0)))), (q5, .inl (c5, 20, .inl (nF (fun _ => 0)))), (q6, .inl (c6, 60, .inl (nF (fun _ => 0)))), (q7, .inl (c7, 60, .inl (nF (fun _ => 0)))), (q8, .inl (c8, 16, .inl (nF (fun _ => 0)))), (q9, .inl (c9, 16, .inl (nF (fun _ => 0))))] H := hP
  have hD : va_D A [(h0, .inr (1, [.ref q0, .int (nI 0), .ref q1, .ref q2, .int (nI 0), .ref q3, .ref q4, .ref q5, .ref q6, .ref q7, .ref q8, .ref q9])), (q0, .inl (c0, 16, .inl (nF (fun _ => 0)))), (q1, .inl (c1, 3, .inl (nF (fun _ => 0)))), (q2, .inl (c2, 3, .inl (nF (fun _ => 0)))), (q3, .inl (c3, 20, .inl (nF (fun _ => 0)))), (q4, .inl (c4, 20, .inl (nF (fun _ => 0)))), (q5, .inl (c5, 20, .inl (nF (fun _ => 0)))), (q6, .inl (c6, 60, .inl (nF (fun _ => 0)))), (q7, .inl (c7, 60, .inl (nF (fun _ => 0)))), (q8, .inl (c8, 16, .inl (nF (fun _ => 0)))), (q9, .inl (c9, 16, .inl (nF (fun _ => 0))))] := hD
  have hP : va_P D classes (wM h0 (l10 q0 q1 q2 q3 q4 q5 q6 q7 q8 q9) (l10 c0 c1 c2 c3 c4 c5 c6 c7 c8 c9) (fun _ => 0) (fun _ => 0) (fun _ => 0) (fun _ => 0) (fun _ => 0) (fun _ => 0) (fun _ => 0) (fun _ => 0) (fun _ => 0) (fun _ => 0) 0 0) H := hP
  have hD : va_D A (wM h0 (l10 q0 q1 q2 q3 q4 q5 q6 q7 q8 q9) (l10 c0 c1 c2 c3 c4 c5 c6 c7 c8 c9) (fun _ => 0) (fun _ => 0) (fun _ => 0) (fun _ => 0) (fun _ => 0) (fun _ => 0) (fun _ => 0) (fun _ => 0) (fun _ => 0) (fun _ => 0) 0 0) := hD
  have hK : va_K D classes (yM (l10 c0 c1 c2 c3 c4 c5 c6 c7 c8 c9)) s := hK
  subst hAe hQ
  exact W.vret hx hb hr (fun t ht hW => ⟨⟨(l10 q0 q1 q2 q3 q4 q5 q6 q7 q8 q9, l10 c0 c1 c2 c3 c4 c5 c6 c7 c8 c9), rfl, trivial, by rw [ht]; exact hP, va_K.moved hW.alike hK, hD⟩, hS.F ht⟩) hS.2.2 d_M_init_82
end
section
/-! ===== what holds between the class and the reference at the head of the law's loop ===== -/
def li (hd st sz pt ng dp dn se va of sl kp : Nat → Nat) (ds cn cu : Nat) (pt2 ng2 va2 kp2 : Nat → Nat) : Prop :=
  bX hd st sz pt ng dp dn se va of sl kp ds cn cu ∧ bM se dp dn hd st sz pt2 ng2 va2 kp2 ds cn ∧ ch_ok hd sz pt ng cn ∧ (∀ r, r < cn → ∀ k, k < sz r → pt2 (3 * r + k) = pt (3 * r + k) ∧ ng2 (3 * r + k) = ng (3 * r + k)) ∧ (cu ≠ 0 → ch_Sol (ch_wor st sz pt ng) hd cn se (-1) va)
section LI
variable {hd st sz pt ng dp dn se va of sl kp : Nat → Nat} {ds cn cu : Nat} {pt2 ng2 va2 kp2 : Nat → Nat}
theorem li_0 : li (fun _ => 0) (fun _ => 0) (fun _ => 0) (fun _ => 0) (fun _ => 0) (fun _ => 0) (fun _ => 0) (fun _ => 0) (fun _ => 0) (fun _ => 0) (fun _ => 0) (fun _ => 0) 0 0 0 (fun _ => 0) (fun _ => 0) (fun _ => 0) (fun _ => 0) := by
  have z : ∀ B, ch_bd B (fun _ => 0) := fun _ _ => Nat.zero_le _
  exact ⟨⟨z _, z _, z _, z _, z _, z _, z _, z _, z _, z _, z _, z _, Nat.zero_le _, Nat.zero_le _, Nat.zero_le _⟩, ⟨z _, z _, z _, z _, z _, z _, z _, z _, z _, z _, Nat.zero_le _, Nat.zero_le _⟩, fun r h => absurd h (Nat.not_lt_zero _), fun r h => absurd h (Nat.not_lt_zero _), fun h => absurd rfl h⟩
theorem li_ok2 (h : li hd st sz pt ng dp dn se va of sl kp ds cn cu pt2 ng2 va2 kp2) : ch_ok hd sz pt2 ng2 cn := by
  intro r hr k hk
  obtain ⟨e1, e2⟩ := h.2.2.2.1 r hr k hk
  rw [e1, e2]
  exact h.2.2.1 r hr k hk
theorem li_wo (h : li hd st sz pt ng dp dn se va of sl kp ds cn cu pt2 ng2 va2 kp2) : ∀ (U : Nat → Nat) (r : Nat), r < cn → ch_wor st sz pt ng U r = ch_wor st sz pt2 ng2 U r := by
  intro U r hr
  apply ch_wor_eq
  intro k hk
  obtain ⟨e1, e2⟩ := h.2.2.2.1 r hr k hk
  unfold ch_pv
  rw [e1, e2]
theorem li_slv (h : li hd st sz pt ng dp dn se va of sl kp ds cn cu pt2 ng2 va2 kp2) : ∃ V, ch_Slv (ch_wor st sz pt ng) hd cn V ∧ ch_Slv (ch_wor st sz pt2 ng2) hd cn V := by
  have hst : ch_bd 100 st := h.1.2.1
  have hex : ∀ (se : Nat → Nat) (sk : Int32), ∃ v, ch_bd 100 se → ch_Sol (ch_wor st sz pt ng) hd cn se sk v := by
    intro se sk
    by_cases q : ch_bd 100 se
    · obtain ⟨v, hv, -⟩ := ch_Sol_ex (sk := sk) h.2.2.1 hst q
      exact ⟨v, fun _ => hv⟩
    · exact ⟨fun _ => 0, fun z => absurd z q⟩
  refine ⟨fun se sk => Classical.choose (hex se sk), fun se sk hb => Classical.choose_spec (hex se sk) hb, fun se sk hb => ?_⟩
  exact ch_Sol_cg (li_wo h) (fun _ _ => rfl) (Classical.choose_spec (hex se sk) hb)
/-- a question: the scratch cells change -/
theorem li_q {va' of' sl' kp' va2' kp2' : Nat → Nat} {cu' : Nat} (h : li hd st sz pt ng dp dn se va of sl kp ds cn cu pt2 ng2 va2 kp2) (q : ch_bd 100 va' ∧ ch_bd 100 of' ∧ ch_bd 1 sl' ∧ ch_bd 100 kp' ∧ cu' ≤ 1 ∧ (cu' ≠ 0 → ch_Sol (ch_wor st sz pt ng) hd cn se (-1) va')) (q2 : ch_bd 100 va2' ∧ ch_bd 100 kp2') : li hd st sz pt ng dp dn se va' of' sl' kp' ds cn cu' pt2 ng2 va2' kp2' := by
  obtain ⟨⟨a1, a2, a3, a4, a5, a6, a7, a8, -, -, -, -, a13, a14, -⟩, ⟨b1, b2, b3, b4, b5, b6, b7, b8, -, -, b11, b12⟩, c1, c2, -⟩ := h
  obtain ⟨d1, d2, d3, d4, d5, d6⟩ := q
  exact ⟨⟨a1, a2, a3, a4, a5, a6, a7, a8, d1, d2, d3, d4, a13, a14, d5⟩, ⟨b1, b2, b3, b4, b5, b6, b7, b8, q2.1, q2.2, b11, b12⟩, c1, c2, d6⟩
theorem ch_tn_le {x : Int32} {n : Nat} (h : ch_ic x n = true) (hn : n < 2 ^ 31) : ch_tn x < n := by
  obtain ⟨j, hj, rfl⟩ := ch_ic_get h hn
  rw [ch_tn_nI (by omega)]; exact hj
theorem ch_b_le (y : Int32) : ch_b y ≤ 1 := by
  unfold ch_b
  split <;> omega
theorem sp_prem_n {x : Int32} (h : sp_prem x ds = none) : ch_ic x 16 = true ∧ ds ≠ 3 := by
  unfold sp_prem at h
  split at h
  · next h1 =>
    split at h
    · cases h
    · next h2 => exact ⟨h1, h2⟩
  · cases h
theorem li_prem {x y : Int32} (h : li hd st sz pt ng dp dn se va of sl kp ds cn cu pt2 ng2 va2 kp2) (q : sp_prem x ds = none) : li hd st sz pt ng (ch_up dp ds (ch_tn x)) (ch_up dn ds (ch_b y)) se va of sl kp (ds + 1) cn cu pt2 ng2 va2 kp2 := by
  obtain ⟨⟨a1, a2, a3, a4, a5, a6, a7, a8, a9, a10, a11, a12, a13, a14, a15⟩, ⟨b1, b2, b3, b4, b5, b6, b7, b8, b9, b10, b11, b12⟩, c1, c2, c3⟩ := h
  obtain ⟨q1, q2⟩ := sp_prem_n q
  have hx := ch_tn_le q1 (by decide)
  have e1 := ch_bd_up (k := ds) a6 (Nat.le_of_lt_succ hx)
  have e2 := ch_bd_up (k := ds) a7 (ch_b_le y)
  exact ⟨⟨a1, a2, a3, a4, a5, e1, e2, a8, a9, a10, a11, a12, by omega, a14, a15⟩, ⟨b1, e1, e2, b4, b5, b6, b7, b8, b9, b10, by omega, b12⟩, c1, c2, c3⟩
theorem li_clear (h : li hd st sz pt ng dp dn se va of sl kp ds cn cu pt2 ng2 va2 kp2) : li hd st sz pt ng dp dn se va of sl kp 0 cn cu pt2 ng2 va2 kp2 := by
  obtain ⟨⟨a1, a2, a3, a4, a5, a6, a7, a8, a9, a10, a11, a12, a13, a14, a15⟩, ⟨b1, b2, b3, b4, b5, b6, b7, b8, b9, b10, b11, b12⟩, c1, c2, c3⟩ := h
  exact ⟨⟨a1, a2, a3, a4, a5, a6, a7, a8, a9, a10, a11, a12, Nat.zero_le _, a14, a15⟩, ⟨b1, b2, b3, b4, b5, b6, b7, b8, b9, b10, Nat.zero_le _, b12⟩, c1, c2, c3⟩
theorem sp_rule_n {x y : Int32} (h : sp_rule x y dp dn ds cn = none) : ch_ic x 16 = true ∧ ch_tn y ≤ 100 ∧ sp_hi (ch_tn x) dp dn ds = false ∧ cn ≠ 20 := by
  unfold sp_rule at h
  split at h
  · next h1 =>
    split at h
    · cases h
    · next h2 =>
      split at h
      · cases h
      · next h3 =>
        split at h
        · cases h
        · next h4 =>
          obtain ⟨s, hs, rfl⟩ := nr_rng1 (fun z => h2 (Or.inl z)) (Decidable.not_not.mp (fun z => h2 (Or.inr z)))
          refine ⟨h1, by rw [ch_tn_nI (by omega)]; exact hs, ?_, h4⟩
          cases e : sp_hi (ch_tn x) dp dn ds with
          | false => rfl
          | true => exact absurd e h3
  · cases h
theorem li_rule {x y : Int32} (h : li hd st sz pt ng dp dn se va of sl kp ds cn cu pt2 ng2 va2 kp2) (q : sp_rule x y dp dn ds cn = none) : li (ch_up hd cn (ch_tn x)) (ch_up st cn (ch_tn y)) (ch_up sz cn ds) (ch_cp pt dp (3 * cn) ds) (ch_cp ng dn (3 * cn) ds) dp dn se va of sl kp 0 (cn + 1) 0 (ch_cp pt2 dp (3 * cn) 3) (ch_cp ng2 dn (3 * cn) 3) va2 kp2 := by
  obtain ⟨⟨a1, a2, a3, a4, a5, a6, a7, a8, a9, a10, a11, a12, a13, a14, a15⟩, ⟨b1, b2, b3, b4, b5, b6, b7, b8, b9, b10, b11, b12⟩, c1, c2, c3⟩ := h
  obtain ⟨q1, q2, q3, q4⟩ := sp_rule_n q
  have hx := ch_tn_le q1 (by decide)
  have e1 := ch_bd_up (k := cn) a1 (Nat.le_of_lt_succ hx)
  have e2 := ch_bd_up (k := cn) a2 q2
  have e3 := ch_bd_up (k := cn) a3 a13
  refine ⟨⟨e1, e2, e3, ch_cp_bd a4 a6, ch_cp_bd a5 a7, a6, a7, a8, a9, a10, a11, a12, Nat.zero_le _, by omega, Nat.zero_le _⟩, ⟨b1, b2, b3, e1, e2, e3, ch_cp_bd b7 b2, ch_cp_bd b8 b3, b9, b10, Nat.zero_le _, by omega⟩, fun r hr k hk => ?_, fun r hr k hk => ?_, fun z => absurd rfl z⟩
  · by_cases e : r = cn
    · subst e
      rw [ch_up_s] at hk ⊢
      rw [ch_cp_in hk, ch_cp_in hk]
      have := sp_hi_all q3 hk
      omega
    · rw [ch_up_n e] at hk ⊢
      have := a3 r
      rw [ch_cp_out (by omega), ch_cp_out (by omega)]
      exact c1 r (by omega) k hk
  · by_cases e : r = cn
    · subst e
      rw [ch_up_s] at hk
      rw [ch_cp_in hk, ch_cp_in hk, ch_cp_in (by omega), ch_cp_in (by omega)]
      exact ⟨rfl, rfl⟩
    · rw [ch_up_n e] at hk
      have := a3 r
      rw [ch_cp_out (by omega), ch_cp_out (by omega), ch_cp_out (by omega), ch_cp_out (by omega)]
      exact c2 r (by omega) k hk
theorem ch_sh_in {f : Nat → Nat} {lo hi d j : Nat} (h : lo ≤ j ∧ j < hi) : ch_sh f lo hi d j = f (j + d) := if_pos h
theorem ch_sh_out {f : Nat → Nat} {lo hi d j : Nat} (h : ¬ (lo ≤ j ∧ j < hi)) : ch_sh f lo hi d j = f j := if_neg h
theorem sp_rem_n {x : Int32} (h : sp_rem x cn = none) : ch_ic x cn = true := by
  unfold sp_rem at h
  split at h
  · next h1 => exact h1
  · cases h
theorem li_rem {x : Int32} (h : li hd st sz pt ng dp dn se va of sl kp ds cn cu pt2 ng2 va2 kp2) (q : sp_rem x cn = none) : li (ch_sh hd (ch_tn x) (cn - 1) 1) (ch_sh st (ch_tn x) (cn - 1) 1) (ch_sh sz (ch_tn x) (cn - 1) 1) (ch_sh pt (3 * ch_tn x) (3 * (cn - 1)) 3) (ch_sh ng (3 * ch_tn x) (3 * (cn - 1)) 3) dp dn se va of sl kp ds (cn - 1) 0 (ch_sh pt2 (3 * ch_tn x) (3 * (cn - 1)) 3) (ch_sh ng2 (3 * ch_tn x) (3 * (cn - 1)) 3) va2 kp2 := by
  obtain ⟨⟨a1, a2, a3, a4, a5, a6, a7, a8, a9, a10, a11, a12, a13, a14, a15⟩, ⟨b1, b2, b3, b4, b5, b6, b7, b8, b9, b10, b11, b12⟩, c1, c2, c3⟩ := h
  have hx := ch_tn_le (sp_rem_n q) (by omega)
  generalize ch_tn x = j at hx ⊢
  refine ⟨⟨ch_sh_bd a1, ch_sh_bd a2, ch_sh_bd a3, ch_sh_bd a4, ch_sh_bd a5, a6, a7, a8, a9, a10, a11, a12, a13, by omega, Nat.zero_le _⟩, ⟨b1, b2, b3, ch_sh_bd b4, ch_sh_bd b5, ch_sh_bd b6, ch_sh_bd b7, ch_sh_bd b8, b9, b10, b11, by omega⟩, fun r hr k hk => ?_, fun r hr k hk => ?_, fun z => absurd rfl z⟩
  · by_cases e : j ≤ r
    · rw [ch_sh_in ⟨e, hr⟩] at hk
      have h3 := a3 (r + 1)
      rw [ch_sh_in ⟨e, hr⟩, ch_sh_in (by omega), ch_sh_in (by omega), show 3 * r + k + 3 = 3 * (r + 1) + k by omega]
      exact c1 (r + 1) (by omega) k hk
    · rw [ch_sh_out (by omega)] at hk
      have h3 := a3 r
      rw [ch_sh_out (by omega), ch_sh_out (by omega), ch_sh_out (by omega)]
      exact c1 r (by omega) k hk
  · by_cases e : j ≤ r
    · rw [ch_sh_in ⟨e, hr⟩] at hk
      have h3 := a3 (r + 1)
      rw [ch_sh_in (by omega), ch_sh_in (by omega), ch_sh_in (by omega), ch_sh_in (by omega), show 3 * r + k + 3 = 3 * (r + 1) + k by omega]
      exact c2 (r + 1) (by omega) k hk
    · rw [ch_sh_out (by omega)] at hk
      have h3 := a3 r
      rw [ch_sh_out (by omega), ch_sh_out (by omega), ch_sh_out (by omega), ch_sh_out (by omega)]
      exact c2 r (by omega) k hk
theorem sp_str_n {x y : Int32} (h : sp_str x y cn = none) : ch_ic x cn = true ∧ ch_tn y ≤ 100 := by
  unfold sp_str at h
  split at h
  · next h1 =>
    split at h
    · cases h
    · next h2 =>
      obtain ⟨s, hs, rfl⟩ := nr_rng1 (fun z => h2 (Or.inl z)) (Decidable.not_not.mp (fun z => h2 (Or.inr z)))
      exact ⟨h1, by rw [ch_tn_nI (by omega)]; exact hs⟩
  · cases h
theorem li_str {x y : Int32} (h : li hd st sz pt ng dp dn se va of sl kp ds cn cu pt2 ng2 va2 kp2) (q : sp_str x y cn = none) : li hd (ch_up st (ch_tn x) (ch_tn y)) sz pt ng dp dn se va of sl kp ds cn 0 pt2 ng2 va2 kp2 := by
  obtain ⟨⟨a1, a2, a3, a4, a5, a6, a7, a8, a9, a10, a11, a12, a13, a14, a15⟩, ⟨b1, b2, b3, b4, b5, b6, b7, b8, b9, b10, b11, b12⟩, c1, c2, c3⟩ := h
  have e2 := ch_bd_up (k := ch_tn x) a2 (sp_str_n q).2
  exact ⟨⟨a1, e2, a3, a4, a5, a6, a7, a8, a9, a10, a11, a12, a13, a14, Nat.zero_le _⟩, ⟨b1, b2, b3, b4, e2, b6, b7, b8, b9, b10, b11, b12⟩, c1, c2, fun z => absurd rfl z⟩
theorem sp_obs_n {x y : Int32} (h : sp_obs x y = none) : ch_ic x 16 = true ∧ ch_tn y ≤ 100 := by
  unfold sp_obs at h
  split at h
  · next h1 =>
    split at h
    · cases h
    · next h2 =>
      obtain ⟨s, hs, rfl⟩ := nr_rng0 (fun z => h2 (Or.inl z)) (Decidable.not_not.mp (fun z => h2 (Or.inr z)))
      exact ⟨h1, by rw [ch_tn_nI (by omega)]; exact hs⟩
  · cases h
theorem li_obs {x y : Int32} (h : li hd st sz pt ng dp dn se va of sl kp ds cn cu pt2 ng2 va2 kp2) (q : sp_obs x y = none) : li hd st sz pt ng dp dn (ch_up se (ch_tn x) (ch_tn y)) va of sl kp ds cn 0 pt2 ng2 va2 kp2 := by
  obtain ⟨⟨a1, a2, a3, a4, a5, a6, a7, a8, a9, a10, a11, a12, a13, a14, a15⟩, ⟨b1, b2, b3, b4, b5, b6, b7, b8, b9, b10, b11, b12⟩, c1, c2, c3⟩ := h
  have e2 := ch_bd_up (k := ch_tn x) a8 (sp_obs_n q).2
  exact ⟨⟨a1, a2, a3, a4, a5, a6, a7, e2, a9, a10, a11, a12, a13, a14, Nat.zero_le _⟩, ⟨e2, b2, b3, b4, b5, b6, b7, b8, b9, b10, b11, b12⟩, c1, c2, fun z => absurd rfl z⟩
/-- the two answers to a question are one -/
theorem li_eq {v1 v2 : Int32} {q : ((Nat → Nat) → Int32 → Nat → Nat) → Int32} (h : li hd st sz pt ng dp dn se va of sl kp ds cn cu pt2 ng2 va2 kp2) (h1 : ∀ V, ch_Slv (ch_wor st sz pt ng) hd cn V → v1 = q V) (h2 : ∀ V, ch_Slv (ch_wor st sz pt2 ng2) hd cn V → v2 = q V) : v1 = v2 := by
  obtain ⟨V, a, b⟩ := li_slv h
  rw [h1 V a, h2 V b]
theorem sp_at_cg {x : Int32} {n : Nat} {f g : Nat → Nat} (hn : n < 2 ^ 31) (h : ∀ r, r < n → f r = g r) : sp_at x n f = sp_at x n g := by
  unfold sp_at
  by_cases e : ch_ic x n = true
  · rw [if_pos e, if_pos e, h _ (ch_tn_le e hn)]
  · rw [if_neg e, if_neg e]
theorem li_eqY {v1 v2 x : Int32} (h : li hd st sz pt ng dp dn se va of sl kp ds cn cu pt2 ng2 va2 kp2) (h1 : ∀ V, ch_Slv (ch_wor st sz pt ng) hd cn V → v1 = sp_at x cn (ch_wor st sz pt ng (V se (-1)))) (h2 : ∀ V, ch_Slv (ch_wor st sz pt2 ng2) hd cn V → v2 = sp_at x cn (ch_wor st sz pt2 ng2 (V se (-1)))) : v1 = v2 := by
  obtain ⟨V, a, b⟩ := li_slv h
  have hc : cn ≤ 20 := h.2.1.2.2.2.2.2.2.2.2.2.2.2
  rw [h1 V a, h2 V b]
  exact sp_at_cg (by omega) (fun r hr => li_wo h _ r hr)
theorem li_eqS {v1 v2 x : Int32} (h : li hd st sz pt ng dp dn se va of sl kp ds cn cu pt2 ng2 va2 kp2) (h1 : ∀ V, ch_Slv (ch_wor st sz pt ng) hd cn V → (ch_ic x 16 = true → sp_fst (sp_sup (ch_wor st sz pt ng) hd (ch_tn x) (V se (-1))) cn v1) ∧ (ch_ic x 16 = false → v1 = (-1))) (h2 : ∀ V, ch_Slv (ch_wor st sz pt2 ng2) hd cn V → (ch_ic x 16 = true → sp_fst (sp_sup (ch_wor st sz pt2 ng2) hd (ch_tn x) (V se (-1))) cn v2) ∧ (ch_ic x 16 = false → v2 = (-1))) : v1 = v2 := by
  obtain ⟨V, a, b⟩ := li_slv h
  obtain ⟨p1, p2⟩ := h1 V a
  obtain ⟨q1, q2⟩ := h2 V b
  cases e : ch_ic x 16 with
  | false => rw [p2 e, q2 e]
  | true =>
    refine sp_fst_det (fun r hr => ?_) (p1 e) (q1 e)
    unfold sp_sup
    rw [li_wo h _ r hr]
end LI
end
section
/-! ===== the law: rows ===== -/
/-! THE CLAIM OUT OF ONE WALK OF THE LAW'S BODY. Your part is whole_start (and what it stands on); all else here is the same for every law, but numbers. -/
def R_law : String := "CertaintyChainerLaw"
def lw_P (b : Addr) (xs : List Int32) (args : Array Value) (s : State) : Prop := args = #[.ref b] ∧ s.IntsAt b xs ∧ xs.length ≤ 2048 ∧ (Jvm.Cond.and given_1 narrow_1).before args s = true
def lw_Q (_ : Array Value) (s : State) (o : Outcome) (t : State) : Prop := o = .returned (some (.int 1)) ∧ Framed s o t [] 25 549
def lw_Z (below : List Frame) (a : Array Value) (s : State) : State → Prop := fun t => ∃ o, t.status = .running ∧ Ended t below o ∧ lw_Q a s o t
/-- the law's own end, with 1 on the stack, nothing written that was there before, its room as the claim has it -/
theorem lw_ret {p : Program} {l : Launch} {e : Env} {s : State} {m : MethodId} {below : List Frame} {meth : Method} {c : Code} {b : Nat} (hx : p.tables.exec = Jvm.exec) (hb : c.code = code) (hr : meth.sig.returnType = ret) (hlocks : meth.locks = false) {pc : Nat} {H : Heap} {ls : Array Slot} (hdg : decode code pc = .ok (.ireturn, 1)) : W p l e room_1 s m #[Value.ref b] below meth c H [] 25 549 (lw_Z below #[Value.ref b] s) (F0 m pc ls [.int 1]) := by
  intro T hT X
  obtain ⟨fs, hret, hrun, hended, hW, hframe⟩ := X.leave (v := some (.int 1)) (hlocks := hlocks) (fun h => by rw [hr] at h; cases h)
  have hmeth' : T.vm.method? m = some meth := X.method'
  refine ⟨T.setFrames fs, ?_, .returned (some (.int 1)), hrun, hended, rfl, ⟨_, rfl⟩, hW, hframe⟩
  jvm_step X.here [X.here.top, hx, hb, hdg, hmeth', hr, ret, narrow_b1]
  (try refine ⟨rfl, ?_⟩); (try refine ⟨rfl, ?_⟩)
  first | (intro acts; rw [hret _ acts rfl rfl rfl]) | rw [hret _ _ rfl rfl rfl]
  exact Steps.refl _
/-- what holds at the law's entry: the machine, the code, the tables' words (any of lw_tbl by 'hts w (by decide +kernel)'), the script of L ints xs at the cell b, what the Statement gives of the start (any of its parts by flat_of_before) -/
def lw_At (p : Program) (s : State) (m : MethodId) (meth : Method) (c : Code) (b L : Nat) (xs : Nat → Int32) : Prop :=
  p.tables.exec = Jvm.exec ∧ c.code = code ∧ meth.sig.returnType = ret ∧ c.maxLocals = 4 ∧ s.vm.findClass R_law = some m.cls ∧ (∀ w ∈ lw_tbl, w.before #[Value.ref b] s = true) ∧ va_X b L xs s s.heap ∧ b < s.heap.size ∧ meth.locks = false ∧ (Jvm.Cond.and given_1 narrow_1).before #[Value.ref b] s = true

section FR
variable {D : va_G} {wr w0 w1 : va_W} {A0 A : Nat → Prop} {H H1 : Heap}
theorem fr_left (h : va_D A (wr ++ w0)) : va_D A wr :=
  ⟨fun i j p q hi hj e => h.1 i j p q (by rw [List.getElem?_append_left (List.getElem?_eq_some_iff.mp hi).1]; exact hi) (by rw [List.getElem?_append_left (List.getElem?_eq_some_iff.mp hj).1]; exact hj) e, fun k q hk => h.2 k q (by rw [List.getElem?_append_left (List.getElem?_eq_some_iff.mp hk).1]; exact hk)⟩
theorem fr_at2 {k : Nat} {q : Nat × va_E} (h : w0[k]? = some q) : (wr ++ w0)[wr.length + k]? = some q := by
  rw [List.getElem?_append_right (by omega), Nat.add_sub_cancel_left]; exact h
theorem fr_right (h : va_D A (wr ++ w0)) : va_D A w0 :=
  ⟨fun i j p q hi hj e => by have := h.1 _ _ p q (fr_at2 hi) (fr_at2 hj) e; omega, fun k q hk => h.2 _ q (fr_at2 hk)⟩
theorem fr_apart (h : va_D A (wr ++ w0)) {i j : Nat} {p q : Nat × va_E} (hi : wr[i]? = some p) (hj : w0[j]? = some q) : p.1 ≠ q.1 := fun e => by
  have hl := (List.getElem?_eq_some_iff.mp hi).1
  have := h.1 i _ p q (by rw [List.getElem?_append_left hl]; exact hi) (fr_at2 hj) e
  omega
theorem fr_comm (h : va_D A (wr ++ w0)) : va_D A (w0 ++ wr) := va_D.app (fr_right h) (fr_left h) (fun _ _ _ _ hi hj e => fr_apart h hj hi e.symm)
theorem fr_join (hR : va_P D classes wr H) (hDD : va_D A0 (wr ++ w0)) (hk : ∀ q : Nat, q < H.size → ¬ va_A w0 H.size q → H1[q]? = H[q]?) (hF : ∀ q, va_A w0 H.size q → A0 q) (hD1 : va_D (va_A w0 H.size) w1) : va_P D classes wr H1 ∧ va_D A0 (wr ++ w1) := by
  have apart : ∀ (k : Nat) (q : Nat × va_E), wr[k]? = some q → ¬ va_A w0 H.size q.1 := by
    intro k q hq h
    rcases h with ⟨k2, e, h⟩ | h
    · exact fr_apart hDD hq h rfl
    · have := (hR k q hq).lt
      omega
  refine ⟨fun k q hq => (hR k q hq).kept (hk q.1 (hR k q hq).lt (apart k q hq)), va_D.app (fr_left hDD) (hD1.weaken (fun k q _ h => hF q.1 h)) (fun i j x y hx hy hxy => ?_)⟩
  exact apart i x hx (by rw [hxy]; exact hD1.2 j y hy)
end FR
section LR
variable {p : Program} {l : Launch} {e : Env} {R : Room} {s : State} {m : MethodId} {args : Array Value} {below : List Frame} {meth : Method} {c : Code} {H : Heap} {locs : List Loc} {cells slots : Nat} {Q : State → Prop}
variable {cc : ByteArray} {pc : Nat} {ls : Array Slot} {D : va_G} {ty : List (ClassId × FieldType)} {w0 wr : va_W}
variable {y : MethodName} {bytes : ByteArray} {maxL nL n index : Nat} {ret : Option FieldType} {ws : List Cond} {rm : Room} {Ts : List Cond} {own C : String} {b : Addr} {As rest st0 : List Value} {A0 : Nat → Prop} {H0 : Heap}
theorem xl_iV {S : Type} {post : Int32 → S → Prop} {w1 : S → va_W} (F : CallFix p m c cc nL s args Ts own)
    (hM : Met l y ws rm (va_Pc (.ref b :: As) (Pw D w0 ty H.size)) (va_Qi post (fun u => Bw D w0 (w1 u) ty H.size) (va_A w0 H.size)) 0 0 (va_A w0 H.size)) (cw : CallW R s args own C index y bytes maxL ret ws rm 0 0 n)
    (hrecv : ∃ cell : Cell, H[b]? = some cell ∧ cell.vm.isStatics = false ∧ s.vm.findClass C = some cell.cls) (hK : va_K D classes ty s) (hP : va_P D classes w0 H) (hR : va_P D classes wr H) (hDD : va_D A0 (wr ++ w0)) (hS : va_S A0 H0 H locs) (hA : ∀ q, H0.size ≤ q → A0 q)
    (hn : As.length = n) (hsize : ls.size = nL) (hst : st0 = As.reverse ++ .ref b :: rest) (hW : (rest.map fun v => v.category).sum ≤ 8) (hdg : decode cc pc = .ok (.invokevirtual index, 3)) (hc : cells ≤ R.cells ∧ slots ≤ R.slots)
    (kk : ∀ (r : Int32) (u : S) (H1 : Heap) (locs1 : List Loc), post r u → va_P D classes (w1 u) H1 → va_P D classes wr H1 → va_D A0 (wr ++ w1 u) → va_S A0 H0 H1 locs1 → W p l e R s m args below meth c H1 locs1 cells slots Q (F0 m (pc + 3) ls (.int r :: rest))) : W p l e R s m args below meth c H locs cells slots Q (F0 m pc ls st0) := by
  have hD := fr_right hDD
  have hFc := ct_free hD hS hA
  refine va_calli (va_runV (As := As) (rest := rest) F hM cw ⟨ct_blind _, hrecv, fun U hU hW => ⟨rfl, by rw [hU], by rw [hU]; exact hP, va_K.moved hW.alike hK, hD.weaken (fun _ _ _ _ => trivial)⟩⟩ rfl hn hsize hst (lv_room hW) hdg hc) hS (fun q _ h => hFc q h) hFc (fun r u t H1 locs1 ht hvm hw hB hz1 hk1 hS1 => ?_)
  obtain ⟨hR1, hD1⟩ := fr_join hR hDD hk1 hFc hB.2.2
  exact kk r u H1 locs1 hw (by rw [← ht]; exact hB.1) hR1 hD1 hS1
theorem nr_sld (hexec : p.tables.exec = Jvm.exec) (hb : c.code = cc) {L k : Nat} {xs : Nat → Int32} (hX : va_X b L xs s H0) (hbl : b < H0.size) (hbA : ¬ A0 b) (hS : va_S A0 H0 H locs) (hk : k < L) (hL : L < 2 ^ 31) (hdg : decode cc pc = .ok (.iaload, 1))
    (kk : W p l e R s m args below meth c H locs cells slots Q (F0 m (pc + 1) ls (.int (xs k) :: rest))) : W p l e R s m args below meth c H locs cells slots Q (F0 m pc ls (.int (nI k) :: .ref b :: rest)) := by
  refine va_sld hexec hb hX hbl hbA hS (vp_in_nI hk hL) hdg ?_
  rw [nI_clamp (by omega)]
  exact kk
end LR
theorem nr_l4 {L i : Nat} (hL : L < 2 ^ 30) (hi : i < 2 ^ 30) (h : ¬ nI L - nI 4 < nI i) : i + 4 ≤ L := by
  rw [Int32.lt_iff_toInt_lt, pk_sub_toInt hL (by decide), nI_toInt (by omega)] at h
  omega
/-- from every state where the class and the reference agree, at place pc of the law's body with i ints read, the law comes to its end -/
def lw_G (p : Program) (l : Launch) (e : Env) (s : State) (m : MethodId) (below : List Frame) (meth : Method) (c : Code) (b : Nat) (D : va_G) (q0 q1 : Nat) (aX : Nat → Nat) (cX : Nat → ClassId) (aM : Nat → Nat) (cM : Nat → ClassId) (i pc : Nat) : Prop :=
  ∀ (hd : Nat → Nat) (st : Nat → Nat) (sz : Nat → Nat) (pt : Nat → Nat) (ng : Nat → Nat) (dp : Nat → Nat) (dn : Nat → Nat) (se : Nat → Nat) (va : Nat → Nat) (of : Nat → Nat) (sl : Nat → Nat) (wt : Nat → Int32) (kp : Nat → Nat) (ds : Nat) (cn : Nat) (cu : Nat) (pt2 ng2 va2 kp2 : Nat → Nat) (H : Heap) (locs : List Loc) (ls : Array Slot), li hd st sz pt ng dp dn se va of sl kp ds cn cu pt2 ng2 va2 kp2 → va_P D classes (wX q0 aX cX hd st sz pt ng dp dn se va of sl wt kp ds cn (-1) cu) H → va_P D classes (wM q1 aM cM se dp dn hd st sz pt2 ng2 va2 kp2 ds cn) H → va_D (fun q : Nat => s.heap.size ≤ q) ((wX q0 aX cX hd st sz pt ng dp dn se va of sl wt kp ds cn (-1) cu) ++ (wM q1 aM cM se dp dn hd st sz pt2 ng2 va2 kp2 ds cn)) → va_S (fun q : Nat => s.heap.size ≤ q) s.heap H locs → lv_has ls 4 [(0, .ref b), (1, .ref q0), (2, .ref q1), (3, .int (nI i))] → W p l e room_1 s m #[Value.ref b] below meth c H locs 25 549 (lw_Z below #[Value.ref b] s) (F0 m pc ls [])
end
section
/-! ===== the law: its cases ===== -/
set_option maxHeartbeats 4000000 in
set_option maxRecDepth 100000 in
theorem law_premise {p : Program} {l : Launch} {e : Env} {s : State} {m : MethodId} {below : List Frame} {meth : Method} {c : Code} {D : va_G} {b L : Nat} {xs : Nat → Int32} {q0 q1 : Nat} {aX : Nat → Nat} {cX : Nat → ClassId} {aM : Nat → Nat} {cM : Nat → ClassId} {i : Nat} (hL : L ≤ 2048) (C0 : lw_At p s m meth c b L xs) (hKX : va_K D classes (yX cX) s) (hKM : va_K D classes (yM cM) s) (hi : i + 4 ≤ L) (hG : lw_G p l e s m below meth c b D q0 q1 aX cX aM cM i 584) : lw_G p l e s m below meth c b D q0 q1 aX cX aM cM i 120 := by
  obtain ⟨hx, hb, hr, hml, hown, hts0, hX, hbl, hlocks, hgv⟩ := C0
  have hts : ∀ w ∈ lw_g, w.before #[Value.ref b] s = true := fun w h => hts0 w (lw_gsub w h)
  have hA : ∀ q : Nat, s.heap.size ≤ q → (fun q : Nat => s.heap.size ≤ q) q := fun _ h => h
  have hbA : ¬ (fun q : Nat => s.heap.size ≤ q) b := Nat.not_le.mpr hbl
  intro hd st sz pt ng dp dn se va of sl wt kp ds cn cu pt2 ng2 va2 kp2 H locs ls hI hP hR hD hS hl
  refine lv_aload_n hx hb d_law_120 rfl (lv_at hl 1 rfl) ?_
  refine lv_aload_n hx hb d_law_121 rfl (lv_at hl 0 rfl) ?_
  refine lv_iload_n hx hb d_law_122 rfl (lv_at hl 3 rfl) ?_
  refine lv_iconst (v := nI 1) hx hb d_law_123 (by decide) ?_
  refine nr_iadd hx hb d_law_124 ?_
  refine nr_sld hx hb hX hbl hbA hS (k := i + 1) (by omega) (by omega) d_law_125 ?_
  refine lv_aload_n hx hb d_law_126 rfl (lv_at hl 0 rfl) ?_
  refine lv_iload_n hx hb d_law_127 rfl (lv_at hl 3 rfl) ?_
  refine lv_iconst (v := nI 2) hx hb d_law_128 (by decide) ?_
  refine nr_iadd hx hb d_law_129 ?_
  refine nr_sld hx hb hX hbl hbA hS (k := i + 2) (by omega) (by omega) d_law_130 ?_
  refine xl_iV (C := R_X) (rest := []) ⟨hx, hb, hml, hown, hts⟩ (c_X_premise l D q0 aX cX hd st sz pt ng dp dn se va of sl wt kp ds cn (-1) cu H.size hI.1 (xs (i + 1)) (xs (i + 2)) ) (cwV 2 hts (gd_v ml_law_13 im_X_premise se_X_premise ini_X cd_X_premise) rfl rfl rfl (by decide +kernel) ⟨Nat.le_of_ble_eq_true rfl, Nat.le_of_ble_eq_true rfl⟩) (va_recv hKX hP (ci := 0) (q0 := 0) rfl rfl) hKX hP hR (fr_comm hD) hS hA rfl hl.1 rfl (Nat.le_of_ble_eq_true rfl) d_law_131 ⟨Nat.le_of_ble_eq_true rfl, Nat.le_of_ble_eq_true rfl⟩ (fun vX uX H locs hpX hP hR hD hS => ?_)
  have hD := fr_comm hD
  refine lv_aload_n hx hb d_law_134 rfl (lv_at hl 2 rfl) ?_
  refine lv_aload_n hx hb d_law_135 rfl (lv_at hl 0 rfl) ?_
  refine lv_iload_n hx hb d_law_136 rfl (lv_at hl 3 rfl) ?_
  refine lv_iconst (v := nI 1) hx hb d_law_137 (by decide) ?_
  refine nr_iadd hx hb d_law_138 ?_
  refine nr_sld hx hb hX hbl hbA hS (k := i + 1) (by omega) (by omega) d_law_139 ?_
  refine lv_aload_n hx hb d_law_140 rfl (lv_at hl 0 rfl) ?_
  refine lv_iload_n hx hb d_law_141 rfl (lv_at hl 3 rfl) ?_
  refine lv_iconst (v := nI 2) hx hb d_law_142 (by decide) ?_
  refine nr_iadd hx hb d_law_143 ?_
  refine nr_sld hx hb hX hbl hbA hS (k := i + 2) (by omega) (by omega) d_law_144 ?_
  refine xl_iV (C := R_M) (rest := [.int vX]) ⟨hx, hb, hml, hown, hts⟩ (c_M_premise l D q1 aM cM se dp dn hd st sz pt2 ng2 va2 kp2 ds cn H.size hI.2.1 (xs (i + 1)) (xs (i + 2)) ) (cwV 2 hts (gd_v ml_law_17 im_M_premise se_M_premise ini_M cd_M_premise) rfl rfl rfl (by decide +kernel) ⟨Nat.le_of_ble_eq_true rfl, Nat.le_of_ble_eq_true rfl⟩) (va_recv hKM hR (ci := 1) (q0 := 0) rfl rfl) hKM hR hP hD hS hA rfl hl.1 rfl (Nat.le_of_ble_eq_true rfl) d_law_145 ⟨Nat.le_of_ble_eq_true rfl, Nat.le_of_ble_eq_true rfl⟩ (fun vM uM H locs hpM hR hP hD hS => ?_)
  obtain ⟨hvX, huX⟩ := hpX
  obtain ⟨hvM, huM⟩ := hpM
  refine lv_icmp_eq (tgt := 584) hx hb d_law_148 (by decide) (fun cc9 => ?_) (fun cc9 => absurd (hvX.trans hvM.symm) cc9)
  by_cases ho : sp_prem (xs (i + 1)) ds = none
  · rw [if_pos ho] at huX huM
    subst huX huM
    exact hG _ _ _ _ _ _ _ _ _ _ _ _ _ _ _ _ _ _ _ _ _ _ _ (li_prem hI ho) hP hR hD hS hl
  · rw [if_neg ho] at huX huM
    subst huX huM
    exact hG _ _ _ _ _ _ _ _ _ _ _ _ _ _ _ _ _ _ _ _ _ _ _ hI hP hR hD hS hl

set_option maxHeartbeats 4000000 in
set_option maxRecDepth 100000 in
theorem law_clear {p : Program} {l : Launch} {e : Env} {s : State} {m : MethodId} {below : List Frame} {meth : Method} {c : Code} {D : va_G} {b L : Nat} {xs : Nat → Int32} {q0 q1 : Nat} {aX : Nat → Nat} {cX : Nat → ClassId} {aM : Nat → Nat} {cM : Nat → ClassId} {i : Nat} (hL : L ≤ 2048) (C0 : lw_At p s m meth c b L xs) (hKX : va_K D classes (yX cX) s) (hKM : va_K D classes (yM cM) s) (hi : i + 4 ≤ L) (hG : lw_G p l e s m below meth c b D q0 q1 aX cX aM cM i 584) : lw_G p l e s m below meth c b D q0 q1 aX cX aM cM i 153 := by
  obtain ⟨hx, hb, hr, hml, hown, hts0, hX, hbl, hlocks, hgv⟩ := C0
  have hts : ∀ w ∈ lw_g, w.before #[Value.ref b] s = true := fun w h => hts0 w (lw_gsub w h)
  have hA : ∀ q : Nat, s.heap.size ≤ q → (fun q : Nat => s.heap.size ≤ q) q := fun _ h => h
  have hbA : ¬ (fun q : Nat => s.heap.size ≤ q) b := Nat.not_le.mpr hbl
  intro hd st sz pt ng dp dn se va of sl wt kp ds cn cu pt2 ng2 va2 kp2 H locs ls hI hP hR hD hS hl
  refine lv_aload_n hx hb d_law_153 rfl (lv_at hl 1 rfl) ?_
  refine xl_iV (C := R_X) (rest := []) ⟨hx, hb, hml, hown, hts⟩ (c_X_clear l D q0 aX cX hd st sz pt ng dp dn se va of sl wt kp ds cn (-1) cu H.size hI.1  ) (cwV 0 hts (gd_v ml_law_18 im_X_clear se_X_clear ini_X cd_X_clear) rfl rfl rfl (by decide +kernel) ⟨Nat.le_of_ble_eq_true rfl, Nat.le_of_ble_eq_true rfl⟩) (va_recv hKX hP (ci := 0) (q0 := 0) rfl rfl) hKX hP hR (fr_comm hD) hS hA rfl hl.1 rfl (Nat.le_of_ble_eq_true rfl) d_law_154 ⟨Nat.le_of_ble_eq_true rfl, Nat.le_of_ble_eq_true rfl⟩ (fun vX uX H locs hpX hP hR hD hS => ?_)
  have hD := fr_comm hD
  refine lv_aload_n hx hb d_law_157 rfl (lv_at hl 2 rfl) ?_
  refine xl_iV (C := R_M) (rest := [.int vX]) ⟨hx, hb, hml, hown, hts⟩ (c_M_clear l D q1 aM cM se dp dn hd st sz pt2 ng2 va2 kp2 ds cn H.size hI.2.1  ) (cwV 0 hts (gd_v ml_law_22 im_M_clear se_M_clear ini_M cd_M_clear) rfl rfl rfl (by decide +kernel) ⟨Nat.le_of_ble_eq_true rfl, Nat.le_of_ble_eq_true rfl⟩) (va_recv hKM hR (ci := 1) (q0 := 0) rfl rfl) hKM hR hP hD hS hA rfl hl.1 rfl (Nat.le_of_ble_eq_true rfl) d_law_158 ⟨Nat.le_of_ble_eq_true rfl, Nat.le_of_ble_eq_true rfl⟩ (fun vM uM H locs hpM hR hP hD hS => ?_)
  refine lv_icmp_eq (tgt := 584) hx hb d_law_161 (by decide) (fun cc9 => ?_) (fun cc9 => absurd (hpX.trans hpM.symm) cc9)
  exact hG _ _ _ _ _ _ _ _ _ _ _ _ _ _ _ _ _ _ _ _ _ _ _ (li_clear hI) hP hR hD hS hl

set_option maxHeartbeats 4000000 in
set_option maxRecDepth 100000 in
theorem law_rule {p : Program} {l : Launch} {e : Env} {s : State} {m : MethodId} {below : List Frame} {meth : Method} {c : Code} {D : va_G} {b L : Nat} {xs : Nat → Int32} {q0 q1 : Nat} {aX : Nat → Nat} {cX : Nat → ClassId} {aM : Nat → Nat} {cM : Nat → ClassId} {i : Nat} (hL : L ≤ 2048) (C0 : lw_At p s m meth c b L xs) (hKX : va_K D classes (yX cX) s) (hKM : va_K D classes (yM cM) s) (hi : i + 4 ≤ L) (hG : lw_G p l e s m below meth c b D q0 q1 aX cX aM cM i 584) : lw_G p l e s m below meth c b D q0 q1 aX cX aM cM i 166 := by
  obtain ⟨hx, hb, hr, hml, hown, hts0, hX, hbl, hlocks, hgv⟩ := C0
  have hts : ∀ w ∈ lw_g, w.before #[Value.ref b] s = true := fun w h => hts0 w (lw_gsub w h)
  have hA : ∀ q : Nat, s.heap.size ≤ q → (fun q : Nat => s.heap.size ≤ q) q := fun _ h => h
  have hbA : ¬ (fun q : Nat => s.heap.size ≤ q) b := Nat.not_le.mpr hbl
  intro hd st sz pt ng dp dn se va of sl wt kp ds cn cu pt2 ng2 va2 kp2 H locs ls hI hP hR hD hS hl
  refine lv_aload_n hx hb d_law_166 rfl (lv_at hl 1 rfl) ?_
  refine lv_aload_n hx hb d_law_167 rfl (lv_at hl 0 rfl) ?_
  refine lv_iload_n hx hb d_law_168 rfl (lv_at hl 3 rfl) ?_
  refine lv_iconst (v := nI 1) hx hb d_law_169 (by decide) ?_
  refine nr_iadd hx hb d_law_170 ?_
  refine nr_sld hx hb hX hbl hbA hS (k := i + 1) (by omega) (by omega) d_law_171 ?_
  refine lv_aload_n hx hb d_law_172 rfl (lv_at hl 0 rfl) ?_
  refine lv_iload_n hx hb d_law_173 rfl (lv_at hl 3 rfl) ?_
  refine lv_iconst (v := nI 2) hx hb d_law_174 (by decide) ?_
  refine nr_iadd hx hb d_law_175 ?_
  refine nr_sld hx hb hX hbl hbA hS (k := i + 2) (by omega) (by omega) d_law_176 ?_
  refine xl_iV (C := R_X) (rest := []) ⟨hx, hb, hml, hown, hts⟩ (c_X_rule l D q0 aX cX hd st sz pt ng dp dn se va of sl wt kp ds cn (-1) cu H.size hI.1 (xs (i + 1)) (xs (i + 2)) ) (cwV 2 hts (gd_v ml_law_23 im_X_rule se_X_rule ini_X cd_X_rule) rfl rfl rfl (by decide +kernel) ⟨Nat.le_of_ble_eq_true rfl, Nat.le_of_ble_eq_true rfl⟩) (va_recv hKX hP (ci := 0) (q0 := 0) rfl rfl) hKX hP hR (fr_comm hD) hS hA rfl hl.1 rfl (Nat.le_of_ble_eq_true rfl) d_law_177 ⟨Nat.le_of_ble_eq_true rfl, Nat.le_of_ble_eq_true rfl⟩ (fun vX uX H locs hpX hP hR hD hS => ?_)
  have hD := fr_comm hD
  refine lv_aload_n hx hb d_law_180 rfl (lv_at hl 2 rfl) ?_
  refine lv_aload_n hx hb d_law_181 rfl (lv_at hl 0 rfl) ?_
  refine lv_iload_n hx hb d_law_182 rfl (lv_at hl 3 rfl) ?_
  refine lv_iconst (v := nI 1) hx hb d_law_183 (by decide) ?_
  refine nr_iadd hx hb d_law_184 ?_
  refine nr_sld hx hb hX hbl hbA hS (k := i + 1) (by omega) (by omega) d_law_185 ?_
  refine lv_aload_n hx hb d_law_186 rfl (lv_at hl 0 rfl) ?_
  refine lv_iload_n hx hb d_law_187 rfl (lv_at hl 3 rfl) ?_
  refine lv_iconst (v := nI 2) hx hb d_law_188 (by decide) ?_
  refine nr_iadd hx hb d_law_189 ?_
  refine nr_sld hx hb hX hbl hbA hS (k := i + 2) (by omega) (by omega) d_law_190 ?_
  refine xl_iV (C := R_M) (rest := [.int vX]) ⟨hx, hb, hml, hown, hts⟩ (c_M_rule l D q1 aM cM se dp dn hd st sz pt2 ng2 va2 kp2 ds cn H.size hI.2.1 (xs (i + 1)) (xs (i + 2)) ) (cwV 2 hts (gd_v ml_law_26 im_M_rule se_M_rule ini_M cd_M_rule) rfl rfl rfl (by decide +kernel) ⟨Nat.le_of_ble_eq_true rfl, Nat.le_of_ble_eq_true rfl⟩) (va_recv hKM hR (ci := 1) (q0 := 0) rfl rfl) hKM hR hP hD hS hA rfl hl.1 rfl (Nat.le_of_ble_eq_true rfl) d_law_191 ⟨Nat.le_of_ble_eq_true rfl, Nat.le_of_ble_eq_true rfl⟩ (fun vM uM H locs hpM hR hP hD hS => ?_)
  obtain ⟨hvX, huX⟩ := hpX
  obtain ⟨hvM, huM⟩ := hpM
  refine lv_icmp_eq (tgt := 584) hx hb d_law_194 (by decide) (fun cc9 => ?_) (fun cc9 => absurd (hvX.trans hvM.symm) cc9)
  by_cases ho : sp_rule (xs (i + 1)) (xs (i + 2)) dp dn ds cn = none
  · rw [if_pos ho] at huX huM
    subst huX huM
    exact hG _ _ _ _ _ _ _ _ _ _ _ _ _ _ _ _ _ _ _ _ _ _ _ (li_rule hI ho) hP hR hD hS hl
  · rw [if_neg ho] at huX huM
    subst huX huM
    exact hG _ _ _ _ _ _ _ _ _ _ _ _ _ _ _ _ _ _ _ _ _ _ _ hI hP hR hD hS hl

set_option maxHeartbeats 4000000 in
set_option maxRecDepth 100000 in
theorem law_remove {p : Program} {l : Launch} {e : Env} {s : State} {m : MethodId} {below : List Frame} {meth : Method} {c : Code} {D : va_G} {b L : Nat} {xs : Nat → Int32} {q0 q1 : Nat} {aX : Nat → Nat} {cX : Nat → ClassId} {aM : Nat → Nat} {cM : Nat → ClassId} {i : Nat} (hL : L ≤ 2048) (C0 : lw_At p s m meth c b L xs) (hKX : va_K D classes (yX cX) s) (hKM : va_K D classes (yM cM) s) (hi : i + 4 ≤ L) (hG : lw_G p l e s m below meth c b D q0 q1 aX cX aM cM i 584) : lw_G p l e s m below meth c b D q0 q1 aX cX aM cM i 199 := by
  obtain ⟨hx, hb, hr, hml, hown, hts0, hX, hbl, hlocks, hgv⟩ := C0
  have hts : ∀ w ∈ lw_g, w.before #[Value.ref b] s = true := fun w h => hts0 w (lw_gsub w h)
  have hA : ∀ q : Nat, s.heap.size ≤ q → (fun q : Nat => s.heap.size ≤ q) q := fun _ h => h
  have hbA : ¬ (fun q : Nat => s.heap.size ≤ q) b := Nat.not_le.mpr hbl
  intro hd st sz pt ng dp dn se va of sl wt kp ds cn cu pt2 ng2 va2 kp2 H locs ls hI hP hR hD hS hl
  refine lv_aload_n hx hb d_law_199 rfl (lv_at hl 1 rfl) ?_
  refine lv_aload_n hx hb d_law_200 rfl (lv_at hl 0 rfl) ?_
  refine lv_iload_n hx hb d_law_201 rfl (lv_at hl 3 rfl) ?_
  refine lv_iconst (v := nI 1) hx hb d_law_202 (by decide) ?_
  refine nr_iadd hx hb d_law_203 ?_
  refine nr_sld hx hb hX hbl hbA hS (k := i + 1) (by omega) (by omega) d_law_204 ?_
  refine xl_iV (C := R_X) (rest := []) ⟨hx, hb, hml, hown, hts⟩ (c_X_remove l D q0 aX cX hd st sz pt ng dp dn se va of sl wt kp ds cn (-1) cu H.size hI.1 (xs (i + 1)) ) (cwV 1 hts (gd_v ml_law_27 im_X_remove se_X_remove ini_X cd_X_remove) rfl rfl rfl (by decide +kernel) ⟨Nat.le_of_ble_eq_true rfl, Nat.le_of_ble_eq_true rfl⟩) (va_recv hKX hP (ci := 0) (q0 := 0) rfl rfl) hKX hP hR (fr_comm hD) hS hA rfl hl.1 rfl (Nat.le_of_ble_eq_true rfl) d_law_205 ⟨Nat.le_of_ble_eq_true rfl, Nat.le_of_ble_eq_true rfl⟩ (fun vX uX H locs hpX hP hR hD hS => ?_)
  have hD := fr_comm hD
  refine lv_aload_n hx hb d_law_208 rfl (lv_at hl 2 rfl) ?_
  refine lv_aload_n hx hb d_law_209 rfl (lv_at hl 0 rfl) ?_
  refine lv_iload_n hx hb d_law_210 rfl (lv_at hl 3 rfl) ?_
  refine lv_iconst (v := nI 1) hx hb d_law_211 (by decide) ?_
  refine nr_iadd hx hb d_law_212 ?_
  refine nr_sld hx hb hX hbl hbA hS (k := i + 1) (by omega) (by omega) d_law_213 ?_
  refine xl_iV (C := R_M) (rest := [.int vX]) ⟨hx, hb, hml, hown, hts⟩ (c_M_remove l D q1 aM cM se dp dn hd st sz pt2 ng2 va2 kp2 ds cn H.size hI.2.1 (xs (i + 1)) ) (cwV 1 hts (gd_v ml_law_31 im_M_remove se_M_remove ini_M cd_M_remove) rfl rfl rfl (by decide +kernel) ⟨Nat.le_of_ble_eq_true rfl, Nat.le_of_ble_eq_true rfl⟩) (va_recv hKM hR (ci := 1) (q0 := 0) rfl rfl) hKM hR hP hD hS hA rfl hl.1 rfl (Nat.le_of_ble_eq_true rfl) d_law_214 ⟨Nat.le_of_ble_eq_true rfl, Nat.le_of_ble_eq_true rfl⟩ (fun vM uM H locs hpM hR hP hD hS => ?_)
  obtain ⟨hvX, huX⟩ := hpX
  obtain ⟨hvM, huM⟩ := hpM
  refine lv_icmp_eq (tgt := 584) hx hb d_law_217 (by decide) (fun cc9 => ?_) (fun cc9 => absurd (hvX.trans hvM.symm) cc9)
  by_cases ho : sp_rem (xs (i + 1)) cn = none
  · rw [if_pos ho] at huX huM
    subst huX huM
    exact hG _ _ _ _ _ _ _ _ _ _ _ _ _ _ _ _ _ _ _ _ _ _ _ (li_rem hI ho) hP hR hD hS hl
  · rw [if_neg ho] at huX huM
    subst huX huM
    exact hG _ _ _ _ _ _ _ _ _ _ _ _ _ _ _ _ _ _ _ _ _ _ _ hI hP hR hD hS hl

set_option maxHeartbeats 4000000 in
set_option maxRecDepth 100000 in
theorem law_strengthen {p : Program} {l : Launch} {e : Env} {s : State} {m : MethodId} {below : List Frame} {meth : Method} {c : Code} {D : va_G} {b L : Nat} {xs : Nat → Int32} {q0 q1 : Nat} {aX : Nat → Nat} {cX : Nat → ClassId} {aM : Nat → Nat} {cM : Nat → ClassId} {i : Nat} (hL : L ≤ 2048) (C0 : lw_At p s m meth c b L xs) (hKX : va_K D classes (yX cX) s) (hKM : va_K D classes (yM cM) s) (hi : i + 4 ≤ L) (hG : lw_G p l e s m below meth c b D q0 q1 aX cX aM cM i 584) : lw_G p l e s m below meth c b D q0 q1 aX cX aM cM i 222 := by
  obtain ⟨hx, hb, hr, hml, hown, hts0, hX, hbl, hlocks, hgv⟩ := C0
  have hts : ∀ w ∈ lw_g, w.before #[Value.ref b] s = true := fun w h => hts0 w (lw_gsub w h)
  have hA : ∀ q : Nat, s.heap.size ≤ q → (fun q : Nat => s.heap.size ≤ q) q := fun _ h => h
  have hbA : ¬ (fun q : Nat => s.heap.size ≤ q) b := Nat.not_le.mpr hbl
  intro hd st sz pt ng dp dn se va of sl wt kp ds cn cu pt2 ng2 va2 kp2 H locs ls hI hP hR hD hS hl
  refine lv_aload_n hx hb d_law_222 rfl (lv_at hl 1 rfl) ?_
  refine lv_aload_n hx hb d_law_223 rfl (lv_at hl 0 rfl) ?_
  refine lv_iload_n hx hb d_law_224 rfl (lv_at hl 3 rfl) ?_
  refine lv_iconst (v := nI 1) hx hb d_law_225 (by decide) ?_
  refine nr_iadd hx hb d_law_226 ?_
  refine nr_sld hx hb hX hbl hbA hS (k := i + 1) (by omega) (by omega) d_law_227 ?_
  refine lv_aload_n hx hb d_law_228 rfl (lv_at hl 0 rfl) ?_
  refine lv_iload_n hx hb d_law_229 rfl (lv_at hl 3 rfl) ?_
  refine lv_iconst (v := nI 2) hx hb d_law_230 (by decide) ?_
  refine nr_iadd hx hb d_law_231 ?_
  refine nr_sld hx hb hX hbl hbA hS (k := i + 2) (by omega) (by omega) d_law_232 ?_
  refine xl_iV (C := R_X) (rest := []) ⟨hx, hb, hml, hown, hts⟩ (c_X_strengthen l D q0 aX cX hd st sz pt ng dp dn se va of sl wt kp ds cn (-1) cu H.size hI.1 (xs (i + 1)) (xs (i + 2)) ) (cwV 2 hts (gd_v ml_law_32 im_X_strengthen se_X_strengthen ini_X cd_X_strengthen) rfl rfl rfl (by decide +kernel) ⟨Nat.le_of_ble_eq_true rfl, Nat.le_of_ble_eq_true rfl⟩) (va_recv hKX hP (ci := 0) (q0 := 0) rfl rfl) hKX hP hR (fr_comm hD) hS hA rfl hl.1 rfl (Nat.le_of_ble_eq_true rfl) d_law_233 ⟨Nat.le_of_ble_eq_true rfl, Nat.le_of_ble_eq_true rfl⟩ (fun vX uX H locs hpX hP hR hD hS => ?_)
  have hD := fr_comm hD
  refine lv_aload_n hx hb d_law_236 rfl (lv_at hl 2 rfl) ?_
  refine lv_aload_n hx hb d_law_237 rfl (lv_at hl 0 rfl) ?_
  refine lv_iload_n hx hb d_law_238 rfl (lv_at hl 3 rfl) ?_
  refine lv_iconst (v := nI 1) hx hb d_law_239 (by decide) ?_
  refine nr_iadd hx hb d_law_240 ?_
  refine nr_sld hx hb hX hbl hbA hS (k := i + 1) (by omega) (by omega) d_law_241 ?_
  refine lv_aload_n hx hb d_law_242 rfl (lv_at hl 0 rfl) ?_
  refine lv_iload_n hx hb d_law_243 rfl (lv_at hl 3 rfl) ?_
  refine lv_iconst (v := nI 2) hx hb d_law_244 (by decide) ?_
  refine nr_iadd hx hb d_law_245 ?_
  refine nr_sld hx hb hX hbl hbA hS (k := i + 2) (by omega) (by omega) d_law_246 ?_
  refine xl_iV (C := R_M) (rest := [.int vX]) ⟨hx, hb, hml, hown, hts⟩ (c_M_strengthen l D q1 aM cM se dp dn hd st sz pt2 ng2 va2 kp2 ds cn H.size hI.2.1 (xs (i + 1)) (xs (i + 2)) ) (cwV 2 hts (gd_v ml_law_35 im_M_strengthen se_M_strengthen ini_M cd_M_strengthen) rfl rfl rfl (by decide +kernel) ⟨Nat.le_of_ble_eq_true rfl, Nat.le_of_ble_eq_true rfl⟩) (va_recv hKM hR (ci := 1) (q0 := 0) rfl rfl) hKM hR hP hD hS hA rfl hl.1 rfl (Nat.le_of_ble_eq_true rfl) d_law_247 ⟨Nat.le_of_ble_eq_true rfl, Nat.le_of_ble_eq_true rfl⟩ (fun vM uM H locs hpM hR hP hD hS => ?_)
  obtain ⟨hvX, huX⟩ := hpX
  obtain ⟨hvM, huM⟩ := hpM
  refine lv_icmp_eq (tgt := 584) hx hb d_law_250 (by decide) (fun cc9 => ?_) (fun cc9 => absurd (hvX.trans hvM.symm) cc9)
  by_cases ho : sp_str (xs (i + 1)) (xs (i + 2)) cn = none
  · rw [if_pos ho] at huX huM
    subst huX huM
    exact hG _ _ _ _ _ _ _ _ _ _ _ _ _ _ _ _ _ _ _ _ _ _ _ (li_str hI ho) hP hR hD hS hl
  · rw [if_neg ho] at huX huM
    subst huX
    rw [huM] at hR hD
    exact hG _ _ _ _ _ _ _ _ _ _ _ _ _ _ _ _ _ _ _ _ _ _ _ hI hP hR hD hS hl

set_option maxHeartbeats 4000000 in
set_option maxRecDepth 100000 in
theorem law_observe {p : Program} {l : Launch} {e : Env} {s : State} {m : MethodId} {below : List Frame} {meth : Method} {c : Code} {D : va_G} {b L : Nat} {xs : Nat → Int32} {q0 q1 : Nat} {aX : Nat → Nat} {cX : Nat → ClassId} {aM : Nat → Nat} {cM : Nat → ClassId} {i : Nat} (hL : L ≤ 2048) (C0 : lw_At p s m meth c b L xs) (hKX : va_K D classes (yX cX) s) (hKM : va_K D classes (yM cM) s) (hi : i + 4 ≤ L) (hG : lw_G p l e s m below meth c b D q0 q1 aX cX aM cM i 584) : lw_G p l e s m below meth c b D q0 q1 aX cX aM cM i 255 := by
  obtain ⟨hx, hb, hr, hml, hown, hts0, hX, hbl, hlocks, hgv⟩ := C0
  have hts : ∀ w ∈ lw_g, w.before #[Value.ref b] s = true := fun w h => hts0 w (lw_gsub w h)
  have hA : ∀ q : Nat, s.heap.size ≤ q → (fun q : Nat => s.heap.size ≤ q) q := fun _ h => h
  have hbA : ¬ (fun q : Nat => s.heap.size ≤ q) b := Nat.not_le.mpr hbl
  intro hd st sz pt ng dp dn se va of sl wt kp ds cn cu pt2 ng2 va2 kp2 H locs ls hI hP hR hD hS hl
  refine lv_aload_n hx hb d_law_255 rfl (lv_at hl 1 rfl) ?_
  refine lv_aload_n hx hb d_law_256 rfl (lv_at hl 0 rfl) ?_
  refine lv_iload_n hx hb d_law_257 rfl (lv_at hl 3 rfl) ?_
  refine lv_iconst (v := nI 1) hx hb d_law_258 (by decide) ?_
  refine nr_iadd hx hb d_law_259 ?_
  refine nr_sld hx hb hX hbl hbA hS (k := i + 1) (by omega) (by omega) d_law_260 ?_
  refine lv_aload_n hx hb d_law_261 rfl (lv_at hl 0 rfl) ?_
  refine lv_iload_n hx hb d_law_262 rfl (lv_at hl 3 rfl) ?_
  refine lv_iconst (v := nI 2) hx hb d_law_263 (by decide) ?_
  refine nr_iadd hx hb d_law_264 ?_
  refine nr_sld hx hb hX hbl hbA hS (k := i + 2) (by omega) (by omega) d_law_265 ?_
  refine xl_iV (C := R_X) (rest := []) ⟨hx, hb, hml, hown, hts⟩ (c_X_observe l D q0 aX cX hd st sz pt ng dp dn se va of sl wt kp ds cn (-1) cu H.size hI.1 (xs (i + 1)) (xs (i + 2)) ) (cwV 2 hts (gd_v ml_law_36 im_X_observe se_X_observe ini_X cd_X_observe) rfl rfl rfl (by decide +kernel) ⟨Nat.le_of_ble_eq_true rfl, Nat.le_of_ble_eq_true rfl⟩) (va_recv hKX hP (ci := 0) (q0 := 0) rfl rfl) hKX hP hR (fr_comm hD) hS hA rfl hl.1 rfl (Nat.le_of_ble_eq_true rfl) d_law_266 ⟨Nat.le_of_ble_eq_true rfl, Nat.le_of_ble_eq_true rfl⟩ (fun vX uX H locs hpX hP hR hD hS => ?_)
  have hD := fr_comm hD
  refine lv_aload_n hx hb d_law_269 rfl (lv_at hl 2 rfl) ?_
  refine lv_aload_n hx hb d_law_270 rfl (lv_at hl 0 rfl) ?_
  refine lv_iload_n hx hb d_law_271 rfl (lv_at hl 3 rfl) ?_
  refine lv_iconst (v := nI 1) hx hb d_law_272 (by decide) ?_
  refine nr_iadd hx hb d_law_273 ?_
  refine nr_sld hx hb hX hbl hbA hS (k := i + 1) (by omega) (by omega) d_law_274 ?_
  refine lv_aload_n hx hb d_law_275 rfl (lv_at hl 0 rfl) ?_
  refine lv_iload_n hx hb d_law_276 rfl (lv_at hl 3 rfl) ?_
  refine lv_iconst (v := nI 2) hx hb d_law_277 (by decide) ?_
  refine nr_iadd hx hb d_law_278 ?_
  refine nr_sld hx hb hX hbl hbA hS (k := i + 2) (by omega) (by omega) d_law_279 ?_
  refine xl_iV (C := R_M) (rest := [.int vX]) ⟨hx, hb, hml, hown, hts⟩ (c_M_observe l D q1 aM cM se dp dn hd st sz pt2 ng2 va2 kp2 ds cn H.size hI.2.1 (xs (i + 1)) (xs (i + 2)) ) (cwV 2 hts (gd_v ml_law_39 im_M_observe se_M_observe ini_M cd_M_observe) rfl rfl rfl (by decide +kernel) ⟨Nat.le_of_ble_eq_true rfl, Nat.le_of_ble_eq_true rfl⟩) (va_recv hKM hR (ci := 1) (q0 := 0) rfl rfl) hKM hR hP hD hS hA rfl hl.1 rfl (Nat.le_of_ble_eq_true rfl) d_law_280 ⟨Nat.le_of_ble_eq_true rfl, Nat.le_of_ble_eq_true rfl⟩ (fun vM uM H locs hpM hR hP hD hS => ?_)
  obtain ⟨hvX, huX⟩ := hpX
  obtain ⟨hvM, huM⟩ := hpM
  refine lv_icmp_eq (tgt := 584) hx hb d_law_283 (by decide) (fun cc9 => ?_) (fun cc9 => absurd (hvX.trans hvM.symm) cc9)
  by_cases ho : sp_obs (xs (i + 1)) (xs (i + 2)) = none
  · rw [if_pos ho] at huX huM
    subst huX huM
    exact hG _ _ _ _ _ _ _ _ _ _ _ _ _ _ _ _ _ _ _ _ _ _ _ (li_obs hI ho) hP hR hD hS hl
  · rw [if_neg ho] at huX huM
    subst huX
    rw [huM] at hR hD
    exact hG _ _ _ _ _ _ _ _ _ _ _ _ _ _ _ _ _ _ _ _ _ _ _ hI hP hR hD hS hl

set_option maxHeartbeats 4000000 in
set_option maxRecDepth 100000 in
theorem law_rules {p : Program} {l : Launch} {e : Env} {s : State} {m : MethodId} {below : List Frame} {meth : Method} {c : Code} {D : va_G} {b L : Nat} {xs : Nat → Int32} {q0 q1 : Nat} {aX : Nat → Nat} {cX : Nat → ClassId} {aM : Nat → Nat} {cM : Nat → ClassId} {i : Nat} (hL : L ≤ 2048) (C0 : lw_At p s m meth c b L xs) (hKX : va_K D classes (yX cX) s) (hKM : va_K D classes (yM cM) s) (hi : i + 4 ≤ L) (hG : lw_G p l e s m below meth c b D q0 q1 aX cX aM cM i 584) : lw_G p l e s m below meth c b D q0 q1 aX cX aM cM i 288 := by
  obtain ⟨hx, hb, hr, hml, hown, hts0, hX, hbl, hlocks, hgv⟩ := C0
  have hts : ∀ w ∈ lw_g, w.before #[Value.ref b] s = true := fun w h => hts0 w (lw_gsub w h)
  have hA : ∀ q : Nat, s.heap.size ≤ q → (fun q : Nat => s.heap.size ≤ q) q := fun _ h => h
  have hbA : ¬ (fun q : Nat => s.heap.size ≤ q) b := Nat.not_le.mpr hbl
  intro hd st sz pt ng dp dn se va of sl wt kp ds cn cu pt2 ng2 va2 kp2 H locs ls hI hP hR hD hS hl
  refine lv_aload_n hx hb d_law_288 rfl (lv_at hl 1 rfl) ?_
  refine xl_iV (C := R_X) (rest := []) ⟨hx, hb, hml, hown, hts⟩ (c_X_rules l D q0 aX cX hd st sz pt ng dp dn se va of sl wt kp ds cn (-1) cu H.size hI.1  ) (cwV 0 hts (gd_v ml_law_40 im_X_rules se_X_rules ini_X cd_X_rules) rfl rfl rfl (by decide +kernel) ⟨Nat.le_of_ble_eq_true rfl, Nat.le_of_ble_eq_true rfl⟩) (va_recv hKX hP (ci := 0) (q0 := 0) rfl rfl) hKX hP hR (fr_comm hD) hS hA rfl hl.1 rfl (Nat.le_of_ble_eq_true rfl) d_law_289 ⟨Nat.le_of_ble_eq_true rfl, Nat.le_of_ble_eq_true rfl⟩ (fun vX uX H locs hpX hP hR hD hS => ?_)
  have hD := fr_comm hD
  refine lv_aload_n hx hb d_law_292 rfl (lv_at hl 2 rfl) ?_
  refine xl_iV (C := R_M) (rest := [.int vX]) ⟨hx, hb, hml, hown, hts⟩ (c_M_rules l D q1 aM cM se dp dn hd st sz pt2 ng2 va2 kp2 ds cn H.size hI.2.1  ) (cwV 0 hts (gd_v ml_law_43 im_M_rules se_M_rules ini_M cd_M_rules) rfl rfl rfl (by decide +kernel) ⟨Nat.le_of_ble_eq_true rfl, Nat.le_of_ble_eq_true rfl⟩) (va_recv hKM hR (ci := 1) (q0 := 0) rfl rfl) hKM hR hP hD hS hA rfl hl.1 rfl (Nat.le_of_ble_eq_true rfl) d_law_293 ⟨Nat.le_of_ble_eq_true rfl, Nat.le_of_ble_eq_true rfl⟩ (fun vM uM H locs hpM hR hP hD hS => ?_)
  refine lv_icmp_eq (tgt := 584) hx hb d_law_296 (by decide) (fun cc9 => ?_) (fun cc9 => absurd (hpX.trans hpM.symm) cc9)
  exact hG _ _ _ _ _ _ _ _ _ _ _ _ _ _ _ _ _ _ _ _ _ _ _ hI hP hR hD hS hl

set_option maxHeartbeats 4000000 in
set_option maxRecDepth 100000 in
theorem law_headOf {p : Program} {l : Launch} {e : Env} {s : State} {m : MethodId} {below : List Frame} {meth : Method} {c : Code} {D : va_G} {b L : Nat} {xs : Nat → Int32} {q0 q1 : Nat} {aX : Nat → Nat} {cX : Nat → ClassId} {aM : Nat → Nat} {cM : Nat → ClassId} {i : Nat} (hL : L ≤ 2048) (C0 : lw_At p s m meth c b L xs) (hKX : va_K D classes (yX cX) s) (hKM : va_K D classes (yM cM) s) (hi : i + 4 ≤ L) (hG : lw_G p l e s m below meth c b D q0 q1 aX cX aM cM i 584) : lw_G p l e s m below meth c b D q0 q1 aX cX aM cM i 301 := by
  obtain ⟨hx, hb, hr, hml, hown, hts0, hX, hbl, hlocks, hgv⟩ := C0
  have hts : ∀ w ∈ lw_g, w.before #[Value.ref b] s = true := fun w h => hts0 w (lw_gsub w h)
  have hA : ∀ q : Nat, s.heap.size ≤ q → (fun q : Nat => s.heap.size ≤ q) q := fun _ h => h
  have hbA : ¬ (fun q : Nat => s.heap.size ≤ q) b := Nat.not_le.mpr hbl
  intro hd st sz pt ng dp dn se va of sl wt kp ds cn cu pt2 ng2 va2 kp2 H locs ls hI hP hR hD hS hl
  refine lv_aload_n hx hb d_law_301 rfl (lv_at hl 1 rfl) ?_
  refine lv_aload_n hx hb d_law_302 rfl (lv_at hl 0 rfl) ?_
  refine lv_iload_n hx hb d_law_303 rfl (lv_at hl 3 rfl) ?_
  refine lv_iconst (v := nI 1) hx hb d_law_304 (by decide) ?_
  refine nr_iadd hx hb d_law_305 ?_
  refine nr_sld hx hb hX hbl hbA hS (k := i + 1) (by omega) (by omega) d_law_306 ?_
  refine xl_iV (C := R_X) (rest := []) ⟨hx, hb, hml, hown, hts⟩ (c_X_headOf l D q0 aX cX hd st sz pt ng dp dn se va of sl wt kp ds cn (-1) cu H.size hI.1 (xs (i + 1)) ) (cwV 1 hts (gd_v ml_law_44 im_X_headOf se_X_headOf ini_X cd_X_headOf) rfl rfl rfl (by decide +kernel) ⟨Nat.le_of_ble_eq_true rfl, Nat.le_of_ble_eq_true rfl⟩) (va_recv hKX hP (ci := 0) (q0 := 0) rfl rfl) hKX hP hR (fr_comm hD) hS hA rfl hl.1 rfl (Nat.le_of_ble_eq_true rfl) d_law_307 ⟨Nat.le_of_ble_eq_true rfl, Nat.le_of_ble_eq_true rfl⟩ (fun vX uX H locs hpX hP hR hD hS => ?_)
  have hD := fr_comm hD
  refine lv_aload_n hx hb d_law_310 rfl (lv_at hl 2 rfl) ?_
  refine lv_aload_n hx hb d_law_311 rfl (lv_at hl 0 rfl) ?_
  refine lv_iload_n hx hb d_law_312 rfl (lv_at hl 3 rfl) ?_
  refine lv_iconst (v := nI 1) hx hb d_law_313 (by decide) ?_
  refine nr_iadd hx hb d_law_314 ?_
  refine nr_sld hx hb hX hbl hbA hS (k := i + 1) (by omega) (by omega) d_law_315 ?_
  refine xl_iV (C := R_M) (rest := [.int vX]) ⟨hx, hb, hml, hown, hts⟩ (c_M_headOf l D q1 aM cM se dp dn hd st sz pt2 ng2 va2 kp2 ds cn H.size hI.2.1 (xs (i + 1)) ) (cwV 1 hts (gd_v ml_law_47 im_M_headOf se_M_headOf ini_M cd_M_headOf) rfl rfl rfl (by decide +kernel) ⟨Nat.le_of_ble_eq_true rfl, Nat.le_of_ble_eq_true rfl⟩) (va_recv hKM hR (ci := 1) (q0 := 0) rfl rfl) hKM hR hP hD hS hA rfl hl.1 rfl (Nat.le_of_ble_eq_true rfl) d_law_316 ⟨Nat.le_of_ble_eq_true rfl, Nat.le_of_ble_eq_true rfl⟩ (fun vM uM H locs hpM hR hP hD hS => ?_)
  refine lv_icmp_eq (tgt := 584) hx hb d_law_319 (by decide) (fun cc9 => ?_) (fun cc9 => absurd (hpX.trans hpM.symm) cc9)
  exact hG _ _ _ _ _ _ _ _ _ _ _ _ _ _ _ _ _ _ _ _ _ _ _ hI hP hR hD hS hl

set_option maxHeartbeats 4000000 in
set_option maxRecDepth 100000 in
theorem law_observed {p : Program} {l : Launch} {e : Env} {s : State} {m : MethodId} {below : List Frame} {meth : Method} {c : Code} {D : va_G} {b L : Nat} {xs : Nat → Int32} {q0 q1 : Nat} {aX : Nat → Nat} {cX : Nat → ClassId} {aM : Nat → Nat} {cM : Nat → ClassId} {i : Nat} (hL : L ≤ 2048) (C0 : lw_At p s m meth c b L xs) (hKX : va_K D classes (yX cX) s) (hKM : va_K D classes (yM cM) s) (hi : i + 4 ≤ L) (hG : lw_G p l e s m below meth c b D q0 q1 aX cX aM cM i 584) : lw_G p l e s m below meth c b D q0 q1 aX cX aM cM i 324 := by
  obtain ⟨hx, hb, hr, hml, hown, hts0, hX, hbl, hlocks, hgv⟩ := C0
  have hts : ∀ w ∈ lw_g, w.before #[Value.ref b] s = true := fun w h => hts0 w (lw_gsub w h)
  have hA : ∀ q : Nat, s.heap.size ≤ q → (fun q : Nat => s.heap.size ≤ q) q := fun _ h => h
  have hbA : ¬ (fun q : Nat => s.heap.size ≤ q) b := Nat.not_le.mpr hbl
  intro hd st sz pt ng dp dn se va of sl wt kp ds cn cu pt2 ng2 va2 kp2 H locs ls hI hP hR hD hS hl
  refine lv_aload_n hx hb d_law_324 rfl (lv_at hl 1 rfl) ?_
  refine lv_aload_n hx hb d_law_325 rfl (lv_at hl 0 rfl) ?_
  refine lv_iload_n hx hb d_law_326 rfl (lv_at hl 3 rfl) ?_
  refine lv_iconst (v := nI 1) hx hb d_law_327 (by decide) ?_
  refine nr_iadd hx hb d_law_328 ?_
  refine nr_sld hx hb hX hbl hbA hS (k := i + 1) (by omega) (by omega) d_law_329 ?_
  refine xl_iV (C := R_X) (rest := []) ⟨hx, hb, hml, hown, hts⟩ (c_X_observed l D q0 aX cX hd st sz pt ng dp dn se va of sl wt kp ds cn (-1) cu H.size hI.1 (xs (i + 1)) ) (cwV 1 hts (gd_v ml_law_48 im_X_observed se_X_observed ini_X cd_X_observed) rfl rfl rfl (by decide +kernel) ⟨Nat.le_of_ble_eq_true rfl, Nat.le_of_ble_eq_true rfl⟩) (va_recv hKX hP (ci := 0) (q0 := 0) rfl rfl) hKX hP hR (fr_comm hD) hS hA rfl hl.1 rfl (Nat.le_of_ble_eq_true rfl) d_law_330 ⟨Nat.le_of_ble_eq_true rfl, Nat.le_of_ble_eq_true rfl⟩ (fun vX uX H locs hpX hP hR hD hS => ?_)
  have hD := fr_comm hD
  refine lv_aload_n hx hb d_law_333 rfl (lv_at hl 2 rfl) ?_
  refine lv_aload_n hx hb d_law_334 rfl (lv_at hl 0 rfl) ?_
  refine lv_iload_n hx hb d_law_335 rfl (lv_at hl 3 rfl) ?_
  refine lv_iconst (v := nI 1) hx hb d_law_336 (by decide) ?_
  refine nr_iadd hx hb d_law_337 ?_
  refine nr_sld hx hb hX hbl hbA hS (k := i + 1) (by omega) (by omega) d_law_338 ?_
  refine xl_iV (C := R_M) (rest := [.int vX]) ⟨hx, hb, hml, hown, hts⟩ (c_M_observed l D q1 aM cM se dp dn hd st sz pt2 ng2 va2 kp2 ds cn H.size hI.2.1 (xs (i + 1)) ) (cwV 1 hts (gd_v ml_law_51 im_M_observed se_M_observed ini_M cd_M_observed) rfl rfl rfl (by decide +kernel) ⟨Nat.le_of_ble_eq_true rfl, Nat.le_of_ble_eq_true rfl⟩) (va_recv hKM hR (ci := 1) (q0 := 0) rfl rfl) hKM hR hP hD hS hA rfl hl.1 rfl (Nat.le_of_ble_eq_true rfl) d_law_339 ⟨Nat.le_of_ble_eq_true rfl, Nat.le_of_ble_eq_true rfl⟩ (fun vM uM H locs hpM hR hP hD hS => ?_)
  refine lv_icmp_eq (tgt := 584) hx hb d_law_342 (by decide) (fun cc9 => ?_) (fun cc9 => absurd (hpX.trans hpM.symm) cc9)
  exact hG _ _ _ _ _ _ _ _ _ _ _ _ _ _ _ _ _ _ _ _ _ _ _ hI hP hR hD hS hl

set_option maxHeartbeats 4000000 in
set_option maxRecDepth 100000 in
theorem law_certainty {p : Program} {l : Launch} {e : Env} {s : State} {m : MethodId} {below : List Frame} {meth : Method} {c : Code} {D : va_G} {b L : Nat} {xs : Nat → Int32} {q0 q1 : Nat} {aX : Nat → Nat} {cX : Nat → ClassId} {aM : Nat → Nat} {cM : Nat → ClassId} {i : Nat} (hL : L ≤ 2048) (C0 : lw_At p s m meth c b L xs) (hKX : va_K D classes (yX cX) s) (hKM : va_K D classes (yM cM) s) (hi : i + 4 ≤ L) (hG : lw_G p l e s m below meth c b D q0 q1 aX cX aM cM i 584) : lw_G p l e s m below meth c b D q0 q1 aX cX aM cM i 347 := by
  obtain ⟨hx, hb, hr, hml, hown, hts0, hX, hbl, hlocks, hgv⟩ := C0
  have hts : ∀ w ∈ lw_g, w.before #[Value.ref b] s = true := fun w h => hts0 w (lw_gsub w h)
  have hA : ∀ q : Nat, s.heap.size ≤ q → (fun q : Nat => s.heap.size ≤ q) q := fun _ h => h
  have hbA : ¬ (fun q : Nat => s.heap.size ≤ q) b := Nat.not_le.mpr hbl
  intro hd st sz pt ng dp dn se va of sl wt kp ds cn cu pt2 ng2 va2 kp2 H locs ls hI hP hR hD hS hl
  refine lv_aload_n hx hb d_law_347 rfl (lv_at hl 1 rfl) ?_
  refine lv_aload_n hx hb d_law_348 rfl (lv_at hl 0 rfl) ?_
  refine lv_iload_n hx hb d_law_349 rfl (lv_at hl 3 rfl) ?_
  refine lv_iconst (v := nI 1) hx hb d_law_350 (by decide) ?_
  refine nr_iadd hx hb d_law_351 ?_
  refine nr_sld hx hb hX hbl hbA hS (k := i + 1) (by omega) (by omega) d_law_352 ?_
  refine xl_iV (C := R_X) (rest := []) ⟨hx, hb, hml, hown, hts⟩ (c_X_certainty l D q0 aX cX hd st sz pt ng dp dn se va of sl wt kp ds cn (-1) cu H.size hI.1 (xs (i + 1)) hI.2.2.1 rfl hI.2.2.2.2) (cwV 1 hts (gd_v ml_law_52 im_X_certainty se_X_certainty ini_X cd_X_certainty) rfl rfl rfl (by decide +kernel) ⟨Nat.le_of_ble_eq_true rfl, Nat.le_of_ble_eq_true rfl⟩) (va_recv hKX hP (ci := 0) (q0 := 0) rfl rfl) hKX hP hR (fr_comm hD) hS hA rfl hl.1 rfl (Nat.le_of_ble_eq_true rfl) d_law_353 ⟨Nat.le_of_ble_eq_true rfl, Nat.le_of_ble_eq_true rfl⟩ (fun vX uX H locs hpX hP hR hD hS => ?_)
  have hD := fr_comm hD
  refine lv_aload_n hx hb d_law_356 rfl (lv_at hl 2 rfl) ?_
  refine lv_aload_n hx hb d_law_357 rfl (lv_at hl 0 rfl) ?_
  refine lv_iload_n hx hb d_law_358 rfl (lv_at hl 3 rfl) ?_
  refine lv_iconst (v := nI 1) hx hb d_law_359 (by decide) ?_
  refine nr_iadd hx hb d_law_360 ?_
  refine nr_sld hx hb hX hbl hbA hS (k := i + 1) (by omega) (by omega) d_law_361 ?_
  refine xl_iV (C := R_M) (rest := [.int vX]) ⟨hx, hb, hml, hown, hts⟩ (c_M_certainty l D q1 aM cM se dp dn hd st sz pt2 ng2 va2 kp2 ds cn H.size hI.2.1 (xs (i + 1)) (li_ok2 hI)) (cwV 1 hts (gd_v ml_law_55 im_M_certainty se_M_certainty ini_M cd_M_certainty) rfl rfl rfl (by decide +kernel) ⟨Nat.le_of_ble_eq_true rfl, Nat.le_of_ble_eq_true rfl⟩) (va_recv hKM hR (ci := 1) (q0 := 0) rfl rfl) hKM hR hP hD hS hA rfl hl.1 rfl (Nat.le_of_ble_eq_true rfl) d_law_362 ⟨Nat.le_of_ble_eq_true rfl, Nat.le_of_ble_eq_true rfl⟩ (fun vM uM H locs hpM hR hP hD hS => ?_)
  obtain ⟨hvX, hqX⟩ := hpX
  obtain ⟨hvM, hqM⟩ := hpM
  refine lv_icmp_eq (tgt := 584) hx hb d_law_365 (by decide) (fun cc9 => ?_) (fun cc9 => absurd (li_eq (q := fun V => sp_at (xs (i + 1)) 16 (V se (-1))) hI hvX hvM) cc9)
  exact hG _ _ _ _ _ _ _ _ _ _ _ _ _ _ _ _ _ _ _ _ _ _ _ (li_q hI hqX hqM) hP hR hD hS hl

set_option maxHeartbeats 4000000 in
set_option maxRecDepth 100000 in
theorem law_whatIf {p : Program} {l : Launch} {e : Env} {s : State} {m : MethodId} {below : List Frame} {meth : Method} {c : Code} {D : va_G} {b L : Nat} {xs : Nat → Int32} {q0 q1 : Nat} {aX : Nat → Nat} {cX : Nat → ClassId} {aM : Nat → Nat} {cM : Nat → ClassId} {i : Nat} (hL : L ≤ 2048) (C0 : lw_At p s m meth c b L xs) (hKX : va_K D classes (yX cX) s) (hKM : va_K D classes (yM cM) s) (hi : i + 4 ≤ L) (hG : lw_G p l e s m below meth c b D q0 q1 aX cX aM cM i 584) : lw_G p l e s m below meth c b D q0 q1 aX cX aM cM i 370 := by
  obtain ⟨hx, hb, hr, hml, hown, hts0, hX, hbl, hlocks, hgv⟩ := C0
  have hts : ∀ w ∈ lw_g, w.before #[Value.ref b] s = true := fun w h => hts0 w (lw_gsub w h)
  have hA : ∀ q : Nat, s.heap.size ≤ q → (fun q : Nat => s.heap.size ≤ q) q := fun _ h => h
  have hbA : ¬ (fun q : Nat => s.heap.size ≤ q) b := Nat.not_le.mpr hbl
  intro hd st sz pt ng dp dn se va of sl wt kp ds cn cu pt2 ng2 va2 kp2 H locs ls hI hP hR hD hS hl
  refine lv_aload_n hx hb d_law_370 rfl (lv_at hl 1 rfl) ?_
  refine lv_aload_n hx hb d_law_371 rfl (lv_at hl 0 rfl) ?_
  refine lv_iload_n hx hb d_law_372 rfl (lv_at hl 3 rfl) ?_
  refine lv_iconst (v := nI 1) hx hb d_law_373 (by decide) ?_
  refine nr_iadd hx hb d_law_374 ?_
  refine nr_sld hx hb hX hbl hbA hS (k := i + 1) (by omega) (by omega) d_law_375 ?_
  refine lv_aload_n hx hb d_law_376 rfl (lv_at hl 0 rfl) ?_
  refine lv_iload_n hx hb d_law_377 rfl (lv_at hl 3 rfl) ?_
  refine lv_iconst (v := nI 2) hx hb d_law_378 (by decide) ?_
  refine nr_iadd hx hb d_law_379 ?_
  refine nr_sld hx hb hX hbl hbA hS (k := i + 2) (by omega) (by omega) d_law_380 ?_
  refine lv_aload_n hx hb d_law_381 rfl (lv_at hl 0 rfl) ?_
  refine lv_iload_n hx hb d_law_382 rfl (lv_at hl 3 rfl) ?_
  refine lv_iconst (v := nI 3) hx hb d_law_383 (by decide) ?_
  refine nr_iadd hx hb d_law_384 ?_
  refine nr_sld hx hb hX hbl hbA hS (k := i + 3) (by omega) (by omega) d_law_385 ?_
  refine xl_iV (C := R_X) (rest := []) ⟨hx, hb, hml, hown, hts⟩ (c_X_whatIf l D q0 aX cX hd st sz pt ng dp dn se va of sl wt kp ds cn (-1) cu H.size hI.1 (xs (i + 1)) (xs (i + 2)) (xs (i + 3)) hI.2.2.1 rfl hI.2.2.2.2) (cwV 3 hts (gd_v ml_law_56 im_X_whatIf se_X_whatIf ini_X cd_X_whatIf) rfl rfl rfl (by decide +kernel) ⟨Nat.le_of_ble_eq_true rfl, Nat.le_of_ble_eq_true rfl⟩) (va_recv hKX hP (ci := 0) (q0 := 0) rfl rfl) hKX hP hR (fr_comm hD) hS hA rfl hl.1 rfl (Nat.le_of_ble_eq_true rfl) d_law_386 ⟨Nat.le_of_ble_eq_true rfl, Nat.le_of_ble_eq_true rfl⟩ (fun vX uX H locs hpX hP hR hD hS => ?_)
  have hD := fr_comm hD
  refine lv_aload_n hx hb d_law_389 rfl (lv_at hl 2 rfl) ?_
  refine lv_aload_n hx hb d_law_390 rfl (lv_at hl 0 rfl) ?_
  refine lv_iload_n hx hb d_law_391 rfl (lv_at hl 3 rfl) ?_
  refine lv_iconst (v := nI 1) hx hb d_law_392 (by decide) ?_
  refine nr_iadd hx hb d_law_393 ?_
  refine nr_sld hx hb hX hbl hbA hS (k := i + 1) (by omega) (by omega) d_law_394 ?_
  refine lv_aload_n hx hb d_law_395 rfl (lv_at hl 0 rfl) ?_
  refine lv_iload_n hx hb d_law_396 rfl (lv_at hl 3 rfl) ?_
  refine lv_iconst (v := nI 2) hx hb d_law_397 (by decide) ?_
  refine nr_iadd hx hb d_law_398 ?_
  refine nr_sld hx hb hX hbl hbA hS (k := i + 2) (by omega) (by omega) d_law_399 ?_
  refine lv_aload_n hx hb d_law_400 rfl (lv_at hl 0 rfl) ?_
  refine lv_iload_n hx hb d_law_401 rfl (lv_at hl 3 rfl) ?_
  refine lv_iconst (v := nI 3) hx hb d_law_402 (by decide) ?_
  refine nr_iadd hx hb d_law_403 ?_
  refine nr_sld hx hb hX hbl hbA hS (k := i + 3) (by omega) (by omega) d_law_404 ?_
  refine xl_iV (C := R_M) (rest := [.int vX]) ⟨hx, hb, hml, hown, hts⟩ (c_M_whatIf l D q1 aM cM se dp dn hd st sz pt2 ng2 va2 kp2 ds cn H.size hI.2.1 (xs (i + 1)) (xs (i + 2)) (xs (i + 3)) (li_ok2 hI)) (cwV 3 hts (gd_v ml_law_60 im_M_whatIf se_M_whatIf ini_M cd_M_whatIf) rfl rfl rfl (by decide +kernel) ⟨Nat.le_of_ble_eq_true rfl, Nat.le_of_ble_eq_true rfl⟩) (va_recv hKM hR (ci := 1) (q0 := 0) rfl rfl) hKM hR hP hD hS hA rfl hl.1 rfl (Nat.le_of_ble_eq_true rfl) d_law_405 ⟨Nat.le_of_ble_eq_true rfl, Nat.le_of_ble_eq_true rfl⟩ (fun vM uM H locs hpM hR hP hD hS => ?_)
  obtain ⟨hvX, hqX⟩ := hpX
  obtain ⟨hvM, hqM⟩ := hpM
  refine lv_icmp_eq (tgt := 584) hx hb d_law_408 (by decide) (fun cc9 => ?_) (fun cc9 => absurd (li_eq (q := fun V => sp_wi (xs (i + 1)) (xs (i + 2)) (xs (i + 3)) se V) hI hvX hvM) cc9)
  exact hG _ _ _ _ _ _ _ _ _ _ _ _ _ _ _ _ _ _ _ _ _ _ _ (li_q hI hqX hqM) hP hR hD hS hl

set_option maxHeartbeats 4000000 in
set_option maxRecDepth 100000 in
theorem law_without {p : Program} {l : Launch} {e : Env} {s : State} {m : MethodId} {below : List Frame} {meth : Method} {c : Code} {D : va_G} {b L : Nat} {xs : Nat → Int32} {q0 q1 : Nat} {aX : Nat → Nat} {cX : Nat → ClassId} {aM : Nat → Nat} {cM : Nat → ClassId} {i : Nat} (hL : L ≤ 2048) (C0 : lw_At p s m meth c b L xs) (hKX : va_K D classes (yX cX) s) (hKM : va_K D classes (yM cM) s) (hi : i + 4 ≤ L) (hG : lw_G p l e s m below meth c b D q0 q1 aX cX aM cM i 584) : lw_G p l e s m below meth c b D q0 q1 aX cX aM cM i 413 := by
  obtain ⟨hx, hb, hr, hml, hown, hts0, hX, hbl, hlocks, hgv⟩ := C0
  have hts : ∀ w ∈ lw_g, w.before #[Value.ref b] s = true := fun w h => hts0 w (lw_gsub w h)
  have hA : ∀ q : Nat, s.heap.size ≤ q → (fun q : Nat => s.heap.size ≤ q) q := fun _ h => h
  have hbA : ¬ (fun q : Nat => s.heap.size ≤ q) b := Nat.not_le.mpr hbl
  intro hd st sz pt ng dp dn se va of sl wt kp ds cn cu pt2 ng2 va2 kp2 H locs ls hI hP hR hD hS hl
  refine lv_aload_n hx hb d_law_413 rfl (lv_at hl 1 rfl) ?_
  refine lv_aload_n hx hb d_law_414 rfl (lv_at hl 0 rfl) ?_
  refine lv_iload_n hx hb d_law_415 rfl (lv_at hl 3 rfl) ?_
  refine lv_iconst (v := nI 1) hx hb d_law_416 (by decide) ?_
  refine nr_iadd hx hb d_law_417 ?_
  refine nr_sld hx hb hX hbl hbA hS (k := i + 1) (by omega) (by omega) d_law_418 ?_
  refine lv_aload_n hx hb d_law_419 rfl (lv_at hl 0 rfl) ?_
  refine lv_iload_n hx hb d_law_420 rfl (lv_at hl 3 rfl) ?_
  refine lv_iconst (v := nI 2) hx hb d_law_421 (by decide) ?_
  refine nr_iadd hx hb d_law_422 ?_
  refine nr_sld hx hb hX hbl hbA hS (k := i + 2) (by omega) (by omega) d_law_423 ?_
  refine xl_iV (C := R_X) (rest := []) ⟨hx, hb, hml, hown, hts⟩ (c_X_without l D q0 aX cX hd st sz pt ng dp dn se va of sl wt kp ds cn (-1) cu H.size hI.1 (xs (i + 1)) (xs (i + 2)) hI.2.2.1 rfl hI.2.2.2.2) (cwV 2 hts (gd_v ml_law_61 im_X_without se_X_without ini_X cd_X_without) rfl rfl rfl (by decide +kernel) ⟨Nat.le_of_ble_eq_true rfl, Nat.le_of_ble_eq_true rfl⟩) (va_recv hKX hP (ci := 0) (q0 := 0) rfl rfl) hKX hP hR (fr_comm hD) hS hA rfl hl.1 rfl (Nat.le_of_ble_eq_true rfl) d_law_424 ⟨Nat.le_of_ble_eq_true rfl, Nat.le_of_ble_eq_true rfl⟩ (fun vX uX H locs hpX hP hR hD hS => ?_)
  have hD := fr_comm hD
  refine lv_aload_n hx hb d_law_427 rfl (lv_at hl 2 rfl) ?_
  refine lv_aload_n hx hb d_law_428 rfl (lv_at hl 0 rfl) ?_
  refine lv_iload_n hx hb d_law_429 rfl (lv_at hl 3 rfl) ?_
  refine lv_iconst (v := nI 1) hx hb d_law_430 (by decide) ?_
  refine nr_iadd hx hb d_law_431 ?_
  refine nr_sld hx hb hX hbl hbA hS (k := i + 1) (by omega) (by omega) d_law_432 ?_
  refine lv_aload_n hx hb d_law_433 rfl (lv_at hl 0 rfl) ?_
  refine lv_iload_n hx hb d_law_434 rfl (lv_at hl 3 rfl) ?_
  refine lv_iconst (v := nI 2) hx hb d_law_435 (by decide) ?_
  refine nr_iadd hx hb d_law_436 ?_
  refine nr_sld hx hb hX hbl hbA hS (k := i + 2) (by omega) (by omega) d_law_437 ?_
  refine xl_iV (C := R_M) (rest := [.int vX]) ⟨hx, hb, hml, hown, hts⟩ (c_M_without l D q1 aM cM se dp dn hd st sz pt2 ng2 va2 kp2 ds cn H.size hI.2.1 (xs (i + 1)) (xs (i + 2)) (li_ok2 hI)) (cwV 2 hts (gd_v ml_law_64 im_M_without se_M_without ini_M cd_M_without) rfl rfl rfl (by decide +kernel) ⟨Nat.le_of_ble_eq_true rfl, Nat.le_of_ble_eq_true rfl⟩) (va_recv hKM hR (ci := 1) (q0 := 0) rfl rfl) hKM hR hP hD hS hA rfl hl.1 rfl (Nat.le_of_ble_eq_true rfl) d_law_438 ⟨Nat.le_of_ble_eq_true rfl, Nat.le_of_ble_eq_true rfl⟩ (fun vM uM H locs hpM hR hP hD hS => ?_)
  obtain ⟨hvX, hqX⟩ := hpX
  obtain ⟨hvM, hqM⟩ := hpM
  refine lv_icmp_eq (tgt := 584) hx hb d_law_441 (by decide) (fun cc9 => ?_) (fun cc9 => absurd (li_eq (q := fun V => sp_wo (xs (i + 1)) (xs (i + 2)) cn se V) hI hvX hvM) cc9)
  exact hG _ _ _ _ _ _ _ _ _ _ _ _ _ _ _ _ _ _ _ _ _ _ _ (li_q hI hqX hqM) hP hR hD hS hl

set_option maxHeartbeats 4000000 in
set_option maxRecDepth 100000 in
theorem law_supporter {p : Program} {l : Launch} {e : Env} {s : State} {m : MethodId} {below : List Frame} {meth : Method} {c : Code} {D : va_G} {b L : Nat} {xs : Nat → Int32} {q0 q1 : Nat} {aX : Nat → Nat} {cX : Nat → ClassId} {aM : Nat → Nat} {cM : Nat → ClassId} {i : Nat} (hL : L ≤ 2048) (C0 : lw_At p s m meth c b L xs) (hKX : va_K D classes (yX cX) s) (hKM : va_K D classes (yM cM) s) (hi : i + 4 ≤ L) (hG : lw_G p l e s m below meth c b D q0 q1 aX cX aM cM i 584) : lw_G p l e s m below meth c b D q0 q1 aX cX aM cM i 446 := by
  obtain ⟨hx, hb, hr, hml, hown, hts0, hX, hbl, hlocks, hgv⟩ := C0
  have hts : ∀ w ∈ lw_g, w.before #[Value.ref b] s = true := fun w h => hts0 w (lw_gsub w h)
  have hA : ∀ q : Nat, s.heap.size ≤ q → (fun q : Nat => s.heap.size ≤ q) q := fun _ h => h
  have hbA : ¬ (fun q : Nat => s.heap.size ≤ q) b := Nat.not_le.mpr hbl
  intro hd st sz pt ng dp dn se va of sl wt kp ds cn cu pt2 ng2 va2 kp2 H locs ls hI hP hR hD hS hl
  refine lv_aload_n hx hb d_law_446 rfl (lv_at hl 1 rfl) ?_
  refine lv_aload_n hx hb d_law_447 rfl (lv_at hl 0 rfl) ?_
  refine lv_iload_n hx hb d_law_448 rfl (lv_at hl 3 rfl) ?_
  refine lv_iconst (v := nI 1) hx hb d_law_449 (by decide) ?_
  refine nr_iadd hx hb d_law_450 ?_
  refine nr_sld hx hb hX hbl hbA hS (k := i + 1) (by omega) (by omega) d_law_451 ?_
  refine xl_iV (C := R_X) (rest := []) ⟨hx, hb, hml, hown, hts⟩ (c_X_supporter l D q0 aX cX hd st sz pt ng dp dn se va of sl wt kp ds cn (-1) cu H.size hI.1 (xs (i + 1)) hI.2.2.1 rfl hI.2.2.2.2) (cwV 1 hts (gd_v ml_law_65 im_X_supporter se_X_supporter ini_X cd_X_supporter) rfl rfl rfl (by decide +kernel) ⟨Nat.le_of_ble_eq_true rfl, Nat.le_of_ble_eq_true rfl⟩) (va_recv hKX hP (ci := 0) (q0 := 0) rfl rfl) hKX hP hR (fr_comm hD) hS hA rfl hl.1 rfl (Nat.le_of_ble_eq_true rfl) d_law_452 ⟨Nat.le_of_ble_eq_true rfl, Nat.le_of_ble_eq_true rfl⟩ (fun vX uX H locs hpX hP hR hD hS => ?_)
  have hD := fr_comm hD
  refine lv_aload_n hx hb d_law_455 rfl (lv_at hl 2 rfl) ?_
  refine lv_aload_n hx hb d_law_456 rfl (lv_at hl 0 rfl) ?_
  refine lv_iload_n hx hb d_law_457 rfl (lv_at hl 3 rfl) ?_
  refine lv_iconst (v := nI 1) hx hb d_law_458 (by decide) ?_
  refine nr_iadd hx hb d_law_459 ?_
  refine nr_sld hx hb hX hbl hbA hS (k := i + 1) (by omega) (by omega) d_law_460 ?_
  refine xl_iV (C := R_M) (rest := [.int vX]) ⟨hx, hb, hml, hown, hts⟩ (c_M_supporter l D q1 aM cM se dp dn hd st sz pt2 ng2 va2 kp2 ds cn H.size hI.2.1 (xs (i + 1)) (li_ok2 hI)) (cwV 1 hts (gd_v ml_law_68 im_M_supporter se_M_supporter ini_M cd_M_supporter) rfl rfl rfl (by decide +kernel) ⟨Nat.le_of_ble_eq_true rfl, Nat.le_of_ble_eq_true rfl⟩) (va_recv hKM hR (ci := 1) (q0 := 0) rfl rfl) hKM hR hP hD hS hA rfl hl.1 rfl (Nat.le_of_ble_eq_true rfl) d_law_461 ⟨Nat.le_of_ble_eq_true rfl, Nat.le_of_ble_eq_true rfl⟩ (fun vM uM H locs hpM hR hP hD hS => ?_)
  obtain ⟨hvX, hqX⟩ := hpX
  obtain ⟨hvM, hqM⟩ := hpM
  refine lv_icmp_eq (tgt := 584) hx hb d_law_464 (by decide) (fun cc9 => ?_) (fun cc9 => absurd (li_eqS  hI hvX hvM) cc9)
  exact hG _ _ _ _ _ _ _ _ _ _ _ _ _ _ _ _ _ _ _ _ _ _ _ (li_q hI hqX hqM) hP hR hD hS hl

set_option maxHeartbeats 4000000 in
set_option maxRecDepth 100000 in
theorem law_yield {p : Program} {l : Launch} {e : Env} {s : State} {m : MethodId} {below : List Frame} {meth : Method} {c : Code} {D : va_G} {b L : Nat} {xs : Nat → Int32} {q0 q1 : Nat} {aX : Nat → Nat} {cX : Nat → ClassId} {aM : Nat → Nat} {cM : Nat → ClassId} {i : Nat} (hL : L ≤ 2048) (C0 : lw_At p s m meth c b L xs) (hKX : va_K D classes (yX cX) s) (hKM : va_K D classes (yM cM) s) (hi : i + 4 ≤ L) (hG : lw_G p l e s m below meth c b D q0 q1 aX cX aM cM i 584) : lw_G p l e s m below meth c b D q0 q1 aX cX aM cM i 469 := by
  obtain ⟨hx, hb, hr, hml, hown, hts0, hX, hbl, hlocks, hgv⟩ := C0
  have hts : ∀ w ∈ lw_g, w.before #[Value.ref b] s = true := fun w h => hts0 w (lw_gsub w h)
  have hA : ∀ q : Nat, s.heap.size ≤ q → (fun q : Nat => s.heap.size ≤ q) q := fun _ h => h
  have hbA : ¬ (fun q : Nat => s.heap.size ≤ q) b := Nat.not_le.mpr hbl
  intro hd st sz pt ng dp dn se va of sl wt kp ds cn cu pt2 ng2 va2 kp2 H locs ls hI hP hR hD hS hl
  refine lv_aload_n hx hb d_law_469 rfl (lv_at hl 1 rfl) ?_
  refine lv_aload_n hx hb d_law_470 rfl (lv_at hl 0 rfl) ?_
  refine lv_iload_n hx hb d_law_471 rfl (lv_at hl 3 rfl) ?_
  refine lv_iconst (v := nI 1) hx hb d_law_472 (by decide) ?_
  refine nr_iadd hx hb d_law_473 ?_
  refine nr_sld hx hb hX hbl hbA hS (k := i + 1) (by omega) (by omega) d_law_474 ?_
  refine xl_iV (C := R_X) (rest := []) ⟨hx, hb, hml, hown, hts⟩ (c_X_yield l D q0 aX cX hd st sz pt ng dp dn se va of sl wt kp ds cn (-1) cu H.size hI.1 (xs (i + 1)) hI.2.2.1 rfl hI.2.2.2.2) (cwV 1 hts (gd_v ml_law_69 im_X_yield se_X_yield ini_X cd_X_yield) rfl rfl rfl (by decide +kernel) ⟨Nat.le_of_ble_eq_true rfl, Nat.le_of_ble_eq_true rfl⟩) (va_recv hKX hP (ci := 0) (q0 := 0) rfl rfl) hKX hP hR (fr_comm hD) hS hA rfl hl.1 rfl (Nat.le_of_ble_eq_true rfl) d_law_475 ⟨Nat.le_of_ble_eq_true rfl, Nat.le_of_ble_eq_true rfl⟩ (fun vX uX H locs hpX hP hR hD hS => ?_)
  have hD := fr_comm hD
  refine lv_aload_n hx hb d_law_478 rfl (lv_at hl 2 rfl) ?_
  refine lv_aload_n hx hb d_law_479 rfl (lv_at hl 0 rfl) ?_
  refine lv_iload_n hx hb d_law_480 rfl (lv_at hl 3 rfl) ?_
  refine lv_iconst (v := nI 1) hx hb d_law_481 (by decide) ?_
  refine nr_iadd hx hb d_law_482 ?_
  refine nr_sld hx hb hX hbl hbA hS (k := i + 1) (by omega) (by omega) d_law_483 ?_
  refine xl_iV (C := R_M) (rest := [.int vX]) ⟨hx, hb, hml, hown, hts⟩ (c_M_yield l D q1 aM cM se dp dn hd st sz pt2 ng2 va2 kp2 ds cn H.size hI.2.1 (xs (i + 1)) (li_ok2 hI)) (cwV 1 hts (gd_v ml_law_72 im_M_yield se_M_yield ini_M cd_M_yield) rfl rfl rfl (by decide +kernel) ⟨Nat.le_of_ble_eq_true rfl, Nat.le_of_ble_eq_true rfl⟩) (va_recv hKM hR (ci := 1) (q0 := 0) rfl rfl) hKM hR hP hD hS hA rfl hl.1 rfl (Nat.le_of_ble_eq_true rfl) d_law_484 ⟨Nat.le_of_ble_eq_true rfl, Nat.le_of_ble_eq_true rfl⟩ (fun vM uM H locs hpM hR hP hD hS => ?_)
  obtain ⟨hvX, hqX⟩ := hpX
  obtain ⟨hvM, hqM⟩ := hpM
  refine lv_icmp_eq (tgt := 584) hx hb d_law_487 (by decide) (fun cc9 => ?_) (fun cc9 => absurd (li_eqY  hI hvX hvM) cc9)
  exact hG _ _ _ _ _ _ _ _ _ _ _ _ _ _ _ _ _ _ _ _ _ _ _ (li_q hI hqX hqM) hP hR hD hS hl

set_option maxHeartbeats 4000000 in
set_option maxRecDepth 100000 in
theorem law_atLeast {p : Program} {l : Launch} {e : Env} {s : State} {m : MethodId} {below : List Frame} {meth : Method} {c : Code} {D : va_G} {b L : Nat} {xs : Nat → Int32} {q0 q1 : Nat} {aX : Nat → Nat} {cX : Nat → ClassId} {aM : Nat → Nat} {cM : Nat → ClassId} {i : Nat} (hL : L ≤ 2048) (C0 : lw_At p s m meth c b L xs) (hKX : va_K D classes (yX cX) s) (hKM : va_K D classes (yM cM) s) (hi : i + 4 ≤ L) (hG : lw_G p l e s m below meth c b D q0 q1 aX cX aM cM i 584) : lw_G p l e s m below meth c b D q0 q1 aX cX aM cM i 492 := by
  obtain ⟨hx, hb, hr, hml, hown, hts0, hX, hbl, hlocks, hgv⟩ := C0
  have hts : ∀ w ∈ lw_g, w.before #[Value.ref b] s = true := fun w h => hts0 w (lw_gsub w h)
  have hA : ∀ q : Nat, s.heap.size ≤ q → (fun q : Nat => s.heap.size ≤ q) q := fun _ h => h
  have hbA : ¬ (fun q : Nat => s.heap.size ≤ q) b := Nat.not_le.mpr hbl
  intro hd st sz pt ng dp dn se va of sl wt kp ds cn cu pt2 ng2 va2 kp2 H locs ls hI hP hR hD hS hl
  refine lv_aload_n hx hb d_law_492 rfl (lv_at hl 1 rfl) ?_
  refine lv_aload_n hx hb d_law_493 rfl (lv_at hl 0 rfl) ?_
  refine lv_iload_n hx hb d_law_494 rfl (lv_at hl 3 rfl) ?_
  refine lv_iconst (v := nI 1) hx hb d_law_495 (by decide) ?_
  refine nr_iadd hx hb d_law_496 ?_
  refine nr_sld hx hb hX hbl hbA hS (k := i + 1) (by omega) (by omega) d_law_497 ?_
  refine xl_iV (C := R_X) (rest := []) ⟨hx, hb, hml, hown, hts⟩ (c_X_atLeast l D q0 aX cX hd st sz pt ng dp dn se va of sl wt kp ds cn (-1) cu H.size hI.1 (xs (i + 1)) hI.2.2.1 rfl hI.2.2.2.2) (cwV 1 hts (gd_v ml_law_73 im_X_atLeast se_X_atLeast ini_X cd_X_atLeast) rfl rfl rfl (by decide +kernel) ⟨Nat.le_of_ble_eq_true rfl, Nat.le_of_ble_eq_true rfl⟩) (va_recv hKX hP (ci := 0) (q0 := 0) rfl rfl) hKX hP hR (fr_comm hD) hS hA rfl hl.1 rfl (Nat.le_of_ble_eq_true rfl) d_law_498 ⟨Nat.le_of_ble_eq_true rfl, Nat.le_of_ble_eq_true rfl⟩ (fun vX uX H locs hpX hP hR hD hS => ?_)
  have hD := fr_comm hD
  refine lv_aload_n hx hb d_law_501 rfl (lv_at hl 2 rfl) ?_
  refine lv_aload_n hx hb d_law_502 rfl (lv_at hl 0 rfl) ?_
  refine lv_iload_n hx hb d_law_503 rfl (lv_at hl 3 rfl) ?_
  refine lv_iconst (v := nI 1) hx hb d_law_504 (by decide) ?_
  refine nr_iadd hx hb d_law_505 ?_
  refine nr_sld hx hb hX hbl hbA hS (k := i + 1) (by omega) (by omega) d_law_506 ?_
  refine xl_iV (C := R_M) (rest := [.int vX]) ⟨hx, hb, hml, hown, hts⟩ (c_M_atLeast l D q1 aM cM se dp dn hd st sz pt2 ng2 va2 kp2 ds cn H.size hI.2.1 (xs (i + 1)) (li_ok2 hI)) (cwV 1 hts (gd_v ml_law_76 im_M_atLeast se_M_atLeast ini_M cd_M_atLeast) rfl rfl rfl (by decide +kernel) ⟨Nat.le_of_ble_eq_true rfl, Nat.le_of_ble_eq_true rfl⟩) (va_recv hKM hR (ci := 1) (q0 := 0) rfl rfl) hKM hR hP hD hS hA rfl hl.1 rfl (Nat.le_of_ble_eq_true rfl) d_law_507 ⟨Nat.le_of_ble_eq_true rfl, Nat.le_of_ble_eq_true rfl⟩ (fun vM uM H locs hpM hR hP hD hS => ?_)
  obtain ⟨hvX, hqX⟩ := hpX
  obtain ⟨hvM, hqM⟩ := hpM
  refine lv_icmp_eq (tgt := 584) hx hb d_law_510 (by decide) (fun cc9 => ?_) (fun cc9 => absurd (li_eq (q := fun V => nI (sp_al (V se (-1)) (xs (i + 1)) 16)) hI hvX hvM) cc9)
  exact hG _ _ _ _ _ _ _ _ _ _ _ _ _ _ _ _ _ _ _ _ _ _ _ (li_q hI hqX hqM) hP hR hD hS hl

set_option maxHeartbeats 4000000 in
set_option maxRecDepth 100000 in
theorem law_strongest {p : Program} {l : Launch} {e : Env} {s : State} {m : MethodId} {below : List Frame} {meth : Method} {c : Code} {D : va_G} {b L : Nat} {xs : Nat → Int32} {q0 q1 : Nat} {aX : Nat → Nat} {cX : Nat → ClassId} {aM : Nat → Nat} {cM : Nat → ClassId} {i : Nat} (hL : L ≤ 2048) (C0 : lw_At p s m meth c b L xs) (hKX : va_K D classes (yX cX) s) (hKM : va_K D classes (yM cM) s) (hi : i + 4 ≤ L) (hG : lw_G p l e s m below meth c b D q0 q1 aX cX aM cM i 584) : lw_G p l e s m below meth c b D q0 q1 aX cX aM cM i 515 := by
  obtain ⟨hx, hb, hr, hml, hown, hts0, hX, hbl, hlocks, hgv⟩ := C0
  have hts : ∀ w ∈ lw_g, w.before #[Value.ref b] s = true := fun w h => hts0 w (lw_gsub w h)
  have hA : ∀ q : Nat, s.heap.size ≤ q → (fun q : Nat => s.heap.size ≤ q) q := fun _ h => h
  have hbA : ¬ (fun q : Nat => s.heap.size ≤ q) b := Nat.not_le.mpr hbl
  intro hd st sz pt ng dp dn se va of sl wt kp ds cn cu pt2 ng2 va2 kp2 H locs ls hI hP hR hD hS hl
  refine lv_aload_n hx hb d_law_515 rfl (lv_at hl 1 rfl) ?_
  refine lv_aload_n hx hb d_law_516 rfl (lv_at hl 0 rfl) ?_
  refine lv_iload_n hx hb d_law_517 rfl (lv_at hl 3 rfl) ?_
  refine lv_iconst (v := nI 1) hx hb d_law_518 (by decide) ?_
  refine nr_iadd hx hb d_law_519 ?_
  refine nr_sld hx hb hX hbl hbA hS (k := i + 1) (by omega) (by omega) d_law_520 ?_
  refine lv_aload_n hx hb d_law_521 rfl (lv_at hl 0 rfl) ?_
  refine lv_iload_n hx hb d_law_522 rfl (lv_at hl 3 rfl) ?_
  refine lv_iconst (v := nI 2) hx hb d_law_523 (by decide) ?_
  refine nr_iadd hx hb d_law_524 ?_
  refine nr_sld hx hb hX hbl hbA hS (k := i + 2) (by omega) (by omega) d_law_525 ?_
  refine xl_iV (C := R_X) (rest := []) ⟨hx, hb, hml, hown, hts⟩ (c_X_strongest l D q0 aX cX hd st sz pt ng dp dn se va of sl wt kp ds cn (-1) cu H.size hI.1 (xs (i + 1)) (xs (i + 2)) hI.2.2.1 rfl hI.2.2.2.2) (cwV 2 hts (gd_v ml_law_77 im_X_strongest se_X_strongest ini_X cd_X_strongest) rfl rfl rfl (by decide +kernel) ⟨Nat.le_of_ble_eq_true rfl, Nat.le_of_ble_eq_true rfl⟩) (va_recv hKX hP (ci := 0) (q0 := 0) rfl rfl) hKX hP hR (fr_comm hD) hS hA rfl hl.1 rfl (Nat.le_of_ble_eq_true rfl) d_law_526 ⟨Nat.le_of_ble_eq_true rfl, Nat.le_of_ble_eq_true rfl⟩ (fun vX uX H locs hpX hP hR hD hS => ?_)
  have hD := fr_comm hD
  refine lv_aload_n hx hb d_law_529 rfl (lv_at hl 2 rfl) ?_
  refine lv_aload_n hx hb d_law_530 rfl (lv_at hl 0 rfl) ?_
  refine lv_iload_n hx hb d_law_531 rfl (lv_at hl 3 rfl) ?_
  refine lv_iconst (v := nI 1) hx hb d_law_532 (by decide) ?_
  refine nr_iadd hx hb d_law_533 ?_
  refine nr_sld hx hb hX hbl hbA hS (k := i + 1) (by omega) (by omega) d_law_534 ?_
  refine lv_aload_n hx hb d_law_535 rfl (lv_at hl 0 rfl) ?_
  refine lv_iload_n hx hb d_law_536 rfl (lv_at hl 3 rfl) ?_
  refine lv_iconst (v := nI 2) hx hb d_law_537 (by decide) ?_
  refine nr_iadd hx hb d_law_538 ?_
  refine nr_sld hx hb hX hbl hbA hS (k := i + 2) (by omega) (by omega) d_law_539 ?_
  refine xl_iV (C := R_M) (rest := [.int vX]) ⟨hx, hb, hml, hown, hts⟩ (c_M_strongest l D q1 aM cM se dp dn hd st sz pt2 ng2 va2 kp2 ds cn H.size hI.2.1 (xs (i + 1)) (xs (i + 2)) (li_ok2 hI)) (cwV 2 hts (gd_v ml_law_80 im_M_strongest se_M_strongest ini_M cd_M_strongest) rfl rfl rfl (by decide +kernel) ⟨Nat.le_of_ble_eq_true rfl, Nat.le_of_ble_eq_true rfl⟩) (va_recv hKM hR (ci := 1) (q0 := 0) rfl rfl) hKM hR hP hD hS hA rfl hl.1 rfl (Nat.le_of_ble_eq_true rfl) d_law_540 ⟨Nat.le_of_ble_eq_true rfl, Nat.le_of_ble_eq_true rfl⟩ (fun vM uM H locs hpM hR hP hD hS => ?_)
  obtain ⟨hvX, hqX⟩ := hpX
  obtain ⟨hvM, hqM⟩ := hpM
  refine lv_icmp_eq (tgt := 584) hx hb d_law_543 (by decide) (fun cc9 => ?_) (fun cc9 => absurd (li_eq (q := fun V => sp_stg (xs (i + 1)) (xs (i + 2)) (V se (-1))) hI hvX hvM) cc9)
  exact hG _ _ _ _ _ _ _ _ _ _ _ _ _ _ _ _ _ _ _ _ _ _ _ (li_q hI hqX hqM) hP hR hD hS hl

set_option maxHeartbeats 4000000 in
set_option maxRecDepth 100000 in
theorem law_essential {p : Program} {l : Launch} {e : Env} {s : State} {m : MethodId} {below : List Frame} {meth : Method} {c : Code} {D : va_G} {b L : Nat} {xs : Nat → Int32} {q0 q1 : Nat} {aX : Nat → Nat} {cX : Nat → ClassId} {aM : Nat → Nat} {cM : Nat → ClassId} {i : Nat} (hL : L ≤ 2048) (C0 : lw_At p s m meth c b L xs) (hKX : va_K D classes (yX cX) s) (hKM : va_K D classes (yM cM) s) (hi : i + 4 ≤ L) (hG : lw_G p l e s m below meth c b D q0 q1 aX cX aM cM i 584) : lw_G p l e s m below meth c b D q0 q1 aX cX aM cM i 548 := by
  obtain ⟨hx, hb, hr, hml, hown, hts0, hX, hbl, hlocks, hgv⟩ := C0
  have hts : ∀ w ∈ lw_g, w.before #[Value.ref b] s = true := fun w h => hts0 w (lw_gsub w h)
  have hA : ∀ q : Nat, s.heap.size ≤ q → (fun q : Nat => s.heap.size ≤ q) q := fun _ h => h
  have hbA : ¬ (fun q : Nat => s.heap.size ≤ q) b := Nat.not_le.mpr hbl
  intro hd st sz pt ng dp dn se va of sl wt kp ds cn cu pt2 ng2 va2 kp2 H locs ls hI hP hR hD hS hl
  refine lv_aload_n hx hb d_law_548 rfl (lv_at hl 1 rfl) ?_
  refine xl_iV (C := R_X) (rest := []) ⟨hx, hb, hml, hown, hts⟩ (c_X_essential l D q0 aX cX hd st sz pt ng dp dn se va of sl wt kp ds cn (-1) cu H.size hI.1  hI.2.2.1 rfl hI.2.2.2.2) (cwV 0 hts (gd_v ml_law_81 im_X_essential se_X_essential ini_X cd_X_essential) rfl rfl rfl (by decide +kernel) ⟨Nat.le_of_ble_eq_true rfl, Nat.le_of_ble_eq_true rfl⟩) (va_recv hKX hP (ci := 0) (q0 := 0) rfl rfl) hKX hP hR (fr_comm hD) hS hA rfl hl.1 rfl (Nat.le_of_ble_eq_true rfl) d_law_549 ⟨Nat.le_of_ble_eq_true rfl, Nat.le_of_ble_eq_true rfl⟩ (fun vX uX H locs hpX hP hR hD hS => ?_)
  have hD := fr_comm hD
  refine lv_aload_n hx hb d_law_552 rfl (lv_at hl 2 rfl) ?_
  refine xl_iV (C := R_M) (rest := [.int vX]) ⟨hx, hb, hml, hown, hts⟩ (c_M_essential l D q1 aM cM se dp dn hd st sz pt2 ng2 va2 kp2 ds cn H.size hI.2.1  (li_ok2 hI)) (cwV 0 hts (gd_v ml_law_84 im_M_essential se_M_essential ini_M cd_M_essential) rfl rfl rfl (by decide +kernel) ⟨Nat.le_of_ble_eq_true rfl, Nat.le_of_ble_eq_true rfl⟩) (va_recv hKM hR (ci := 1) (q0 := 0) rfl rfl) hKM hR hP hD hS hA rfl hl.1 rfl (Nat.le_of_ble_eq_true rfl) d_law_553 ⟨Nat.le_of_ble_eq_true rfl, Nat.le_of_ble_eq_true rfl⟩ (fun vM uM H locs hpM hR hP hD hS => ?_)
  obtain ⟨hvX, hqX⟩ := hpX
  obtain ⟨hvM, hqM⟩ := hpM
  refine lv_icmp_eq (tgt := 584) hx hb d_law_556 (by decide) (fun cc9 => ?_) (fun cc9 => absurd (li_eq (q := fun V => nI (sp_ess V se cn)) hI hvX hvM) cc9)
  exact hG _ _ _ _ _ _ _ _ _ _ _ _ _ _ _ _ _ _ _ _ _ _ _ (li_q hI hqX hqM) hP hR hD hS hl

set_option maxHeartbeats 4000000 in
set_option maxRecDepth 100000 in
theorem law_influence {p : Program} {l : Launch} {e : Env} {s : State} {m : MethodId} {below : List Frame} {meth : Method} {c : Code} {D : va_G} {b L : Nat} {xs : Nat → Int32} {q0 q1 : Nat} {aX : Nat → Nat} {cX : Nat → ClassId} {aM : Nat → Nat} {cM : Nat → ClassId} {i : Nat} (hL : L ≤ 2048) (C0 : lw_At p s m meth c b L xs) (hKX : va_K D classes (yX cX) s) (hKM : va_K D classes (yM cM) s) (hi : i + 4 ≤ L) (hG : lw_G p l e s m below meth c b D q0 q1 aX cX aM cM i 584) : lw_G p l e s m below meth c b D q0 q1 aX cX aM cM i 561 := by
  obtain ⟨hx, hb, hr, hml, hown, hts0, hX, hbl, hlocks, hgv⟩ := C0
  have hts : ∀ w ∈ lw_g, w.before #[Value.ref b] s = true := fun w h => hts0 w (lw_gsub w h)
  have hA : ∀ q : Nat, s.heap.size ≤ q → (fun q : Nat => s.heap.size ≤ q) q := fun _ h => h
  have hbA : ¬ (fun q : Nat => s.heap.size ≤ q) b := Nat.not_le.mpr hbl
  intro hd st sz pt ng dp dn se va of sl wt kp ds cn cu pt2 ng2 va2 kp2 H locs ls hI hP hR hD hS hl
  refine lv_aload_n hx hb d_law_561 rfl (lv_at hl 1 rfl) ?_
  refine lv_aload_n hx hb d_law_562 rfl (lv_at hl 0 rfl) ?_
  refine lv_iload_n hx hb d_law_563 rfl (lv_at hl 3 rfl) ?_
  refine lv_iconst (v := nI 1) hx hb d_law_564 (by decide) ?_
  refine nr_iadd hx hb d_law_565 ?_
  refine nr_sld hx hb hX hbl hbA hS (k := i + 1) (by omega) (by omega) d_law_566 ?_
  refine xl_iV (C := R_X) (rest := []) ⟨hx, hb, hml, hown, hts⟩ (c_X_influence l D q0 aX cX hd st sz pt ng dp dn se va of sl wt kp ds cn (-1) cu H.size hI.1 (xs (i + 1)) hI.2.2.1 rfl hI.2.2.2.2) (cwV 1 hts (gd_v ml_law_85 im_X_influence se_X_influence ini_X cd_X_influence) rfl rfl rfl (by decide +kernel) ⟨Nat.le_of_ble_eq_true rfl, Nat.le_of_ble_eq_true rfl⟩) (va_recv hKX hP (ci := 0) (q0 := 0) rfl rfl) hKX hP hR (fr_comm hD) hS hA rfl hl.1 rfl (Nat.le_of_ble_eq_true rfl) d_law_567 ⟨Nat.le_of_ble_eq_true rfl, Nat.le_of_ble_eq_true rfl⟩ (fun vX uX H locs hpX hP hR hD hS => ?_)
  have hD := fr_comm hD
  refine lv_aload_n hx hb d_law_570 rfl (lv_at hl 2 rfl) ?_
  refine lv_aload_n hx hb d_law_571 rfl (lv_at hl 0 rfl) ?_
  refine lv_iload_n hx hb d_law_572 rfl (lv_at hl 3 rfl) ?_
  refine lv_iconst (v := nI 1) hx hb d_law_573 (by decide) ?_
  refine nr_iadd hx hb d_law_574 ?_
  refine nr_sld hx hb hX hbl hbA hS (k := i + 1) (by omega) (by omega) d_law_575 ?_
  refine xl_iV (C := R_M) (rest := [.int vX]) ⟨hx, hb, hml, hown, hts⟩ (c_M_influence l D q1 aM cM se dp dn hd st sz pt2 ng2 va2 kp2 ds cn H.size hI.2.1 (xs (i + 1)) (li_ok2 hI)) (cwV 1 hts (gd_v ml_law_88 im_M_influence se_M_influence ini_M cd_M_influence) rfl rfl rfl (by decide +kernel) ⟨Nat.le_of_ble_eq_true rfl, Nat.le_of_ble_eq_true rfl⟩) (va_recv hKM hR (ci := 1) (q0 := 0) rfl rfl) hKM hR hP hD hS hA rfl hl.1 rfl (Nat.le_of_ble_eq_true rfl) d_law_576 ⟨Nat.le_of_ble_eq_true rfl, Nat.le_of_ble_eq_true rfl⟩ (fun vM uM H locs hpM hR hP hD hS => ?_)
  obtain ⟨hvX, hqX⟩ := hpX
  obtain ⟨hvM, hqM⟩ := hpM
  refine lv_icmp_eq (tgt := 584) hx hb d_law_579 (by decide) (fun cc9 => ?_) (fun cc9 => absurd (li_eq (q := fun V => sp_inf (xs (i + 1)) se V) hI hvX hvM) cc9)
  exact hG _ _ _ _ _ _ _ _ _ _ _ _ _ _ _ _ _ _ _ _ _ _ _ (li_q hI hqX hqM) hP hR hD hS hl
end
section
/-! ===== the law: loop and start ===== -/
set_option maxHeartbeats 4000000 in
set_option maxRecDepth 100000 in
theorem law_loop {p : Program} {l : Launch} {e : Env} {s : State} {m : MethodId} {below : List Frame} {meth : Method} {c : Code} {D : va_G} {b L : Nat} {xs : Nat → Int32} {q0 q1 : Nat} {aX : Nat → Nat} {cX : Nat → ClassId} {aM : Nat → Nat} {cM : Nat → ClassId} (hL : L ≤ 2048) (C0 : lw_At p s m meth c b L xs) (hKX : va_K D classes (yX cX) s) (hKM : va_K D classes (yM cM) s) : ∀ (n i : Nat), L + 1 ≤ i + n → i ≤ L → lw_G p l e s m below meth c b D q0 q1 aX cX aM cM i 18 := by
  obtain ⟨hx, hb, hr, hml, hown, hts0, hX, hbl, hlocks, hgv⟩ := id C0
  have hbA : ¬ (fun q : Nat => s.heap.size ≤ q) b := Nat.not_le.mpr hbl
  intro n
  induction n with
  | zero =>
    intro i h1 h2
    exact absurd h1 (by omega)
  | succ n ih =>
    intro i hn hi hd st sz pt ng dp dn se va of sl wt kp ds cn cu pt2 ng2 va2 kp2 H locs ls hI hP hR hD hS hl
    refine lv_iload_n hx hb d_law_18 rfl (lv_at hl 3 rfl) ?_
    refine lv_aload_n hx hb d_law_19 rfl (lv_at hl 0 rfl) ?_
    refine va_slen hx hb hX hbl hbA hS d_law_20 ?_
    refine lv_iconst (v := nI 4) hx hb d_law_21 (by decide) ?_
    refine lv_isub hx hb d_law_22 ?_
    refine lv_icmp_gt (tgt := 590) hx hb d_law_23 (by decide) (fun c23 => ?_) (fun c23 => ?_)
    · refine lv_iconst (v := 1) hx hb d_law_590 (by decide) ?_
      refine va_forget (fun q hq => hS.2.2 q hq) ?_
      exact lw_ret hx hb hr hlocks d_law_591
    · have hi4 : i + 4 ≤ L := nr_l4 (by omega) (by omega) c23
      have hG : lw_G p l e s m below meth c b D q0 q1 aX cX aM cM i 584 := by
        intro hd st sz pt ng dp dn se va of sl wt kp ds cn cu pt2 ng2 va2 kp2 H locs ls hI hP hR hD hS hl
        refine lv_iinc (v := nI (i + 4)) (lv' := [(3, .int (nI (i + 4))), (0, .ref b), (1, .ref q0), (2, .ref q1)]) hx hb d_law_584 hl (k := 3) rfl (nI_add i 4) (by decide) rfl (fun ls hl => ?_)
        refine lv_goto (tgt := 18) hx hb d_law_587 (by decide) ?_
        exact ih (i + 4) (by omega) (by omega) _ _ _ _ _ _ _ _ _ _ _ _ _ _ _ _ _ _ _ _ _ _ _ hI hP hR hD hS (lv_sub hl [1, 2, 3, 0] rfl)
      refine lv_aload_n hx hb d_law_26 rfl (lv_at hl 0 rfl) ?_
      refine lv_iload_n hx hb d_law_27 rfl (lv_at hl 3 rfl) ?_
      refine nr_sld hx hb hX hbl hbA hS (k := i) (by omega) (by omega) d_law_28 ?_
      refine lv_bipush (v := nI 31) hx hb d_law_29 (by decide) ?_
      refine lv_iand hx hb d_law_31 ?_
      obtain ⟨j, hj, ej⟩ := pk_andE (xs i) (m := nI 31) 5 (by decide)
      rw [ej]
      rcases (show j = 0 ∨ j = 1 ∨ j = 2 ∨ j = 3 ∨ j = 4 ∨ j = 5 ∨ j = 6 ∨ j = 7 ∨ j = 8 ∨ j = 9 ∨ j = 10 ∨ j = 11 ∨ j = 12 ∨ j = 13 ∨ j = 14 ∨ j = 15 ∨ j = 16 ∨ j = 17 ∨ 18 ≤ j by omega) with rfl | rfl | rfl | rfl | rfl | rfl | rfl | rfl | rfl | rfl | rfl | rfl | rfl | rfl | rfl | rfl | rfl | rfl | hj2
      · refine lv_tableIn (tgt := 120) (off := 88) hx hb d_law_32 (by decide) (by decide) (by decide) (by decide) ?_
        exact law_premise hL C0 hKX hKM hi4 hG _ _ _ _ _ _ _ _ _ _ _ _ _ _ _ _ _ _ _ _ _ _ _ hI hP hR hD hS hl
      · refine lv_tableIn (tgt := 153) (off := 121) hx hb d_law_32 (by decide) (by decide) (by decide) (by decide) ?_
        exact law_clear hL C0 hKX hKM hi4 hG _ _ _ _ _ _ _ _ _ _ _ _ _ _ _ _ _ _ _ _ _ _ _ hI hP hR hD hS hl
      · refine lv_tableIn (tgt := 166) (off := 134) hx hb d_law_32 (by decide) (by decide) (by decide) (by decide) ?_
        exact law_rule hL C0 hKX hKM hi4 hG _ _ _ _ _ _ _ _ _ _ _ _ _ _ _ _ _ _ _ _ _ _ _ hI hP hR hD hS hl
      · refine lv_tableIn (tgt := 199) (off := 167) hx hb d_law_32 (by decide) (by decide) (by decide) (by decide) ?_
        exact law_remove hL C0 hKX hKM hi4 hG _ _ _ _ _ _ _ _ _ _ _ _ _ _ _ _ _ _ _ _ _ _ _ hI hP hR hD hS hl
      · refine lv_tableIn (tgt := 222) (off := 190) hx hb d_law_32 (by decide) (by decide) (by decide) (by decide) ?_
        exact law_strengthen hL C0 hKX hKM hi4 hG _ _ _ _ _ _ _ _ _ _ _ _ _ _ _ _ _ _ _ _ _ _ _ hI hP hR hD hS hl
      · refine lv_tableIn (tgt := 255) (off := 223) hx hb d_law_32 (by decide) (by decide) (by decide) (by decide) ?_
        exact law_observe hL C0 hKX hKM hi4 hG _ _ _ _ _ _ _ _ _ _ _ _ _ _ _ _ _ _ _ _ _ _ _ hI hP hR hD hS hl
      · refine lv_tableIn (tgt := 288) (off := 256) hx hb d_law_32 (by decide) (by decide) (by decide) (by decide) ?_
        exact law_rules hL C0 hKX hKM hi4 hG _ _ _ _ _ _ _ _ _ _ _ _ _ _ _ _ _ _ _ _ _ _ _ hI hP hR hD hS hl
      · refine lv_tableIn (tgt := 301) (off := 269) hx hb d_law_32 (by decide) (by decide) (by decide) (by decide) ?_
        exact law_headOf hL C0 hKX hKM hi4 hG _ _ _ _ _ _ _ _ _ _ _ _ _ _ _ _ _ _ _ _ _ _ _ hI hP hR hD hS hl
      · refine lv_tableIn (tgt := 324) (off := 292) hx hb d_law_32 (by decide) (by decide) (by decide) (by decide) ?_
        exact law_observed hL C0 hKX hKM hi4 hG _ _ _ _ _ _ _ _ _ _ _ _ _ _ _ _ _ _ _ _ _ _ _ hI hP hR hD hS hl
      · refine lv_tableIn (tgt := 347) (off := 315) hx hb d_law_32 (by decide) (by decide) (by decide) (by decide) ?_
        exact law_certainty hL C0 hKX hKM hi4 hG _ _ _ _ _ _ _ _ _ _ _ _ _ _ _ _ _ _ _ _ _ _ _ hI hP hR hD hS hl
      · refine lv_tableIn (tgt := 370) (off := 338) hx hb d_law_32 (by decide) (by decide) (by decide) (by decide) ?_
        exact law_whatIf hL C0 hKX hKM hi4 hG _ _ _ _ _ _ _ _ _ _ _ _ _ _ _ _ _ _ _ _ _ _ _ hI hP hR hD hS hl
      · refine lv_tableIn (tgt := 413) (off := 381) hx hb d_law_32 (by decide) (by decide) (by decide) (by decide) ?_
        exact law_without hL C0 hKX hKM hi4 hG _ _ _ _ _ _ _ _ _ _ _ _ _ _ _ _ _ _ _ _ _ _ _ hI hP hR hD hS hl
      · refine lv_tableIn (tgt := 446) (off := 414) hx hb d_law_32 (by decide) (by decide) (by decide) (by decide) ?_
        exact law_supporter hL C0 hKX hKM hi4 hG _ _ _ _ _ _ _ _ _ _ _ _ _ _ _ _ _ _ _ _ _ _ _ hI hP hR hD hS hl
      · refine lv_tableIn (tgt := 469) (off := 437) hx hb d_law_32 (by decide) (by decide) (by decide) (by decide) ?_
        exact law_yield hL C0 hKX hKM hi4 hG _ _ _ _ _ _ _ _ _ _ _ _ _ _ _ _ _ _ _ _ _ _ _ hI hP hR hD hS hl
      · refine lv_tableIn (tgt := 492) (off := 460) hx hb d_law_32 (by decide) (by decide) (by decide) (by decide) ?_
        exact law_atLeast hL C0 hKX hKM hi4 hG _ _ _ _ _ _ _ _ _ _ _ _ _ _ _ _ _ _ _ _ _ _ _ hI hP hR hD hS hl
      · refine lv_tableIn (tgt := 515) (off := 483) hx hb d_law_32 (by decide) (by decide) (by decide) (by decide) ?_
        exact law_strongest hL C0 hKX hKM hi4 hG _ _ _ _ _ _ _ _ _ _ _ _ _ _ _ _ _ _ _ _ _ _ _ hI hP hR hD hS hl
      · refine lv_tableIn (tgt := 548) (off := 516) hx hb d_law_32 (by decide) (by decide) (by decide) (by decide) ?_
        exact law_essential hL C0 hKX hKM hi4 hG _ _ _ _ _ _ _ _ _ _ _ _ _ _ _ _ _ _ _ _ _ _ _ hI hP hR hD hS hl
      · refine lv_tableIn (tgt := 561) (off := 529) hx hb d_law_32 (by decide) (by decide) (by decide) (by decide) ?_
        exact law_influence hL C0 hKX hKM hi4 hG _ _ _ _ _ _ _ _ _ _ _ _ _ _ _ _ _ _ _ _ _ _ _ hI hP hR hD hS hl
      · refine lv_tableOut (tgt := 584) hx hb d_law_32 (Or.inr (by rw [nI_toInt (by omega)]; omega)) (by decide) ?_
        exact hG _ _ _ _ _ _ _ _ _ _ _ _ _ _ _ _ _ _ _ _ _ _ _ hI hP hR hD hS hl
theorem fr_Pl {D : va_G} {wr w0 : va_W} {H : Heap} (h : va_P D classes (wr ++ w0) H) : va_P D classes wr H := fun k q hk => h k q (by rw [List.getElem?_append_left (List.getElem?_eq_some_iff.mp hk).1]; exact hk)
theorem fr_Pr {D : va_G} {wr w0 : va_W} {H : Heap} (h : va_P D classes (wr ++ w0) H) : va_P D classes w0 H := fun k q hk => h _ q (fr_at2 hk)
set_option maxHeartbeats 4000000 in
set_option maxRecDepth 100000 in
/-- THE LAW, from its entry -/
theorem whole_start {p : Program} {e : Env} {s : State} {m : MethodId} {below : List Frame} {meth : Method} {c : Code} (l : Launch) {b L : Nat} {xs : Nat → Int32} (hL : L ≤ 2048) (C0 : lw_At p s m meth c b L xs) : W p l e room_1 s m #[Value.ref b] below meth c s.heap [] 0 0 (lw_Z below #[Value.ref b] s) (entryFrame m ([Value.ref b] : List Value).toArray 4) := by
  obtain ⟨hx, hb, hr, hml, hown, hts0, hX, hbl, hlocks, hgv⟩ := id C0
  have hts : ∀ w ∈ lw_g, w.before #[Value.ref b] s = true := fun w h => hts0 w (lw_gsub w h)
  have hA : ∀ q : Nat, s.heap.size ≤ q → (fun q : Nat => s.heap.size ≤ q) q := fun _ h => h
  have hbA : ¬ (fun q : Nat => s.heap.size ≤ q) b := Nat.not_le.mpr hbl
  obtain ⟨c0, iS0, hKn0⟩ := u_known (C := R_X) (T := F_X) (N := 17) (n := 17) hts i_X (hts _ ins_X)
  obtain ⟨c1, iS1, hKn1⟩ := u_known (C := R_M) (T := F_M) (N := 12) (n := 12) hts i_M (hts _ ins_M)
  obtain ⟨D, hKc⟩ : ∃ D : va_G, ∀ (k : Nat) (q : vw_C), classes[k]? = some q → u_Kn s q.1 q.2.1 q.2.2 (D.1 k) (D.2 k) := by
    refine ⟨(fun k => if k = 0 then c0 else c1, fun k => if k = 0 then iS0 else iS1), ?_⟩
    intro k q hq
    match k, hq with
    | 0, hq => cases hq; exact hKn0
    | 1, hq => cases hq; exact hKn1
    | k + 2, hq => simp [classes] at hq
  have hS : va_S (fun q : Nat => s.heap.size ≤ q) s.heap s.heap [] := va_S.rf
  have hK : va_K D classes [] s := ⟨hKc, fun k q h => by simp at h⟩
  have hP : va_P D classes [] s.heap := fun k q h => by simp at h
  have hD : va_D (fun q : Nat => s.heap.size ≤ q) [] := ⟨fun i j p q h => by simp at h, fun k q h => by simp at h⟩
  have hl := lv_entry ([.ref b]) (n := 4) (Nat.le_of_ble_eq_true rfl)
  rw [lg_entry_eq]
  generalize (lg_sl ([.ref b]) ++ List.replicate (4 - (lg_sl ([.ref b])).length) Slot.unset).toArray = ls at hl ⊢
  have hl : lv_has ls 4 [(0, .ref b)] := hl
  refine va_new (ci := 0) (fs := [.null, .null, .null, .null, .null, .null, .null, .null, .null, .null, .null, .null, .null, .int (nI 0), .int (nI 0), .int (nI 0), .int (nI 0)]) (C := R_X) (T := F_X) (N := 17) hx hb hts i_X t_X t_X_ok hown (hts _ cl_law_7) (hts _ ins_X) (hts _ ini_X) hK hP hD hS hA rfl (fun j hj => by rcases (show j = 0 ∨ j = 1 ∨ j = 2 ∨ j = 3 ∨ j = 4 ∨ j = 5 ∨ j = 6 ∨ j = 7 ∨ j = 8 ∨ j = 9 ∨ j = 10 ∨ j = 11 ∨ j = 12 ∨ j = 13 ∨ j = 14 ∨ j = 15 ∨ j = 16 by omega) with rfl | rfl | rfl | rfl | rfl | rfl | rfl | rfl | rfl | rfl | rfl | rfl | rfl | rfl | rfl | rfl | rfl <;> rfl) (Nat.le_of_ble_eq_true rfl) (Nat.le_of_ble_eq_true rfl) d_law_0 (fun q0 H hP hD hS => ?_)
  have hP : va_P D classes [(q0, .inr (0, [.null, .null, .null, .null, .null, .null, .null, .null, .null, .null, .null, .null, .null, .int (nI 0), .int (nI 0), .int (nI 0), .int (nI 0)]))] H := hP
  have hD : va_D (fun q : Nat => s.heap.size ≤ q) [(q0, .inr (0, [.null, .null, .null, .null, .null, .null, .null, .null, .null, .null, .null, .null, .null, .int (nI 0), .int (nI 0), .int (nI 0), .int (nI 0)]))] := hD
  refine W.widen (k := 1) (n := 17) (by omega) (by omega) ?_
  refine lv_dup hx hb d_law_3 rfl ?_
  have hFc := ct_free hD hS hA
  refine va_callv (va_runI (As := []) (rest := [.ref q0]) ⟨hx, hb, hml, hown, hts⟩ (c_X_init l D q0 H.size) (cwI 0 hts (gd_w (ws := []) (fun w h => absurd h List.not_mem_nil) cd_X_init) rfl rfl rfl (hts _ ini_X) (hts _ ml_law_9) (hts _ im_X_init) rfl (by decide +kernel) ⟨Nat.le_of_ble_eq_true rfl, Nat.le_of_ble_eq_true rfl⟩) ⟨ct_blind _, fun U hU hW => ⟨rfl, by rw [hU], by rw [hU]; exact hP, va_K.moved hW.alike hK, hD.weaken (fun _ _ _ _ => trivial)⟩⟩ rfl rfl hl.1 rfl (lv_room (Nat.le_of_ble_eq_true rfl)) d_law_4 ⟨Nat.le_of_ble_eq_true rfl, Nat.le_of_ble_eq_true rfl⟩) hS (fun q _ h => hFc q h) hFc (fun u t H1 locs ht hvm hw hB hz1 hk1 hS => ?_)
  obtain ⟨aX, cX⟩ := u
  obtain ⟨hP1, hK1, hD1⟩ := hB
  rw [ht] at hP1
  have hKX := va_K.moved hvm.symm hK1
  generalize H1 = H at hP1 hS ⊢
  have hP : va_P D classes (wX q0 aX cX (fun _ => 0) (fun _ => 0) (fun _ => 0) (fun _ => 0) (fun _ => 0) (fun _ => 0) (fun _ => 0) (fun _ => 0) (fun _ => 0) (fun _ => 0) (fun _ => 0) (nF (fun _ => 0)) (fun _ => 0) 0 0 (-1) 0) H := hP1
  have hD : va_D (fun q : Nat => s.heap.size ≤ q) (wX q0 aX cX (fun _ => 0) (fun _ => 0) (fun _ => 0) (fun _ => 0) (fun _ => 0) (fun _ => 0) (fun _ => 0) (fun _ => 0) (fun _ => 0) (fun _ => 0) (fun _ => 0) (nF (fun _ => 0)) (fun _ => 0) 0 0 (-1) 0) := hD1.weaken (fun k q _ h => hFc q.1 h)
  have hKX : va_K D classes (yX cX) s := hKX
  refine W.widen (k := 14) (n := 303) (by omega) (by omega) ?_
  refine lv_astore_n (lv' := [(1, .ref q0), (0, .ref b)]) hx hb d_law_7 rfl hl (by decide) rfl (fun ls hl => ?_)
  refine va_new (ci := 1) (fs := [.null, .int (nI 0), .null, .null, .int (nI 0), .null, .null, .null, .null, .null, .null, .null]) (C := R_M) (T := F_M) (N := 12) hx hb hts i_M t_M t_M_ok hown (hts _ cl_law_10) (hts _ ins_M) (hts _ ini_M) hK hP hD hS hA rfl (fun j hj => by rcases (show j = 0 ∨ j = 1 ∨ j = 2 ∨ j = 3 ∨ j = 4 ∨ j = 5 ∨ j = 6 ∨ j = 7 ∨ j = 8 ∨ j = 9 ∨ j = 10 ∨ j = 11 by omega) with rfl | rfl | rfl | rfl | rfl | rfl | rfl | rfl | rfl | rfl | rfl | rfl <;> rfl) (Nat.le_of_ble_eq_true rfl) (Nat.le_of_ble_eq_true rfl) d_law_8 (fun q1 H hP hD hS => ?_)
  refine W.widen (k := 15) (n := 315) (by omega) (by omega) ?_
  refine lv_dup hx hb d_law_11 rfl ?_
  have hPl := fr_Pl hP
  have hPr := fr_Pr hP
  have hDr := fr_right hD
  have hFc := ct_free hDr hS hA
  refine va_callv (va_runI (As := []) (rest := [.ref q1]) ⟨hx, hb, hml, hown, hts⟩ (c_M_init l D q1 H.size) (cwI 0 hts (gd_w (ws := []) (fun w h => absurd h List.not_mem_nil) cd_M_init) rfl rfl rfl (hts _ ini_M) (hts _ ml_law_12) (hts _ im_M_init) rfl (by decide +kernel) ⟨Nat.le_of_ble_eq_true rfl, Nat.le_of_ble_eq_true rfl⟩) ⟨ct_blind _, fun U hU hW => ⟨rfl, by rw [hU], by rw [hU]; exact hPr, va_K.moved hW.alike hK, hDr.weaken (fun _ _ _ _ => trivial)⟩⟩ rfl rfl hl.1 rfl (lv_room (Nat.le_of_ble_eq_true rfl)) d_law_12 ⟨Nat.le_of_ble_eq_true rfl, Nat.le_of_ble_eq_true rfl⟩) hS (fun q _ h => hFc q h) hFc (fun u t H1 locs ht hvm hw hB hz1 hk1 hS => ?_)
  obtain ⟨aM, cM⟩ := u
  obtain ⟨hP1, hK1, hD1⟩ := hB
  rw [ht] at hP1
  have hKM := va_K.moved hvm.symm hK1
  obtain ⟨hPl, hD⟩ := fr_join hPl hD hk1 hFc hD1
  generalize H1 = H at hP1 hPl hS ⊢
  have hKM : va_K D classes (yM cM) s := hKM
  have hR : va_P D classes (wM q1 aM cM (fun _ => 0) (fun _ => 0) (fun _ => 0) (fun _ => 0) (fun _ => 0) (fun _ => 0) (fun _ => 0) (fun _ => 0) (fun _ => 0) (fun _ => 0) 0 0) H := hP1
  have hD : va_D (fun q : Nat => s.heap.size ≤ q) ((wX q0 aX cX (fun _ => 0) (fun _ => 0) (fun _ => 0) (fun _ => 0) (fun _ => 0) (fun _ => 0) (fun _ => 0) (fun _ => 0) (fun _ => 0) (fun _ => 0) (fun _ => 0) (nF (fun _ => 0)) (fun _ => 0) 0 0 (-1) 0) ++ (wM q1 aM cM (fun _ => 0) (fun _ => 0) (fun _ => 0) (fun _ => 0) (fun _ => 0) (fun _ => 0) (fun _ => 0) (fun _ => 0) (fun _ => 0) (fun _ => 0) 0 0)) := hD
  refine W.widen (k := 25) (n := 549) (by omega) (by omega) ?_
  refine lv_astore_n (lv' := [(2, .ref q1), (1, .ref q0), (0, .ref b)]) hx hb d_law_15 rfl hl (by decide) rfl (fun ls hl => ?_)
  refine lv_iconst (v := nI 0) hx hb d_law_16 (by decide) ?_
  refine lv_istore_n (lv' := [(3, .int (nI 0)), (2, .ref q1), (1, .ref q0), (0, .ref b)]) hx hb d_law_17 rfl hl (by decide) rfl (fun ls hl => ?_)
  exact law_loop hL C0 hKX hKM (L + 1) 0 (by omega) (Nat.zero_le _) _ _ _ _ _ _ _ _ _ _ _ _ _ _ _ _ _ _ _ _ _ _ _ li_0 hPl hR hD hS (lv_sub hl [3, 2, 1, 0] rfl)
set_option maxHeartbeats 4000000 in
theorem lw_walk (l : Launch) (b : Addr) (xs : List Int32) : MetFree l x (headSpec (Jvm.Cond.code x code maxLocals ret :: tables_1) room_1) (lw_P b xs) (fun _ _ _ _ _ => True) lw_Q := by
  refine MetFree.of_bodyS (code := code) (maxLocals := maxLocals) (ret := ret) (by decide) ?_ ?_
  · intro args s m h hn
    obtain ⟨meth, c, h1, h2, h3, h4, h5, h6, -, -⟩ := Cond.code_spec hn (atoms_spec (ws := Jvm.Cond.code x code maxLocals ret :: tables_1) h _ List.mem_cons_self)
    exact ⟨meth, c, h1, h2, h3, h4, h5, h6⟩
  · intro p e s m args below meth c s₁ B hml0 hP _
    obtain ⟨rfl, hx, hbd, hgv⟩ := hP
    obtain ⟨scr, harrAt, hlist, hof, hsmall⟩ := hx
    obtain ⟨hcb, hkn, -, -⟩ := State.arrayAt?_spec harrAt
    have hown : s.vm.findClass R_law = some m.cls := findClass_of_methodNamed B.named
    have hts0 : ∀ c ∈ (Jvm.Cond.code x code maxLocals ret :: tables_1), c.before #[Value.ref b] s = true := atoms_spec (ws := Jvm.Cond.code x code maxLocals ret :: tables_1) B.pre
    have hts : ∀ w ∈ lw_tbl, w.before #[Value.ref b] s = true := k2_hts_sels lw_privs (fun w hw => hts0 w (List.mem_cons_of_mem _ hw)) lw_privs_ok
    have hml : c.maxLocals = 4 := B.maxLocals_eq (hts0 _ List.mem_cons_self)
    have X₀ : Stand p l e room_1 s m #[Value.ref b] below meth c s₁ [] 0 0 := Stand.of_body B
    have hh0 : s₁.heap = s.heap := by rw [B.state]; rfl
    have hsz : scr.slots.size = xs.length := by rw [← Array.length_toList, hlist, List.length_map]
    have hval : ∀ j : Nat, j < xs.length → scr.slots[j]? = some (.int (xs.getD j 0)) := fun j hj => by
      rw [← Array.getElem?_toList, hlist]
      simp [hj]
    have hbl : b < s.heap.size := (Array.getElem?_eq_some_iff.mp hcb).1
    have hX : va_X b xs.length (fun j => xs.getD j 0) s s.heap := ⟨scr, hcb, hof, hkn, hsz, hval⟩
    have K : W p l e room_1 s m #[Value.ref b] below meth c s₁.heap [] 0 0 (lw_Z below #[Value.ref b] s) (entryFrame m ([Value.ref b] : List Value).toArray 4) := by
      rw [hh0]
      exact whole_start l hbd ⟨B.exec, B.bytes, B.returns, hml, hown, hts, hX, hbl, B.notSynchronized, hgv⟩
    obtain ⟨t, a1, o, b1, b2, b3⟩ := K s₁ rfl X₀
    exact ⟨t, o, a1, b1, b2, b3⟩
theorem lw_pre_spec {args : Array Value} {s : State} (h : (Jvm.Cond.and given_1 narrow_1).before args s = true) (hr : rest_1_c.before args s = true) : ∃ (b : Addr) (xs : List Int32), lw_P b xs args s := by
  have hs := flat_of_before _ h
  have hq := flat_of_before _ hr
  have hc : (Cond.count 1).before args s = true := hs _ (by decide +kernel)
  have harr : (Cond.arrayOf (.arg 0) .int).before args s = true := hs _ (by decide +kernel)
  have hle : (Cond.le (.length (.arg 0)) (.int 2048)).before args s = true := hs _ (by decide +kernel)
  have hlen : (Cond.isInt (.length (.arg 0))).before args s = true := hq _ (by decide +kernel)
  have hall : (Cond.all (.arg 0) (.isInt (.elem (.arg 0) (.index 0)))).before args s = true := hq _ (by decide +kernel)
  obtain ⟨b, xs, hb, hx⟩ := State.ints_of_pre rfl harr hlen hall
  have hsm : xs.length < 2 ^ 31 := hx.choose_spec.2.2.2
  have hev : (Term.length (.arg 0)).eval args s none [] s = some (.int xs.length.toInt32) := hx.length_eval hb
  have hv := Cond.le_ints hev (show (Term.int 2048).eval args s none [] s = some (.int 2048) from rfl)
  have hd : xs.length.toInt32 ≤ 2048 := by
    simpa [Cond.before, Cond.holds, hv] using hle
  have hN : xs.length ≤ 2048 := (Int32.ofNat_le_ofNat hsm (by decide)).mp (show Int32.ofNat xs.length ≤ Int32.ofNat 2048 from hd)
  exact ⟨b, xs, Cond.one_arg hc (show args[0]? = some (.ref b) from hb), hx, hN, h⟩
theorem lw_comes (l : Launch) : Comes l x (Jvm.Cond.code x code maxLocals ret :: tables_1) room_1 (fun tb e args s => Calls_1 tb e args s ∧ rest_1 tb e args s ∧ Pre_1 tb e args s)
    (fun _ _ args s o t => lw_Q args s o t) := by
  intro p e ha hc hk s m args below hf hfit hheap happ hpre
  obtain ⟨b, xs, hP⟩ := lw_pre_spec hpre.2.2 hpre.2.1
  obtain ⟨k, o, h1, h2, h3, hQ⟩ := lw_walk l b xs p e ha hc hk s m args below hf ((Spec.applies_iff_loose hf).mp happ).1 hP trivial
  exact ⟨k, o, h1, h2, h3, hQ⟩
theorem lw_frame {s t : State} {o : Outcome} {args : Array Value} (h : Framed s o t [] 25 549) :
    Framed s o t (fieldLocs frame_1_writes args s ++ arrayLocs frame_1_arrays args s ++ staticLocs frame_1_statics s) 25 549 := h
theorem lw_limb (L : Cond) (hL : ∀ (args : Array Value) (s t : State), L.after args s (.returned (some (.int 1))) t = true) :
    ArmFor flags0 classFile x code maxLocals ret World_1 tables_1 room_1 Calls_1 rest_1 Pre_1
      (fun tb e a s o t => postC L tb e a s o t ∧ Framed s o t (fieldLocs frame_1_writes a s ++ arrayLocs frame_1_arrays a s ++ staticLocs frame_1_statics s) 25 549) := by
  intro l _ _ _ p e ha hc hk s m args below hf hfit hheap happ hpre
  obtain ⟨k, o, h1, h2, h3, rfl, hF⟩ := lw_comes l p e ha hc hk s m args below hf hfit hheap happ hpre
  exact ⟨k, _, h1, h2, h3, hL args s _, lw_frame hF⟩
theorem i_vc : Claimed_1_1 ∧ Claimed_1_2 := ⟨lw_limb limb_1_1 (fun args s t => by simp [limb_1_1, Cond.after, Cond.holds, Cond.value]), lw_limb limb_1_2 (fun args s t => Cond.after_iff.mpr (by
  first | (rw [show limb_1_2 = Cond.eq .result (.int 1) from rfl, Cond.eq_ints (x := 1) (y := 1) rfl rfl]; simp; done) | (simp [limb_1_2, Cond.value, Term.eval]; done)))⟩
end
