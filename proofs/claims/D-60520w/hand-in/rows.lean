section
-- ===== PART A: goes FIRST, ahead of the names: the tables' words, and 'selects' of the private methods out of them =====
/-- a private method of a class that the tables say can be made, by its rows of tables_1 -/
def lw_okq (q : MethodName × Nat) : Prop := (q.1.cls ≠ "java/lang/invoke/MethodHandle" ∧ q.1.cls ≠ "java/lang/invoke/VarHandle") ∧ Cond.instantiable q.1.cls q.2 ∈ tables_1 ∧ Cond.privateMethod q.1 ∈ tables_1 ∧ Cond.instanceMethod q.1 ∈ tables_1
theorem lw_p0 : lw_okq (⟨"CausalObjects", "make", "(III)I"⟩, 11) := ⟨⟨by decide +kernel, by decide +kernel⟩, List.mem_of_getElem? (i := 4) (by decide +kernel), List.mem_of_getElem? (i := 51) (by decide +kernel), List.mem_of_getElem? (i := 52) (by decide +kernel)⟩
theorem lw_p1 : lw_okq (⟨"CausalObjects", "apply", "(IIII)V"⟩, 11) := ⟨⟨by decide +kernel, by decide +kernel⟩, List.mem_of_getElem? (i := 4) (by decide +kernel), List.mem_of_getElem? (i := 58) (by decide +kernel), List.mem_of_getElem? (i := 59) (by decide +kernel)⟩
theorem lw_p2 : lw_okq (⟨"CausalObjects", "dropAdds", "(III)V"⟩, 11) := ⟨⟨by decide +kernel, by decide +kernel⟩, List.mem_of_getElem? (i := 4) (by decide +kernel), List.mem_of_getElem? (i := 62) (by decide +kernel), List.mem_of_getElem? (i := 63) (by decide +kernel)⟩
theorem lw_p3 : lw_okq (⟨"CausalObjects", "dropAssigns", "(II)V"⟩, 11) := ⟨⟨by decide +kernel, by decide +kernel⟩, List.mem_of_getElem? (i := 4) (by decide +kernel), List.mem_of_getElem? (i := 66) (by decide +kernel), List.mem_of_getElem? (i := 67) (by decide +kernel)⟩
theorem lw_p4 : lw_okq (⟨"CausalObjects", "cover", "(II)V"⟩, 11) := ⟨⟨by decide +kernel, by decide +kernel⟩, List.mem_of_getElem? (i := 4) (by decide +kernel), List.mem_of_getElem? (i := 70) (by decide +kernel), List.mem_of_getElem? (i := 71) (by decide +kernel)⟩
theorem lw_p5 : lw_okq (⟨"CausalObjects", "joinAdds", "(II)V"⟩, 11) := ⟨⟨by decide +kernel, by decide +kernel⟩, List.mem_of_getElem? (i := 4) (by decide +kernel), List.mem_of_getElem? (i := 98) (by decide +kernel), List.mem_of_getElem? (i := 99) (by decide +kernel)⟩
theorem lw_p6 : lw_okq (⟨"CausalObjects", "joinAssigns", "(II)V"⟩, 11) := ⟨⟨by decide +kernel, by decide +kernel⟩, List.mem_of_getElem? (i := 4) (by decide +kernel), List.mem_of_getElem? (i := 105) (by decide +kernel), List.mem_of_getElem? (i := 106) (by decide +kernel)⟩
theorem lw_p7 : lw_okq (⟨"CausalObjects", "joinVectors", "(II)V"⟩, 11) := ⟨⟨by decide +kernel, by decide +kernel⟩, List.mem_of_getElem? (i := 4) (by decide +kernel), List.mem_of_getElem? (i := 109) (by decide +kernel), List.mem_of_getElem? (i := 110) (by decide +kernel)⟩
theorem lw_p8 : lw_okq (⟨"CausalObjects", "placeOfValue", "(II)I"⟩, 11) := ⟨⟨by decide +kernel, by decide +kernel⟩, List.mem_of_getElem? (i := 4) (by decide +kernel), List.mem_of_getElem? (i := 125) (by decide +kernel), List.mem_of_getElem? (i := 126) (by decide +kernel)⟩
theorem lw_p9 : lw_okq (⟨"CausalObjects", "valueFrom", "(II)I"⟩, 11) := ⟨⟨by decide +kernel, by decide +kernel⟩, List.mem_of_getElem? (i := 4) (by decide +kernel), List.mem_of_getElem? (i := 129) (by decide +kernel), List.mem_of_getElem? (i := 130) (by decide +kernel)⟩
theorem lw_p10 : lw_okq (⟨"CausalObjectsModel", "make", "(III)I"⟩, 6) := ⟨⟨by decide +kernel, by decide +kernel⟩, List.mem_of_getElem? (i := 141) (by decide +kernel), List.mem_of_getElem? (i := 171) (by decide +kernel), List.mem_of_getElem? (i := 172) (by decide +kernel)⟩
theorem lw_p11 : lw_okq (⟨"CausalObjectsModel", "stands", "(II)Z"⟩, 6) := ⟨⟨by decide +kernel, by decide +kernel⟩, List.mem_of_getElem? (i := 141) (by decide +kernel), List.mem_of_getElem? (i := 207) (by decide +kernel), List.mem_of_getElem? (i := 208) (by decide +kernel)⟩
theorem lw_p12 : lw_okq (⟨"CausalObjectsModel", "under", "(IIZ)I"⟩, 6) := ⟨⟨by decide +kernel, by decide +kernel⟩, List.mem_of_getElem? (i := 141) (by decide +kernel), List.mem_of_getElem? (i := 219) (by decide +kernel), List.mem_of_getElem? (i := 220) (by decide +kernel)⟩
def lw_privs_1 : List (MethodName × Nat) := [(⟨"CausalObjects", "make", "(III)I"⟩, 11), (⟨"CausalObjects", "apply", "(IIII)V"⟩, 11), (⟨"CausalObjects", "dropAdds", "(III)V"⟩, 11), (⟨"CausalObjects", "dropAssigns", "(II)V"⟩, 11), (⟨"CausalObjects", "cover", "(II)V"⟩, 11), (⟨"CausalObjects", "joinAdds", "(II)V"⟩, 11), (⟨"CausalObjects", "joinAssigns", "(II)V"⟩, 11), (⟨"CausalObjects", "joinVectors", "(II)V"⟩, 11), (⟨"CausalObjects", "placeOfValue", "(II)I"⟩, 11), (⟨"CausalObjects", "valueFrom", "(II)I"⟩, 11), (⟨"CausalObjectsModel", "make", "(III)I"⟩, 6), (⟨"CausalObjectsModel", "stands", "(II)Z"⟩, 6), (⟨"CausalObjectsModel", "under", "(IIZ)I"⟩, 6)]
theorem lw_r1 : ∀ q ∈ lw_privs_1, lw_okq q := List.forall_mem_cons.mpr ⟨lw_p0, List.forall_mem_cons.mpr ⟨lw_p1, List.forall_mem_cons.mpr ⟨lw_p2, List.forall_mem_cons.mpr ⟨lw_p3, List.forall_mem_cons.mpr ⟨lw_p4, List.forall_mem_cons.mpr ⟨lw_p5, List.forall_mem_cons.mpr ⟨lw_p6, List.forall_mem_cons.mpr ⟨lw_p7, List.forall_mem_cons.mpr ⟨lw_p8, List.forall_mem_cons.mpr ⟨lw_p9, List.forall_mem_cons.mpr ⟨lw_p10, List.forall_mem_cons.mpr ⟨lw_p11, List.forall_mem_cons.mpr ⟨lw_p12, fun _ h => absurd h List.not_mem_nil⟩⟩⟩⟩⟩⟩⟩⟩⟩⟩⟩⟩⟩
def lw_privs : List (MethodName × Nat) := lw_privs_1
def lw_tbl : List Cond := k2_sels lw_privs ++ tables_1
theorem lw_privs_ok : ∀ q ∈ lw_privs, lw_okq q := lw_r1
def R_law : String := "CausalObjectsLaw"
def lw_g : List Cond := lw_tbl.filter goodWord
theorem lw_gt {k : Nat} {w : Cond} (h : tables_1[k]? = some w) (hg : goodWord w = true) : w ∈ lw_g := List.mem_filter.mpr ⟨List.mem_append_right _ (List.mem_of_getElem? h), hg⟩
theorem lw_gs {k : Nat} {w : Cond} (h : (k2_sels lw_privs)[k]? = some w) (hg : goodWord w = true) : w ∈ lw_g := List.mem_filter.mpr ⟨List.mem_append_left _ (List.mem_of_getElem? h), hg⟩
theorem lw_g_ok {args : Array Value} {s : State} (h : ∀ w ∈ lw_tbl, w.before args s = true) : ∀ w ∈ lw_g, w.before args s = true := fun w hw => h w (List.mem_filter.mp hw).1
theorem lw_g_good {w : Cond} (h : w ∈ lw_g) : (w.onTables && w.keeps) = true ∨ ∃ ty, w = .arrayClass ty := good_of_word (List.mem_filter.mp h).2
def R_X : String := "CausalObjects"
def F_X : u_T := fun k => match k with
  | 0 => ("CausalObjects", "made", "I", false)
  | 1 => ("CausalObjects", "sort", "[I", true)
  | 2 => ("CausalObjects", "argument", "[I", true)
  | 3 => ("CausalObjects", "seen", "[I", true)
  | 4 => ("CausalObjects", "madeBy", "[I", true)
  | 5 => ("CausalObjects", "changeOf", "[I", true)
  | 6 => ("CausalObjects", "amountUpTo", "[I", true)
  | 7 => ("CausalObjects", "knows", "[I", true)
  | 8 => ("CausalObjects", "covered", "[I", true)
  | 9 => ("CausalObjects", "lastAdd", "[I", true)
  | _ => ("CausalObjects", "lastAssign", "[I", true)
def t_X : Nat → FieldType := fun k => match k with
  | 0 => .int
  | 1 => .array .int
  | 2 => .array .int
  | 3 => .array .int
  | 4 => .array .int
  | 5 => .array .int
  | 6 => .array .int
  | 7 => .array .int
  | 8 => .array .int
  | 9 => .array .int
  | _ => .array .int
theorem n_X : ∀ a, a < 11 → ∀ b, b < 11 → a ≠ b → (F_X a).2.1 ≠ (F_X b).2.1 := by decide +kernel
theorem t_X_ok : ∀ k, k < 11 → parseFieldDescriptor (F_X k).2.2.1 = some (t_X k) := by decide +kernel
theorem i_X : ∀ w ∈ u_ws R_X F_X 11, w ∈ lw_g := by decide +kernel
def R_Y : String := "CausalObjectsModel"
def F_Y : u_T := fun k => match k with
  | 0 => ("CausalObjectsModel", "made", "I", false)
  | 1 => ("CausalObjectsModel", "sort", "[I", true)
  | 2 => ("CausalObjectsModel", "what", "[I", true)
  | 3 => ("CausalObjectsModel", "origin", "[I", true)
  | 4 => ("CausalObjectsModel", "past", "[J", true)
  | _ => ("CausalObjectsModel", "knows", "[J", true)
def t_Y : Nat → FieldType := fun k => match k with
  | 0 => .int
  | 1 => .array .int
  | 2 => .array .int
  | 3 => .array .int
  | 4 => .array .long
  | _ => .array .long
theorem n_Y : ∀ a, a < 6 → ∀ b, b < 6 → a ≠ b → (F_Y a).2.1 ≠ (F_Y b).2.1 := by decide +kernel
theorem t_Y_ok : ∀ k, k < 6 → parseFieldDescriptor (F_Y k).2.2.1 = some (t_Y k) := by decide +kernel
theorem i_Y : ∀ w ∈ u_ws R_Y F_Y 6, w ∈ lw_g := by decide +kernel
abbrev classes : List vw_C := [(R_X, F_X, 11), (R_Y, F_Y, 6)]
abbrev b_X_init : ByteArray := prog_1_method_1_code
def y_X_init : MethodName := ⟨R_X, "<init>", "()V"⟩
abbrev w_X_init : List Cond := .code y_X_init b_X_init 1 none :: lw_g
theorem k_X_init : Cond.code y_X_init b_X_init 1 none ∈ lw_g := lw_gt (k := 7) rfl rfl
abbrev b_X_add : ByteArray := prog_1_method_2_code
def y_X_add : MethodName := ⟨R_X, "add", "(II)I"⟩
abbrev w_X_add : List Cond := .code y_X_add b_X_add 3 (some .int) :: lw_g
theorem k_X_add : Cond.code y_X_add b_X_add 3 (some .int) ∈ lw_g := lw_gt (k := 49) rfl rfl
abbrev b_X_make : ByteArray := prog_1_method_15_code
def y_X_make : MethodName := ⟨R_X, "make", "(III)I"⟩
abbrev w_X_make : List Cond := .code y_X_make b_X_make 6 (some .int) :: lw_g
theorem k_X_make : Cond.code y_X_make b_X_make 6 (some .int) ∈ lw_g := lw_gt (k := 53) rfl rfl
abbrev b_X_isReplica : ByteArray := prog_1_method_14_code
def y_X_isReplica : MethodName := ⟨R_X, "isReplica", "(I)Z"⟩
abbrev w_X_isReplica : List Cond := .code y_X_isReplica b_X_isReplica 1 (some .boolean) :: lw_g
theorem k_X_isReplica : Cond.code y_X_isReplica b_X_isReplica 1 (some .boolean) ∈ lw_g := lw_gt (k := 56) rfl rfl
abbrev b_X_apply : ByteArray := prog_1_method_16_code
def y_X_apply : MethodName := ⟨R_X, "apply", "(IIII)V"⟩
abbrev w_X_apply : List Cond := .code y_X_apply b_X_apply 7 none :: lw_g
theorem k_X_apply : Cond.code y_X_apply b_X_apply 7 none ∈ lw_g := lw_gt (k := 60) rfl rfl
abbrev b_X_dropAdds : ByteArray := prog_1_method_17_code
def y_X_dropAdds : MethodName := ⟨R_X, "dropAdds", "(III)V"⟩
abbrev w_X_dropAdds : List Cond := .code y_X_dropAdds b_X_dropAdds 6 none :: lw_g
theorem k_X_dropAdds : Cond.code y_X_dropAdds b_X_dropAdds 6 none ∈ lw_g := lw_gt (k := 64) rfl rfl
abbrev b_X_dropAssigns : ByteArray := prog_1_method_18_code
def y_X_dropAssigns : MethodName := ⟨R_X, "dropAssigns", "(II)V"⟩
abbrev w_X_dropAssigns : List Cond := .code y_X_dropAssigns b_X_dropAssigns 5 none :: lw_g
theorem k_X_dropAssigns : Cond.code y_X_dropAssigns b_X_dropAssigns 5 none ∈ lw_g := lw_gt (k := 68) rfl rfl
abbrev b_X_cover : ByteArray := prog_1_method_19_code
def y_X_cover : MethodName := ⟨R_X, "cover", "(II)V"⟩
abbrev w_X_cover : List Cond := .code y_X_cover b_X_cover 5 none :: lw_g
theorem k_X_cover : Cond.code y_X_cover b_X_cover 5 none ∈ lw_g := lw_gt (k := 72) rfl rfl
abbrev b_X_remove : ByteArray := prog_1_method_3_code
def y_X_remove : MethodName := ⟨R_X, "remove", "(II)I"⟩
abbrev w_X_remove : List Cond := .code y_X_remove b_X_remove 3 (some .int) :: lw_g
theorem k_X_remove : Cond.code y_X_remove b_X_remove 3 (some .int) ∈ lw_g := lw_gt (k := 76) rfl rfl
abbrev b_X_assign : ByteArray := prog_1_method_4_code
def y_X_assign : MethodName := ⟨R_X, "assign", "(II)I"⟩
abbrev w_X_assign : List Cond := .code y_X_assign b_X_assign 3 (some .int) :: lw_g
theorem k_X_assign : Cond.code y_X_assign b_X_assign 3 (some .int) ∈ lw_g := lw_gt (k := 80) rfl rfl
abbrev b_X_count : ByteArray := prog_1_method_5_code
def y_X_count : MethodName := ⟨R_X, "count", "(II)I"⟩
abbrev w_X_count : List Cond := .code y_X_count b_X_count 3 (some .int) :: lw_g
theorem k_X_count : Cond.code y_X_count b_X_count 3 (some .int) ∈ lw_g := lw_gt (k := 84) rfl rfl
abbrev b_X_reset : ByteArray := prog_1_method_6_code
def y_X_reset : MethodName := ⟨R_X, "reset", "(I)I"⟩
abbrev w_X_reset : List Cond := .code y_X_reset b_X_reset 2 (some .int) :: lw_g
theorem k_X_reset : Cond.code y_X_reset b_X_reset 2 (some .int) ∈ lw_g := lw_gt (k := 88) rfl rfl
abbrev b_X_deliver : ByteArray := prog_1_method_7_code
def y_X_deliver : MethodName := ⟨R_X, "deliver", "(II)I"⟩
abbrev w_X_deliver : List Cond := .code y_X_deliver b_X_deliver 6 (some .int) :: lw_g
theorem k_X_deliver : Cond.code y_X_deliver b_X_deliver 6 (some .int) ∈ lw_g := lw_gt (k := 92) rfl rfl
abbrev b_X_sync : ByteArray := prog_1_method_8_code
def y_X_sync : MethodName := ⟨R_X, "sync", "(II)I"⟩
abbrev w_X_sync : List Cond := .code y_X_sync b_X_sync 3 (some .int) :: lw_g
theorem k_X_sync : Cond.code y_X_sync b_X_sync 3 (some .int) ∈ lw_g := lw_gt (k := 96) rfl rfl
abbrev b_X_joinAdds : ByteArray := prog_1_method_21_code
def y_X_joinAdds : MethodName := ⟨R_X, "joinAdds", "(II)V"⟩
abbrev w_X_joinAdds : List Cond := .code y_X_joinAdds b_X_joinAdds 7 none :: lw_g
theorem k_X_joinAdds : Cond.code y_X_joinAdds b_X_joinAdds 7 none ∈ lw_g := lw_gt (k := 100) rfl rfl
abbrev b_X_survivor : ByteArray := prog_1_method_20_code
def y_X_survivor : MethodName := ⟨R_X, "survivor", "(IIII)I"⟩
abbrev w_X_survivor : List Cond := .code y_X_survivor b_X_survivor 6 (some .int) :: lw_g
theorem k_X_survivor : Cond.code y_X_survivor b_X_survivor 6 (some .int) ∈ lw_g := lw_gt (k := 103) rfl rfl
abbrev b_X_joinAssigns : ByteArray := prog_1_method_22_code
def y_X_joinAssigns : MethodName := ⟨R_X, "joinAssigns", "(II)V"⟩
abbrev w_X_joinAssigns : List Cond := .code y_X_joinAssigns b_X_joinAssigns 6 none :: lw_g
theorem k_X_joinAssigns : Cond.code y_X_joinAssigns b_X_joinAssigns 6 none ∈ lw_g := lw_gt (k := 107) rfl rfl
abbrev b_X_joinVectors : ByteArray := prog_1_method_23_code
def y_X_joinVectors : MethodName := ⟨R_X, "joinVectors", "(II)V"⟩
abbrev w_X_joinVectors : List Cond := .code y_X_joinVectors b_X_joinVectors 6 none :: lw_g
theorem k_X_joinVectors : Cond.code y_X_joinVectors b_X_joinVectors 6 none ∈ lw_g := lw_gt (k := 111) rfl rfl
abbrev b_X_has : ByteArray := prog_1_method_9_code
def y_X_has : MethodName := ⟨R_X, "has", "(II)I"⟩
abbrev w_X_has : List Cond := .code y_X_has b_X_has 5 (some .int) :: lw_g
theorem k_X_has : Cond.code y_X_has b_X_has 5 (some .int) ∈ lw_g := lw_gt (k := 115) rfl rfl
abbrev b_X_values : ByteArray := prog_1_method_10_code
def y_X_values : MethodName := ⟨R_X, "values", "(I)I"⟩
abbrev w_X_values : List Cond := .code y_X_values b_X_values 4 (some .int) :: lw_g
theorem k_X_values : Cond.code y_X_values b_X_values 4 (some .int) ∈ lw_g := lw_gt (k := 119) rfl rfl
abbrev b_X_value : ByteArray := prog_1_method_11_code
def y_X_value : MethodName := ⟨R_X, "value", "(II)I"⟩
abbrev w_X_value : List Cond := .code y_X_value b_X_value 4 (some .int) :: lw_g
theorem k_X_value : Cond.code y_X_value b_X_value 4 (some .int) ∈ lw_g := lw_gt (k := 123) rfl rfl
abbrev b_X_placeOfValue : ByteArray := prog_1_method_25_code
def y_X_placeOfValue : MethodName := ⟨R_X, "placeOfValue", "(II)I"⟩
abbrev w_X_placeOfValue : List Cond := .code y_X_placeOfValue b_X_placeOfValue 7 (some .int) :: lw_g
theorem k_X_placeOfValue : Cond.code y_X_placeOfValue b_X_placeOfValue 7 (some .int) ∈ lw_g := lw_gt (k := 127) rfl rfl
abbrev b_X_valueFrom : ByteArray := prog_1_method_24_code
def y_X_valueFrom : MethodName := ⟨R_X, "valueFrom", "(II)I"⟩
abbrev w_X_valueFrom : List Cond := .code y_X_valueFrom b_X_valueFrom 4 (some .int) :: lw_g
theorem k_X_valueFrom : Cond.code y_X_valueFrom b_X_valueFrom 4 (some .int) ∈ lw_g := lw_gt (k := 131) rfl rfl
abbrev b_X_total : ByteArray := prog_1_method_12_code
def y_X_total : MethodName := ⟨R_X, "total", "(I)I"⟩
abbrev w_X_total : List Cond := .code y_X_total b_X_total 5 (some .int) :: lw_g
theorem k_X_total : Cond.code y_X_total b_X_total 5 (some .int) ∈ lw_g := lw_gt (k := 135) rfl rfl
abbrev b_X_known : ByteArray := prog_1_method_13_code
def y_X_known : MethodName := ⟨R_X, "known", "(II)I"⟩
abbrev w_X_known : List Cond := .code y_X_known b_X_known 3 (some .int) :: lw_g
theorem k_X_known : Cond.code y_X_known b_X_known 3 (some .int) ∈ lw_g := lw_gt (k := 139) rfl rfl
abbrev b_Y_init : ByteArray := prog_3_method_1_code
def y_Y_init : MethodName := ⟨R_Y, "<init>", "()V"⟩
abbrev w_Y_init : List Cond := .code y_Y_init b_Y_init 1 none :: lw_g
theorem k_Y_init : Cond.code y_Y_init b_Y_init 1 none ∈ lw_g := lw_gt (k := 144) rfl rfl
abbrev b_Y_add : ByteArray := prog_3_method_4_code
def y_Y_add : MethodName := ⟨R_Y, "add", "(II)I"⟩
abbrev w_Y_add : List Cond := .code y_Y_add b_Y_add 3 (some .int) :: lw_g
theorem k_Y_add : Cond.code y_Y_add b_Y_add 3 (some .int) ∈ lw_g := lw_gt (k := 169) rfl rfl
abbrev b_Y_make : ByteArray := prog_3_method_3_code
def y_Y_make : MethodName := ⟨R_Y, "make", "(III)I"⟩
abbrev w_Y_make : List Cond := .code y_Y_make b_Y_make 4 (some .int) :: lw_g
theorem k_Y_make : Cond.code y_Y_make b_Y_make 4 (some .int) ∈ lw_g := lw_gt (k := 173) rfl rfl
abbrev b_Y_bad : ByteArray := prog_3_method_2_code
def y_Y_bad : MethodName := ⟨R_Y, "bad", "(I)Z"⟩
abbrev w_Y_bad : List Cond := .code y_Y_bad b_Y_bad 1 (some .boolean) :: lw_g
theorem k_Y_bad : Cond.code y_Y_bad b_Y_bad 1 (some .boolean) ∈ lw_g := lw_gt (k := 176) rfl rfl
abbrev b_Y_remove : ByteArray := prog_3_method_5_code
def y_Y_remove : MethodName := ⟨R_Y, "remove", "(II)I"⟩
abbrev w_Y_remove : List Cond := .code y_Y_remove b_Y_remove 3 (some .int) :: lw_g
theorem k_Y_remove : Cond.code y_Y_remove b_Y_remove 3 (some .int) ∈ lw_g := lw_gt (k := 180) rfl rfl
abbrev b_Y_assign : ByteArray := prog_3_method_6_code
def y_Y_assign : MethodName := ⟨R_Y, "assign", "(II)I"⟩
abbrev w_Y_assign : List Cond := .code y_Y_assign b_Y_assign 3 (some .int) :: lw_g
theorem k_Y_assign : Cond.code y_Y_assign b_Y_assign 3 (some .int) ∈ lw_g := lw_gt (k := 184) rfl rfl
abbrev b_Y_count : ByteArray := prog_3_method_7_code
def y_Y_count : MethodName := ⟨R_Y, "count", "(II)I"⟩
abbrev w_Y_count : List Cond := .code y_Y_count b_Y_count 3 (some .int) :: lw_g
theorem k_Y_count : Cond.code y_Y_count b_Y_count 3 (some .int) ∈ lw_g := lw_gt (k := 188) rfl rfl
abbrev b_Y_reset : ByteArray := prog_3_method_8_code
def y_Y_reset : MethodName := ⟨R_Y, "reset", "(I)I"⟩
abbrev w_Y_reset : List Cond := .code y_Y_reset b_Y_reset 2 (some .int) :: lw_g
theorem k_Y_reset : Cond.code y_Y_reset b_Y_reset 2 (some .int) ∈ lw_g := lw_gt (k := 192) rfl rfl
abbrev b_Y_deliver : ByteArray := prog_3_method_9_code
def y_Y_deliver : MethodName := ⟨R_Y, "deliver", "(II)I"⟩
abbrev w_Y_deliver : List Cond := .code y_Y_deliver b_Y_deliver 4 (some .int) :: lw_g
theorem k_Y_deliver : Cond.code y_Y_deliver b_Y_deliver 4 (some .int) ∈ lw_g := lw_gt (k := 196) rfl rfl
abbrev b_Y_sync : ByteArray := prog_3_method_10_code
def y_Y_sync : MethodName := ⟨R_Y, "sync", "(II)I"⟩
abbrev w_Y_sync : List Cond := .code y_Y_sync b_Y_sync 3 (some .int) :: lw_g
theorem k_Y_sync : Cond.code y_Y_sync b_Y_sync 3 (some .int) ∈ lw_g := lw_gt (k := 201) rfl rfl
abbrev b_Y_has : ByteArray := prog_3_method_12_code
def y_Y_has : MethodName := ⟨R_Y, "has", "(II)I"⟩
abbrev w_Y_has : List Cond := .code y_Y_has b_Y_has 4 (some .int) :: lw_g
theorem k_Y_has : Cond.code y_Y_has b_Y_has 4 (some .int) ∈ lw_g := lw_gt (k := 205) rfl rfl
abbrev b_Y_stands : ByteArray := prog_3_method_11_code
def y_Y_stands : MethodName := ⟨R_Y, "stands", "(II)Z"⟩
abbrev w_Y_stands : List Cond := .code y_Y_stands b_Y_stands 5 (some .boolean) :: lw_g
theorem k_Y_stands : Cond.code y_Y_stands b_Y_stands 5 (some .boolean) ∈ lw_g := lw_gt (k := 209) rfl rfl
abbrev b_Y_values : ByteArray := prog_3_method_13_code
def y_Y_values : MethodName := ⟨R_Y, "values", "(I)I"⟩
abbrev w_Y_values : List Cond := .code y_Y_values b_Y_values 4 (some .int) :: lw_g
theorem k_Y_values : Cond.code y_Y_values b_Y_values 4 (some .int) ∈ lw_g := lw_gt (k := 213) rfl rfl
abbrev b_Y_value : ByteArray := prog_3_method_15_code
def y_Y_value : MethodName := ⟨R_Y, "value", "(II)I"⟩
abbrev w_Y_value : List Cond := .code y_Y_value b_Y_value 6 (some .int) :: lw_g
theorem k_Y_value : Cond.code y_Y_value b_Y_value 6 (some .int) ∈ lw_g := lw_gt (k := 217) rfl rfl
abbrev b_Y_under : ByteArray := prog_3_method_14_code
def y_Y_under : MethodName := ⟨R_Y, "under", "(IIZ)I"⟩
abbrev w_Y_under : List Cond := .code y_Y_under b_Y_under 7 (some .int) :: lw_g
theorem k_Y_under : Cond.code y_Y_under b_Y_under 7 (some .int) ∈ lw_g := lw_gt (k := 221) rfl rfl
abbrev b_Y_total : ByteArray := prog_3_method_16_code
def y_Y_total : MethodName := ⟨R_Y, "total", "(I)I"⟩
abbrev w_Y_total : List Cond := .code y_Y_total b_Y_total 4 (some .int) :: lw_g
theorem k_Y_total : Cond.code y_Y_total b_Y_total 4 (some .int) ∈ lw_g := lw_gt (k := 225) rfl rfl
abbrev b_Y_known : ByteArray := prog_3_method_17_code
def y_Y_known : MethodName := ⟨R_Y, "known", "(II)I"⟩
abbrev w_Y_known : List Cond := .code y_Y_known b_Y_known 5 (some .int) :: lw_g
theorem k_Y_known : Cond.code y_Y_known b_Y_known 5 (some .int) ∈ lw_g := lw_gt (k := 229) rfl rfl
theorem in_law : Cond.initialized R_law ∈ lw_g := lw_gt (k := 0) rfl rfl
theorem in_X : Cond.initialized R_X ∈ lw_g := lw_gt (k := 1) rfl rfl
theorem in_Y : Cond.initialized R_Y ∈ lw_g := lw_gt (k := 2) rfl rfl
theorem cl_law_7 : Cond.classLink R_law 7 R_X ∈ lw_g := lw_gt (k := 3) rfl rfl
theorem is_X : Cond.instantiable R_X 11 ∈ lw_g := lw_gt (k := 4) rfl rfl
theorem ml_law_9 : Cond.methodLink R_law 9 y_X_init ∈ lw_g := lw_gt (k := 5) rfl rfl
theorem im_X_init : Cond.instanceMethod y_X_init ∈ lw_g := lw_gt (k := 6) rfl rfl
theorem ml_X_1 : Cond.methodLink R_X 1 objectInit ∈ lw_g := lw_gt (k := 8) rfl rfl
theorem im_objectInit : Cond.instanceMethod objectInit ∈ lw_g := lw_gt (k := 9) rfl rfl
theorem k_objectInit : Cond.code objectInit ⟨#[0xb1]⟩ 1 none ∈ lw_g := lw_gt (k := 10) rfl rfl
theorem fl_X_69 : Cond.fieldLink R_X 69 "CausalObjects" "made" "I" ∈ lw_g := lw_gt (k := 11) rfl rfl
theorem fl_X_7 : Cond.fieldLink R_X 7 "CausalObjects" "sort" "[I" ∈ lw_g := lw_gt (k := 12) rfl rfl
theorem fl_X_13 : Cond.fieldLink R_X 13 "CausalObjects" "argument" "[I" ∈ lw_g := lw_gt (k := 13) rfl rfl
theorem fl_X_16 : Cond.fieldLink R_X 16 "CausalObjects" "seen" "[I" ∈ lw_g := lw_gt (k := 14) rfl rfl
theorem fl_X_19 : Cond.fieldLink R_X 19 "CausalObjects" "madeBy" "[I" ∈ lw_g := lw_gt (k := 15) rfl rfl
theorem fl_X_22 : Cond.fieldLink R_X 22 "CausalObjects" "changeOf" "[I" ∈ lw_g := lw_gt (k := 16) rfl rfl
theorem fl_X_25 : Cond.fieldLink R_X 25 "CausalObjects" "amountUpTo" "[I" ∈ lw_g := lw_gt (k := 17) rfl rfl
theorem fl_X_28 : Cond.fieldLink R_X 28 "CausalObjects" "knows" "[I" ∈ lw_g := lw_gt (k := 18) rfl rfl
theorem fl_X_31 : Cond.fieldLink R_X 31 "CausalObjects" "covered" "[I" ∈ lw_g := lw_gt (k := 19) rfl rfl
theorem fl_X_34 : Cond.fieldLink R_X 34 "CausalObjects" "lastAdd" "[I" ∈ lw_g := lw_gt (k := 20) rfl rfl
theorem fl_X_37 : Cond.fieldLink R_X 37 "CausalObjects" "lastAssign" "[I" ∈ lw_g := lw_gt (k := 21) rfl rfl
theorem ac_int : Cond.arrayClass .int ∈ lw_g := lw_gt (k := 45) rfl rfl
theorem ml_law_13 : Cond.methodLink R_law 13 y_X_add ∈ lw_g := lw_gt (k := 46) rfl rfl
theorem im_X_add : Cond.instanceMethod y_X_add ∈ lw_g := lw_gt (k := 47) rfl rfl
theorem se_X_add : Cond.selects R_X y_X_add y_X_add ∈ lw_g := lw_gt (k := 48) rfl rfl
theorem ml_X_40 : Cond.methodLink R_X 40 y_X_make ∈ lw_g := lw_gt (k := 50) rfl rfl
theorem im_X_make : Cond.instanceMethod y_X_make ∈ lw_g := lw_gt (k := 52) rfl rfl
theorem ml_X_44 : Cond.methodLink R_X 44 y_X_isReplica ∈ lw_g := lw_gt (k := 54) rfl rfl
theorem sm_X_isReplica : Cond.static y_X_isReplica ∈ lw_g := lw_gt (k := 55) rfl rfl
theorem ml_X_48 : Cond.methodLink R_X 48 y_X_apply ∈ lw_g := lw_gt (k := 57) rfl rfl
theorem im_X_apply : Cond.instanceMethod y_X_apply ∈ lw_g := lw_gt (k := 59) rfl rfl
theorem ml_X_73 : Cond.methodLink R_X 73 y_X_dropAdds ∈ lw_g := lw_gt (k := 61) rfl rfl
theorem im_X_dropAdds : Cond.instanceMethod y_X_dropAdds ∈ lw_g := lw_gt (k := 63) rfl rfl
theorem ml_X_77 : Cond.methodLink R_X 77 y_X_dropAssigns ∈ lw_g := lw_gt (k := 65) rfl rfl
theorem im_X_dropAssigns : Cond.instanceMethod y_X_dropAssigns ∈ lw_g := lw_gt (k := 67) rfl rfl
theorem ml_X_80 : Cond.methodLink R_X 80 y_X_cover ∈ lw_g := lw_gt (k := 69) rfl rfl
theorem im_X_cover : Cond.instanceMethod y_X_cover ∈ lw_g := lw_gt (k := 71) rfl rfl
theorem ml_law_18 : Cond.methodLink R_law 18 y_X_remove ∈ lw_g := lw_gt (k := 73) rfl rfl
theorem im_X_remove : Cond.instanceMethod y_X_remove ∈ lw_g := lw_gt (k := 74) rfl rfl
theorem se_X_remove : Cond.selects R_X y_X_remove y_X_remove ∈ lw_g := lw_gt (k := 75) rfl rfl
theorem ml_law_22 : Cond.methodLink R_law 22 y_X_assign ∈ lw_g := lw_gt (k := 77) rfl rfl
theorem im_X_assign : Cond.instanceMethod y_X_assign ∈ lw_g := lw_gt (k := 78) rfl rfl
theorem se_X_assign : Cond.selects R_X y_X_assign y_X_assign ∈ lw_g := lw_gt (k := 79) rfl rfl
theorem ml_law_26 : Cond.methodLink R_law 26 y_X_count ∈ lw_g := lw_gt (k := 81) rfl rfl
theorem im_X_count : Cond.instanceMethod y_X_count ∈ lw_g := lw_gt (k := 82) rfl rfl
theorem se_X_count : Cond.selects R_X y_X_count y_X_count ∈ lw_g := lw_gt (k := 83) rfl rfl
theorem ml_law_30 : Cond.methodLink R_law 30 y_X_reset ∈ lw_g := lw_gt (k := 85) rfl rfl
theorem im_X_reset : Cond.instanceMethod y_X_reset ∈ lw_g := lw_gt (k := 86) rfl rfl
theorem se_X_reset : Cond.selects R_X y_X_reset y_X_reset ∈ lw_g := lw_gt (k := 87) rfl rfl
theorem ml_law_35 : Cond.methodLink R_law 35 y_X_deliver ∈ lw_g := lw_gt (k := 89) rfl rfl
theorem im_X_deliver : Cond.instanceMethod y_X_deliver ∈ lw_g := lw_gt (k := 90) rfl rfl
theorem se_X_deliver : Cond.selects R_X y_X_deliver y_X_deliver ∈ lw_g := lw_gt (k := 91) rfl rfl
theorem ml_law_39 : Cond.methodLink R_law 39 y_X_sync ∈ lw_g := lw_gt (k := 93) rfl rfl
theorem im_X_sync : Cond.instanceMethod y_X_sync ∈ lw_g := lw_gt (k := 94) rfl rfl
theorem se_X_sync : Cond.selects R_X y_X_sync y_X_sync ∈ lw_g := lw_gt (k := 95) rfl rfl
theorem ml_X_52 : Cond.methodLink R_X 52 y_X_joinAdds ∈ lw_g := lw_gt (k := 97) rfl rfl
theorem im_X_joinAdds : Cond.instanceMethod y_X_joinAdds ∈ lw_g := lw_gt (k := 99) rfl rfl
theorem ml_X_83 : Cond.methodLink R_X 83 y_X_survivor ∈ lw_g := lw_gt (k := 101) rfl rfl
theorem sm_X_survivor : Cond.static y_X_survivor ∈ lw_g := lw_gt (k := 102) rfl rfl
theorem ml_X_56 : Cond.methodLink R_X 56 y_X_joinAssigns ∈ lw_g := lw_gt (k := 104) rfl rfl
theorem im_X_joinAssigns : Cond.instanceMethod y_X_joinAssigns ∈ lw_g := lw_gt (k := 106) rfl rfl
theorem ml_X_59 : Cond.methodLink R_X 59 y_X_joinVectors ∈ lw_g := lw_gt (k := 108) rfl rfl
theorem im_X_joinVectors : Cond.instanceMethod y_X_joinVectors ∈ lw_g := lw_gt (k := 110) rfl rfl
theorem ml_law_43 : Cond.methodLink R_law 43 y_X_has ∈ lw_g := lw_gt (k := 112) rfl rfl
theorem im_X_has : Cond.instanceMethod y_X_has ∈ lw_g := lw_gt (k := 113) rfl rfl
theorem se_X_has : Cond.selects R_X y_X_has y_X_has ∈ lw_g := lw_gt (k := 114) rfl rfl
theorem ml_law_47 : Cond.methodLink R_law 47 y_X_values ∈ lw_g := lw_gt (k := 116) rfl rfl
theorem im_X_values : Cond.instanceMethod y_X_values ∈ lw_g := lw_gt (k := 117) rfl rfl
theorem se_X_values : Cond.selects R_X y_X_values y_X_values ∈ lw_g := lw_gt (k := 118) rfl rfl
theorem ml_law_51 : Cond.methodLink R_law 51 y_X_value ∈ lw_g := lw_gt (k := 120) rfl rfl
theorem im_X_value : Cond.instanceMethod y_X_value ∈ lw_g := lw_gt (k := 121) rfl rfl
theorem se_X_value : Cond.selects R_X y_X_value y_X_value ∈ lw_g := lw_gt (k := 122) rfl rfl
theorem ml_X_62 : Cond.methodLink R_X 62 y_X_placeOfValue ∈ lw_g := lw_gt (k := 124) rfl rfl
theorem im_X_placeOfValue : Cond.instanceMethod y_X_placeOfValue ∈ lw_g := lw_gt (k := 126) rfl rfl
theorem ml_X_66 : Cond.methodLink R_X 66 y_X_valueFrom ∈ lw_g := lw_gt (k := 128) rfl rfl
theorem im_X_valueFrom : Cond.instanceMethod y_X_valueFrom ∈ lw_g := lw_gt (k := 130) rfl rfl
theorem ml_law_55 : Cond.methodLink R_law 55 y_X_total ∈ lw_g := lw_gt (k := 132) rfl rfl
theorem im_X_total : Cond.instanceMethod y_X_total ∈ lw_g := lw_gt (k := 133) rfl rfl
theorem se_X_total : Cond.selects R_X y_X_total y_X_total ∈ lw_g := lw_gt (k := 134) rfl rfl
theorem ml_law_59 : Cond.methodLink R_law 59 y_X_known ∈ lw_g := lw_gt (k := 136) rfl rfl
theorem im_X_known : Cond.instanceMethod y_X_known ∈ lw_g := lw_gt (k := 137) rfl rfl
theorem se_X_known : Cond.selects R_X y_X_known y_X_known ∈ lw_g := lw_gt (k := 138) rfl rfl
theorem cl_law_10 : Cond.classLink R_law 10 R_Y ∈ lw_g := lw_gt (k := 140) rfl rfl
theorem is_Y : Cond.instantiable R_Y 6 ∈ lw_g := lw_gt (k := 141) rfl rfl
theorem ml_law_12 : Cond.methodLink R_law 12 y_Y_init ∈ lw_g := lw_gt (k := 142) rfl rfl
theorem im_Y_init : Cond.instanceMethod y_Y_init ∈ lw_g := lw_gt (k := 143) rfl rfl
theorem ml_Y_1 : Cond.methodLink R_Y 1 objectInit ∈ lw_g := lw_gt (k := 145) rfl rfl
theorem fl_Y_30 : Cond.fieldLink R_Y 30 "CausalObjectsModel" "made" "I" ∈ lw_g := lw_gt (k := 146) rfl rfl
theorem fl_Y_7 : Cond.fieldLink R_Y 7 "CausalObjectsModel" "sort" "[I" ∈ lw_g := lw_gt (k := 147) rfl rfl
theorem fl_Y_13 : Cond.fieldLink R_Y 13 "CausalObjectsModel" "what" "[I" ∈ lw_g := lw_gt (k := 148) rfl rfl
theorem fl_Y_16 : Cond.fieldLink R_Y 16 "CausalObjectsModel" "origin" "[I" ∈ lw_g := lw_gt (k := 149) rfl rfl
theorem fl_Y_19 : Cond.fieldLink R_Y 19 "CausalObjectsModel" "past" "[J" ∈ lw_g := lw_gt (k := 150) rfl rfl
theorem fl_Y_23 : Cond.fieldLink R_Y 23 "CausalObjectsModel" "knows" "[J" ∈ lw_g := lw_gt (k := 151) rfl rfl
theorem ac_long : Cond.arrayClass .long ∈ lw_g := lw_gt (k := 165) rfl rfl
theorem ml_law_17 : Cond.methodLink R_law 17 y_Y_add ∈ lw_g := lw_gt (k := 166) rfl rfl
theorem im_Y_add : Cond.instanceMethod y_Y_add ∈ lw_g := lw_gt (k := 167) rfl rfl
theorem se_Y_add : Cond.selects R_Y y_Y_add y_Y_add ∈ lw_g := lw_gt (k := 168) rfl rfl
theorem ml_Y_34 : Cond.methodLink R_Y 34 y_Y_make ∈ lw_g := lw_gt (k := 170) rfl rfl
theorem im_Y_make : Cond.instanceMethod y_Y_make ∈ lw_g := lw_gt (k := 172) rfl rfl
theorem ml_Y_26 : Cond.methodLink R_Y 26 y_Y_bad ∈ lw_g := lw_gt (k := 174) rfl rfl
theorem sm_Y_bad : Cond.static y_Y_bad ∈ lw_g := lw_gt (k := 175) rfl rfl
theorem ml_law_21 : Cond.methodLink R_law 21 y_Y_remove ∈ lw_g := lw_gt (k := 177) rfl rfl
theorem im_Y_remove : Cond.instanceMethod y_Y_remove ∈ lw_g := lw_gt (k := 178) rfl rfl
theorem se_Y_remove : Cond.selects R_Y y_Y_remove y_Y_remove ∈ lw_g := lw_gt (k := 179) rfl rfl
theorem ml_law_25 : Cond.methodLink R_law 25 y_Y_assign ∈ lw_g := lw_gt (k := 181) rfl rfl
theorem im_Y_assign : Cond.instanceMethod y_Y_assign ∈ lw_g := lw_gt (k := 182) rfl rfl
theorem se_Y_assign : Cond.selects R_Y y_Y_assign y_Y_assign ∈ lw_g := lw_gt (k := 183) rfl rfl
theorem ml_law_29 : Cond.methodLink R_law 29 y_Y_count ∈ lw_g := lw_gt (k := 185) rfl rfl
theorem im_Y_count : Cond.instanceMethod y_Y_count ∈ lw_g := lw_gt (k := 186) rfl rfl
theorem se_Y_count : Cond.selects R_Y y_Y_count y_Y_count ∈ lw_g := lw_gt (k := 187) rfl rfl
theorem ml_law_34 : Cond.methodLink R_law 34 y_Y_reset ∈ lw_g := lw_gt (k := 189) rfl rfl
theorem im_Y_reset : Cond.instanceMethod y_Y_reset ∈ lw_g := lw_gt (k := 190) rfl rfl
theorem se_Y_reset : Cond.selects R_Y y_Y_reset y_Y_reset ∈ lw_g := lw_gt (k := 191) rfl rfl
theorem ml_law_38 : Cond.methodLink R_law 38 y_Y_deliver ∈ lw_g := lw_gt (k := 193) rfl rfl
theorem im_Y_deliver : Cond.instanceMethod y_Y_deliver ∈ lw_g := lw_gt (k := 194) rfl rfl
theorem se_Y_deliver : Cond.selects R_Y y_Y_deliver y_Y_deliver ∈ lw_g := lw_gt (k := 195) rfl rfl
theorem kl_Y_38 : Cond.constantLong R_Y 38 (-1) ∈ lw_g := lw_gt (k := 197) rfl rfl
theorem ml_law_42 : Cond.methodLink R_law 42 y_Y_sync ∈ lw_g := lw_gt (k := 198) rfl rfl
theorem im_Y_sync : Cond.instanceMethod y_Y_sync ∈ lw_g := lw_gt (k := 199) rfl rfl
theorem se_Y_sync : Cond.selects R_Y y_Y_sync y_Y_sync ∈ lw_g := lw_gt (k := 200) rfl rfl
theorem ml_law_46 : Cond.methodLink R_law 46 y_Y_has ∈ lw_g := lw_gt (k := 202) rfl rfl
theorem im_Y_has : Cond.instanceMethod y_Y_has ∈ lw_g := lw_gt (k := 203) rfl rfl
theorem se_Y_has : Cond.selects R_Y y_Y_has y_Y_has ∈ lw_g := lw_gt (k := 204) rfl rfl
theorem ml_Y_40 : Cond.methodLink R_Y 40 y_Y_stands ∈ lw_g := lw_gt (k := 206) rfl rfl
theorem im_Y_stands : Cond.instanceMethod y_Y_stands ∈ lw_g := lw_gt (k := 208) rfl rfl
theorem ml_law_50 : Cond.methodLink R_law 50 y_Y_values ∈ lw_g := lw_gt (k := 210) rfl rfl
theorem im_Y_values : Cond.instanceMethod y_Y_values ∈ lw_g := lw_gt (k := 211) rfl rfl
theorem se_Y_values : Cond.selects R_Y y_Y_values y_Y_values ∈ lw_g := lw_gt (k := 212) rfl rfl
theorem ml_law_54 : Cond.methodLink R_law 54 y_Y_value ∈ lw_g := lw_gt (k := 214) rfl rfl
theorem im_Y_value : Cond.instanceMethod y_Y_value ∈ lw_g := lw_gt (k := 215) rfl rfl
theorem se_Y_value : Cond.selects R_Y y_Y_value y_Y_value ∈ lw_g := lw_gt (k := 216) rfl rfl
theorem ml_Y_44 : Cond.methodLink R_Y 44 y_Y_under ∈ lw_g := lw_gt (k := 218) rfl rfl
theorem im_Y_under : Cond.instanceMethod y_Y_under ∈ lw_g := lw_gt (k := 220) rfl rfl
theorem ml_law_58 : Cond.methodLink R_law 58 y_Y_total ∈ lw_g := lw_gt (k := 222) rfl rfl
theorem im_Y_total : Cond.instanceMethod y_Y_total ∈ lw_g := lw_gt (k := 223) rfl rfl
theorem se_Y_total : Cond.selects R_Y y_Y_total y_Y_total ∈ lw_g := lw_gt (k := 224) rfl rfl
theorem ml_law_62 : Cond.methodLink R_law 62 y_Y_known ∈ lw_g := lw_gt (k := 226) rfl rfl
theorem im_Y_known : Cond.instanceMethod y_Y_known ∈ lw_g := lw_gt (k := 227) rfl rfl
theorem se_Y_known : Cond.selects R_Y y_Y_known y_Y_known ∈ lw_g := lw_gt (k := 228) rfl rfl
theorem se_X_make : Cond.selects R_X y_X_make y_X_make ∈ lw_g := lw_gs (k := 0) rfl rfl
theorem se_X_apply : Cond.selects R_X y_X_apply y_X_apply ∈ lw_g := lw_gs (k := 1) rfl rfl
theorem se_X_dropAdds : Cond.selects R_X y_X_dropAdds y_X_dropAdds ∈ lw_g := lw_gs (k := 2) rfl rfl
theorem se_X_dropAssigns : Cond.selects R_X y_X_dropAssigns y_X_dropAssigns ∈ lw_g := lw_gs (k := 3) rfl rfl
theorem se_X_cover : Cond.selects R_X y_X_cover y_X_cover ∈ lw_g := lw_gs (k := 4) rfl rfl
theorem se_X_joinAdds : Cond.selects R_X y_X_joinAdds y_X_joinAdds ∈ lw_g := lw_gs (k := 5) rfl rfl
theorem se_X_joinAssigns : Cond.selects R_X y_X_joinAssigns y_X_joinAssigns ∈ lw_g := lw_gs (k := 6) rfl rfl
theorem se_X_joinVectors : Cond.selects R_X y_X_joinVectors y_X_joinVectors ∈ lw_g := lw_gs (k := 7) rfl rfl
theorem se_X_placeOfValue : Cond.selects R_X y_X_placeOfValue y_X_placeOfValue ∈ lw_g := lw_gs (k := 8) rfl rfl
theorem se_X_valueFrom : Cond.selects R_X y_X_valueFrom y_X_valueFrom ∈ lw_g := lw_gs (k := 9) rfl rfl
theorem se_Y_make : Cond.selects R_Y y_Y_make y_Y_make ∈ lw_g := lw_gs (k := 10) rfl rfl
theorem se_Y_stands : Cond.selects R_Y y_Y_stands y_Y_stands ∈ lw_g := lw_gs (k := 11) rfl rfl
theorem se_Y_under : Cond.selects R_Y y_Y_under y_Y_under ∈ lw_g := lw_gs (k := 12) rfl rfl
end
section
theorem d_X_init_0 : decode b_X_init 0 = .ok (.aload_n 0, 1) := by decide +kernel
theorem d_X_init_1 : decode b_X_init 1 = .ok (.invokespecial 1, 3) := by decide +kernel
theorem d_X_init_4 : decode b_X_init 4 = .ok (.aload_n 0, 1) := by decide +kernel
theorem d_X_init_5 : decode b_X_init 5 = .ok (.bipush 48, 2) := by decide +kernel
theorem d_X_init_7 : decode b_X_init 7 = .ok (.newarray .int, 2) := by decide +kernel
theorem d_X_init_9 : decode b_X_init 9 = .ok (.putfield 7, 3) := by decide +kernel
theorem d_X_init_12 : decode b_X_init 12 = .ok (.aload_n 0, 1) := by decide +kernel
theorem d_X_init_13 : decode b_X_init 13 = .ok (.bipush 48, 2) := by decide +kernel
theorem d_X_init_15 : decode b_X_init 15 = .ok (.newarray .int, 2) := by decide +kernel
theorem d_X_init_17 : decode b_X_init 17 = .ok (.putfield 13, 3) := by decide +kernel
theorem d_X_init_20 : decode b_X_init 20 = .ok (.aload_n 0, 1) := by decide +kernel
theorem d_X_init_21 : decode b_X_init 21 = .ok (.sipush 144, 3) := by decide +kernel
theorem d_X_init_24 : decode b_X_init 24 = .ok (.newarray .int, 2) := by decide +kernel
theorem d_X_init_26 : decode b_X_init 26 = .ok (.putfield 16, 3) := by decide +kernel
theorem d_X_init_29 : decode b_X_init 29 = .ok (.aload_n 0, 1) := by decide +kernel
theorem d_X_init_30 : decode b_X_init 30 = .ok (.iconst 3, 1) := by decide +kernel
theorem d_X_init_31 : decode b_X_init 31 = .ok (.newarray .int, 2) := by decide +kernel
theorem d_X_init_33 : decode b_X_init 33 = .ok (.putfield 19, 3) := by decide +kernel
theorem d_X_init_36 : decode b_X_init 36 = .ok (.aload_n 0, 1) := by decide +kernel
theorem d_X_init_37 : decode b_X_init 37 = .ok (.sipush 147, 3) := by decide +kernel
theorem d_X_init_40 : decode b_X_init 40 = .ok (.newarray .int, 2) := by decide +kernel
theorem d_X_init_42 : decode b_X_init 42 = .ok (.putfield 22, 3) := by decide +kernel
theorem d_X_init_45 : decode b_X_init 45 = .ok (.aload_n 0, 1) := by decide +kernel
theorem d_X_init_46 : decode b_X_init 46 = .ok (.sipush 147, 3) := by decide +kernel
theorem d_X_init_49 : decode b_X_init 49 = .ok (.newarray .int, 2) := by decide +kernel
theorem d_X_init_51 : decode b_X_init 51 = .ok (.putfield 25, 3) := by decide +kernel
theorem d_X_init_54 : decode b_X_init 54 = .ok (.aload_n 0, 1) := by decide +kernel
theorem d_X_init_55 : decode b_X_init 55 = .ok (.bipush 9, 2) := by decide +kernel
theorem d_X_init_57 : decode b_X_init 57 = .ok (.newarray .int, 2) := by decide +kernel
theorem d_X_init_59 : decode b_X_init 59 = .ok (.putfield 28, 3) := by decide +kernel
theorem d_X_init_62 : decode b_X_init 62 = .ok (.aload_n 0, 1) := by decide +kernel
theorem d_X_init_63 : decode b_X_init 63 = .ok (.bipush 9, 2) := by decide +kernel
theorem d_X_init_65 : decode b_X_init 65 = .ok (.newarray .int, 2) := by decide +kernel
theorem d_X_init_67 : decode b_X_init 67 = .ok (.putfield 31, 3) := by decide +kernel
theorem d_X_init_70 : decode b_X_init 70 = .ok (.aload_n 0, 1) := by decide +kernel
theorem d_X_init_71 : decode b_X_init 71 = .ok (.bipush 72, 2) := by decide +kernel
theorem d_X_init_73 : decode b_X_init 73 = .ok (.newarray .int, 2) := by decide +kernel
theorem d_X_init_75 : decode b_X_init 75 = .ok (.putfield 34, 3) := by decide +kernel
theorem d_X_init_78 : decode b_X_init 78 = .ok (.aload_n 0, 1) := by decide +kernel
theorem d_X_init_79 : decode b_X_init 79 = .ok (.bipush 9, 2) := by decide +kernel
theorem d_X_init_81 : decode b_X_init 81 = .ok (.newarray .int, 2) := by decide +kernel
theorem d_X_init_83 : decode b_X_init 83 = .ok (.putfield 37, 3) := by decide +kernel
theorem d_X_init_86 : decode b_X_init 86 = .ok (.return_, 1) := by decide +kernel
theorem d_X_add_0 : decode b_X_add 0 = .ok (.aload_n 0, 1) := by decide +kernel
theorem d_X_add_1 : decode b_X_add 1 = .ok (.iload_n 1, 1) := by decide +kernel
theorem d_X_add_2 : decode b_X_add 2 = .ok (.iconst 0, 1) := by decide +kernel
theorem d_X_add_3 : decode b_X_add 3 = .ok (.iload_n 2, 1) := by decide +kernel
theorem d_X_add_4 : decode b_X_add 4 = .ok (.bipush 7, 2) := by decide +kernel
theorem d_X_add_6 : decode b_X_add 6 = .ok (.iand, 1) := by decide +kernel
theorem d_X_add_7 : decode b_X_add 7 = .ok (.invokevirtual 40, 3) := by decide +kernel
theorem d_X_add_10 : decode b_X_add 10 = .ok (.ireturn, 1) := by decide +kernel
theorem d_X_remove_0 : decode b_X_remove 0 = .ok (.aload_n 0, 1) := by decide +kernel
theorem d_X_remove_1 : decode b_X_remove 1 = .ok (.iload_n 1, 1) := by decide +kernel
theorem d_X_remove_2 : decode b_X_remove 2 = .ok (.iconst 1, 1) := by decide +kernel
theorem d_X_remove_3 : decode b_X_remove 3 = .ok (.iload_n 2, 1) := by decide +kernel
theorem d_X_remove_4 : decode b_X_remove 4 = .ok (.bipush 7, 2) := by decide +kernel
theorem d_X_remove_6 : decode b_X_remove 6 = .ok (.iand, 1) := by decide +kernel
theorem d_X_remove_7 : decode b_X_remove 7 = .ok (.invokevirtual 40, 3) := by decide +kernel
theorem d_X_remove_10 : decode b_X_remove 10 = .ok (.ireturn, 1) := by decide +kernel
theorem d_X_assign_0 : decode b_X_assign 0 = .ok (.aload_n 0, 1) := by decide +kernel
theorem d_X_assign_1 : decode b_X_assign 1 = .ok (.iload_n 1, 1) := by decide +kernel
theorem d_X_assign_2 : decode b_X_assign 2 = .ok (.iconst 2, 1) := by decide +kernel
theorem d_X_assign_3 : decode b_X_assign 3 = .ok (.iload_n 2, 1) := by decide +kernel
theorem d_X_assign_4 : decode b_X_assign 4 = .ok (.invokevirtual 40, 3) := by decide +kernel
theorem d_X_assign_7 : decode b_X_assign 7 = .ok (.ireturn, 1) := by decide +kernel
theorem d_X_count_0 : decode b_X_count 0 = .ok (.aload_n 0, 1) := by decide +kernel
theorem d_X_count_1 : decode b_X_count 1 = .ok (.iload_n 1, 1) := by decide +kernel
theorem d_X_count_2 : decode b_X_count 2 = .ok (.iconst 3, 1) := by decide +kernel
theorem d_X_count_3 : decode b_X_count 3 = .ok (.iload_n 2, 1) := by decide +kernel
theorem d_X_count_4 : decode b_X_count 4 = .ok (.invokevirtual 40, 3) := by decide +kernel
theorem d_X_count_7 : decode b_X_count 7 = .ok (.ireturn, 1) := by decide +kernel
theorem d_X_reset_0 : decode b_X_reset 0 = .ok (.aload_n 0, 1) := by decide +kernel
theorem d_X_reset_1 : decode b_X_reset 1 = .ok (.iload_n 1, 1) := by decide +kernel
theorem d_X_reset_2 : decode b_X_reset 2 = .ok (.iconst 4, 1) := by decide +kernel
theorem d_X_reset_3 : decode b_X_reset 3 = .ok (.iconst 0, 1) := by decide +kernel
theorem d_X_reset_4 : decode b_X_reset 4 = .ok (.invokevirtual 40, 3) := by decide +kernel
theorem d_X_reset_7 : decode b_X_reset 7 = .ok (.ireturn, 1) := by decide +kernel
theorem d_X_deliver_0 : decode b_X_deliver 0 = .ok (.iload_n 1, 1) := by decide +kernel
theorem d_X_deliver_1 : decode b_X_deliver 1 = .ok (.invokestatic 44, 3) := by decide +kernel
theorem d_X_deliver_4 : decode b_X_deliver 4 = .ok (.ifCond .eq 10, 3) := by decide +kernel
theorem d_X_deliver_7 : decode b_X_deliver 7 = .ok (.iload_n 2, 1) := by decide +kernel
theorem d_X_deliver_8 : decode b_X_deliver 8 = .ok (.invokestatic 44, 3) := by decide +kernel
theorem d_X_deliver_11 : decode b_X_deliver 11 = .ok (.ifCond .ne 5, 3) := by decide +kernel
theorem d_X_deliver_14 : decode b_X_deliver 14 = .ok (.iconst (-1), 1) := by decide +kernel
theorem d_X_deliver_15 : decode b_X_deliver 15 = .ok (.ireturn, 1) := by decide +kernel
theorem d_X_deliver_16 : decode b_X_deliver 16 = .ok (.aload_n 0, 1) := by decide +kernel
theorem d_X_deliver_17 : decode b_X_deliver 17 = .ok (.getfield 28, 3) := by decide +kernel
theorem d_X_deliver_20 : decode b_X_deliver 20 = .ok (.iconst 3, 1) := by decide +kernel
theorem d_X_deliver_21 : decode b_X_deliver 21 = .ok (.iload_n 2, 1) := by decide +kernel
theorem d_X_deliver_22 : decode b_X_deliver 22 = .ok (.imul, 1) := by decide +kernel
theorem d_X_deliver_23 : decode b_X_deliver 23 = .ok (.iload_n 1, 1) := by decide +kernel
theorem d_X_deliver_24 : decode b_X_deliver 24 = .ok (.iadd, 1) := by decide +kernel
theorem d_X_deliver_25 : decode b_X_deliver 25 = .ok (.iaload, 1) := by decide +kernel
theorem d_X_deliver_26 : decode b_X_deliver 26 = .ok (.iconst 1, 1) := by decide +kernel
theorem d_X_deliver_27 : decode b_X_deliver 27 = .ok (.iadd, 1) := by decide +kernel
theorem d_X_deliver_28 : decode b_X_deliver 28 = .ok (.istore_n 3, 1) := by decide +kernel
theorem d_X_deliver_29 : decode b_X_deliver 29 = .ok (.iload_n 3, 1) := by decide +kernel
theorem d_X_deliver_30 : decode b_X_deliver 30 = .ok (.aload_n 0, 1) := by decide +kernel
theorem d_X_deliver_31 : decode b_X_deliver 31 = .ok (.getfield 19, 3) := by decide +kernel
theorem d_X_deliver_34 : decode b_X_deliver 34 = .ok (.iload_n 1, 1) := by decide +kernel
theorem d_X_deliver_35 : decode b_X_deliver 35 = .ok (.iaload, 1) := by decide +kernel
theorem d_X_deliver_36 : decode b_X_deliver 36 = .ok (.if_icmp .le 5, 3) := by decide +kernel
theorem d_X_deliver_39 : decode b_X_deliver 39 = .ok (.iconst (-1), 1) := by decide +kernel
theorem d_X_deliver_40 : decode b_X_deliver 40 = .ok (.ireturn, 1) := by decide +kernel
theorem d_X_deliver_41 : decode b_X_deliver 41 = .ok (.aload_n 0, 1) := by decide +kernel
theorem d_X_deliver_42 : decode b_X_deliver 42 = .ok (.getfield 22, 3) := by decide +kernel
theorem d_X_deliver_45 : decode b_X_deliver 45 = .ok (.bipush 49, 2) := by decide +kernel
theorem d_X_deliver_47 : decode b_X_deliver 47 = .ok (.iload_n 1, 1) := by decide +kernel
theorem d_X_deliver_48 : decode b_X_deliver 48 = .ok (.imul, 1) := by decide +kernel
theorem d_X_deliver_49 : decode b_X_deliver 49 = .ok (.iload_n 3, 1) := by decide +kernel
theorem d_X_deliver_50 : decode b_X_deliver 50 = .ok (.iadd, 1) := by decide +kernel
theorem d_X_deliver_51 : decode b_X_deliver 51 = .ok (.iaload, 1) := by decide +kernel
theorem d_X_deliver_52 : decode b_X_deliver 52 = .ok (.istore 4, 2) := by decide +kernel
theorem d_X_deliver_54 : decode b_X_deliver 54 = .ok (.iconst 0, 1) := by decide +kernel
theorem d_X_deliver_55 : decode b_X_deliver 55 = .ok (.istore 5, 2) := by decide +kernel
theorem d_X_deliver_57 : decode b_X_deliver 57 = .ok (.iload 5, 2) := by decide +kernel
theorem d_X_deliver_59 : decode b_X_deliver 59 = .ok (.iconst 3, 1) := by decide +kernel
theorem d_X_deliver_60 : decode b_X_deliver 60 = .ok (.if_icmp .ge 38, 3) := by decide +kernel
theorem d_X_deliver_63 : decode b_X_deliver 63 = .ok (.aload_n 0, 1) := by decide +kernel
theorem d_X_deliver_64 : decode b_X_deliver 64 = .ok (.getfield 16, 3) := by decide +kernel
theorem d_X_deliver_67 : decode b_X_deliver 67 = .ok (.iconst 3, 1) := by decide +kernel
theorem d_X_deliver_68 : decode b_X_deliver 68 = .ok (.iload 4, 2) := by decide +kernel
theorem d_X_deliver_70 : decode b_X_deliver 70 = .ok (.imul, 1) := by decide +kernel
theorem d_X_deliver_71 : decode b_X_deliver 71 = .ok (.iload 5, 2) := by decide +kernel
theorem d_X_deliver_73 : decode b_X_deliver 73 = .ok (.iadd, 1) := by decide +kernel
theorem d_X_deliver_74 : decode b_X_deliver 74 = .ok (.iaload, 1) := by decide +kernel
theorem d_X_deliver_75 : decode b_X_deliver 75 = .ok (.aload_n 0, 1) := by decide +kernel
theorem d_X_deliver_76 : decode b_X_deliver 76 = .ok (.getfield 28, 3) := by decide +kernel
theorem d_X_deliver_79 : decode b_X_deliver 79 = .ok (.iconst 3, 1) := by decide +kernel
theorem d_X_deliver_80 : decode b_X_deliver 80 = .ok (.iload_n 2, 1) := by decide +kernel
theorem d_X_deliver_81 : decode b_X_deliver 81 = .ok (.imul, 1) := by decide +kernel
theorem d_X_deliver_82 : decode b_X_deliver 82 = .ok (.iload 5, 2) := by decide +kernel
theorem d_X_deliver_84 : decode b_X_deliver 84 = .ok (.iadd, 1) := by decide +kernel
theorem d_X_deliver_85 : decode b_X_deliver 85 = .ok (.iaload, 1) := by decide +kernel
theorem d_X_deliver_86 : decode b_X_deliver 86 = .ok (.if_icmp .le 6, 3) := by decide +kernel
theorem d_X_deliver_89 : decode b_X_deliver 89 = .ok (.bipush (-2), 2) := by decide +kernel
theorem d_X_deliver_91 : decode b_X_deliver 91 = .ok (.ireturn, 1) := by decide +kernel
theorem d_X_deliver_92 : decode b_X_deliver 92 = .ok (.iinc 5 1, 3) := by decide +kernel
theorem d_X_deliver_95 : decode b_X_deliver 95 = .ok (.goto (-38), 3) := by decide +kernel
theorem d_X_deliver_98 : decode b_X_deliver 98 = .ok (.aload_n 0, 1) := by decide +kernel
theorem d_X_deliver_99 : decode b_X_deliver 99 = .ok (.iload_n 2, 1) := by decide +kernel
theorem d_X_deliver_100 : decode b_X_deliver 100 = .ok (.iload 4, 2) := by decide +kernel
theorem d_X_deliver_102 : decode b_X_deliver 102 = .ok (.iload_n 1, 1) := by decide +kernel
theorem d_X_deliver_103 : decode b_X_deliver 103 = .ok (.iload_n 3, 1) := by decide +kernel
theorem d_X_deliver_104 : decode b_X_deliver 104 = .ok (.invokevirtual 48, 3) := by decide +kernel
theorem d_X_deliver_107 : decode b_X_deliver 107 = .ok (.iconst 0, 1) := by decide +kernel
theorem d_X_deliver_108 : decode b_X_deliver 108 = .ok (.ireturn, 1) := by decide +kernel
theorem d_X_sync_0 : decode b_X_sync 0 = .ok (.iload_n 1, 1) := by decide +kernel
theorem d_X_sync_1 : decode b_X_sync 1 = .ok (.invokestatic 44, 3) := by decide +kernel
theorem d_X_sync_4 : decode b_X_sync 4 = .ok (.ifCond .eq 10, 3) := by decide +kernel
theorem d_X_sync_7 : decode b_X_sync 7 = .ok (.iload_n 2, 1) := by decide +kernel
theorem d_X_sync_8 : decode b_X_sync 8 = .ok (.invokestatic 44, 3) := by decide +kernel
theorem d_X_sync_11 : decode b_X_sync 11 = .ok (.ifCond .ne 5, 3) := by decide +kernel
theorem d_X_sync_14 : decode b_X_sync 14 = .ok (.iconst (-1), 1) := by decide +kernel
theorem d_X_sync_15 : decode b_X_sync 15 = .ok (.ireturn, 1) := by decide +kernel
theorem d_X_sync_16 : decode b_X_sync 16 = .ok (.iload_n 1, 1) := by decide +kernel
theorem d_X_sync_17 : decode b_X_sync 17 = .ok (.iload_n 2, 1) := by decide +kernel
theorem d_X_sync_18 : decode b_X_sync 18 = .ok (.if_icmp .eq 21, 3) := by decide +kernel
theorem d_X_sync_21 : decode b_X_sync 21 = .ok (.aload_n 0, 1) := by decide +kernel
theorem d_X_sync_22 : decode b_X_sync 22 = .ok (.iload_n 1, 1) := by decide +kernel
theorem d_X_sync_23 : decode b_X_sync 23 = .ok (.iload_n 2, 1) := by decide +kernel
theorem d_X_sync_24 : decode b_X_sync 24 = .ok (.invokevirtual 52, 3) := by decide +kernel
theorem d_X_sync_27 : decode b_X_sync 27 = .ok (.aload_n 0, 1) := by decide +kernel
theorem d_X_sync_28 : decode b_X_sync 28 = .ok (.iload_n 1, 1) := by decide +kernel
theorem d_X_sync_29 : decode b_X_sync 29 = .ok (.iload_n 2, 1) := by decide +kernel
theorem d_X_sync_30 : decode b_X_sync 30 = .ok (.invokevirtual 56, 3) := by decide +kernel
theorem d_X_sync_33 : decode b_X_sync 33 = .ok (.aload_n 0, 1) := by decide +kernel
theorem d_X_sync_34 : decode b_X_sync 34 = .ok (.iload_n 1, 1) := by decide +kernel
theorem d_X_sync_35 : decode b_X_sync 35 = .ok (.iload_n 2, 1) := by decide +kernel
theorem d_X_sync_36 : decode b_X_sync 36 = .ok (.invokevirtual 59, 3) := by decide +kernel
theorem d_X_sync_39 : decode b_X_sync 39 = .ok (.iconst 0, 1) := by decide +kernel
theorem d_X_sync_40 : decode b_X_sync 40 = .ok (.ireturn, 1) := by decide +kernel
theorem d_X_has_0 : decode b_X_has 0 = .ok (.iload_n 1, 1) := by decide +kernel
theorem d_X_has_1 : decode b_X_has 1 = .ok (.invokestatic 44, 3) := by decide +kernel
theorem d_X_has_4 : decode b_X_has 4 = .ok (.ifCond .ne 5, 3) := by decide +kernel
theorem d_X_has_7 : decode b_X_has 7 = .ok (.iconst (-1), 1) := by decide +kernel
theorem d_X_has_8 : decode b_X_has 8 = .ok (.ireturn, 1) := by decide +kernel
theorem d_X_has_9 : decode b_X_has 9 = .ok (.bipush 24, 2) := by decide +kernel
theorem d_X_has_11 : decode b_X_has 11 = .ok (.iload_n 1, 1) := by decide +kernel
theorem d_X_has_12 : decode b_X_has 12 = .ok (.imul, 1) := by decide +kernel
theorem d_X_has_13 : decode b_X_has 13 = .ok (.iconst 3, 1) := by decide +kernel
theorem d_X_has_14 : decode b_X_has 14 = .ok (.iload_n 2, 1) := by decide +kernel
theorem d_X_has_15 : decode b_X_has 15 = .ok (.bipush 7, 2) := by decide +kernel
theorem d_X_has_17 : decode b_X_has 17 = .ok (.iand, 1) := by decide +kernel
theorem d_X_has_18 : decode b_X_has 18 = .ok (.imul, 1) := by decide +kernel
theorem d_X_has_19 : decode b_X_has 19 = .ok (.iadd, 1) := by decide +kernel
theorem d_X_has_20 : decode b_X_has 20 = .ok (.istore_n 3, 1) := by decide +kernel
theorem d_X_has_21 : decode b_X_has 21 = .ok (.iconst 0, 1) := by decide +kernel
theorem d_X_has_22 : decode b_X_has 22 = .ok (.istore 4, 2) := by decide +kernel
theorem d_X_has_24 : decode b_X_has 24 = .ok (.iload 4, 2) := by decide +kernel
theorem d_X_has_26 : decode b_X_has 26 = .ok (.iconst 3, 1) := by decide +kernel
theorem d_X_has_27 : decode b_X_has 27 = .ok (.if_icmp .ge 23, 3) := by decide +kernel
theorem d_X_has_30 : decode b_X_has 30 = .ok (.aload_n 0, 1) := by decide +kernel
theorem d_X_has_31 : decode b_X_has 31 = .ok (.getfield 34, 3) := by decide +kernel
theorem d_X_has_34 : decode b_X_has 34 = .ok (.iload_n 3, 1) := by decide +kernel
theorem d_X_has_35 : decode b_X_has 35 = .ok (.iload 4, 2) := by decide +kernel
theorem d_X_has_37 : decode b_X_has 37 = .ok (.iadd, 1) := by decide +kernel
theorem d_X_has_38 : decode b_X_has 38 = .ok (.iaload, 1) := by decide +kernel
theorem d_X_has_39 : decode b_X_has 39 = .ok (.ifCond .le 5, 3) := by decide +kernel
theorem d_X_has_42 : decode b_X_has 42 = .ok (.iconst 1, 1) := by decide +kernel
theorem d_X_has_43 : decode b_X_has 43 = .ok (.ireturn, 1) := by decide +kernel
theorem d_X_has_44 : decode b_X_has 44 = .ok (.iinc 4 1, 3) := by decide +kernel
theorem d_X_has_47 : decode b_X_has 47 = .ok (.goto (-23), 3) := by decide +kernel
theorem d_X_has_50 : decode b_X_has 50 = .ok (.iconst 0, 1) := by decide +kernel
theorem d_X_has_51 : decode b_X_has 51 = .ok (.ireturn, 1) := by decide +kernel
theorem d_X_values_0 : decode b_X_values 0 = .ok (.iload_n 1, 1) := by decide +kernel
theorem d_X_values_1 : decode b_X_values 1 = .ok (.invokestatic 44, 3) := by decide +kernel
theorem d_X_values_4 : decode b_X_values 4 = .ok (.ifCond .ne 5, 3) := by decide +kernel
theorem d_X_values_7 : decode b_X_values 7 = .ok (.iconst (-1), 1) := by decide +kernel
theorem d_X_values_8 : decode b_X_values 8 = .ok (.ireturn, 1) := by decide +kernel
theorem d_X_values_9 : decode b_X_values 9 = .ok (.iconst 0, 1) := by decide +kernel
theorem d_X_values_10 : decode b_X_values 10 = .ok (.istore_n 2, 1) := by decide +kernel
theorem d_X_values_11 : decode b_X_values 11 = .ok (.iconst 0, 1) := by decide +kernel
theorem d_X_values_12 : decode b_X_values 12 = .ok (.istore_n 3, 1) := by decide +kernel
theorem d_X_values_13 : decode b_X_values 13 = .ok (.iload_n 3, 1) := by decide +kernel
theorem d_X_values_14 : decode b_X_values 14 = .ok (.iconst 3, 1) := by decide +kernel
theorem d_X_values_15 : decode b_X_values 15 = .ok (.if_icmp .ge 25, 3) := by decide +kernel
theorem d_X_values_18 : decode b_X_values 18 = .ok (.aload_n 0, 1) := by decide +kernel
theorem d_X_values_19 : decode b_X_values 19 = .ok (.getfield 37, 3) := by decide +kernel
theorem d_X_values_22 : decode b_X_values 22 = .ok (.iconst 3, 1) := by decide +kernel
theorem d_X_values_23 : decode b_X_values 23 = .ok (.iload_n 1, 1) := by decide +kernel
theorem d_X_values_24 : decode b_X_values 24 = .ok (.imul, 1) := by decide +kernel
theorem d_X_values_25 : decode b_X_values 25 = .ok (.iload_n 3, 1) := by decide +kernel
theorem d_X_values_26 : decode b_X_values 26 = .ok (.iadd, 1) := by decide +kernel
theorem d_X_values_27 : decode b_X_values 27 = .ok (.iaload, 1) := by decide +kernel
theorem d_X_values_28 : decode b_X_values 28 = .ok (.ifCond .le 6, 3) := by decide +kernel
theorem d_X_values_31 : decode b_X_values 31 = .ok (.iinc 2 1, 3) := by decide +kernel
theorem d_X_values_34 : decode b_X_values 34 = .ok (.iinc 3 1, 3) := by decide +kernel
theorem d_X_values_37 : decode b_X_values 37 = .ok (.goto (-24), 3) := by decide +kernel
theorem d_X_values_40 : decode b_X_values 40 = .ok (.iload_n 2, 1) := by decide +kernel
theorem d_X_values_41 : decode b_X_values 41 = .ok (.ireturn, 1) := by decide +kernel
theorem d_X_value_0 : decode b_X_value 0 = .ok (.iload_n 1, 1) := by decide +kernel
theorem d_X_value_1 : decode b_X_value 1 = .ok (.invokestatic 44, 3) := by decide +kernel
theorem d_X_value_4 : decode b_X_value 4 = .ok (.ifCond .ne 5, 3) := by decide +kernel
theorem d_X_value_7 : decode b_X_value 7 = .ok (.iconst 0, 1) := by decide +kernel
theorem d_X_value_8 : decode b_X_value 8 = .ok (.ireturn, 1) := by decide +kernel
theorem d_X_value_9 : decode b_X_value 9 = .ok (.iconst 0, 1) := by decide +kernel
theorem d_X_value_10 : decode b_X_value 10 = .ok (.istore_n 3, 1) := by decide +kernel
theorem d_X_value_11 : decode b_X_value 11 = .ok (.iload_n 3, 1) := by decide +kernel
theorem d_X_value_12 : decode b_X_value 12 = .ok (.iconst 3, 1) := by decide +kernel
theorem d_X_value_13 : decode b_X_value 13 = .ok (.if_icmp .ge 39, 3) := by decide +kernel
theorem d_X_value_16 : decode b_X_value 16 = .ok (.aload_n 0, 1) := by decide +kernel
theorem d_X_value_17 : decode b_X_value 17 = .ok (.getfield 37, 3) := by decide +kernel
theorem d_X_value_20 : decode b_X_value 20 = .ok (.iconst 3, 1) := by decide +kernel
theorem d_X_value_21 : decode b_X_value 21 = .ok (.iload_n 1, 1) := by decide +kernel
theorem d_X_value_22 : decode b_X_value 22 = .ok (.imul, 1) := by decide +kernel
theorem d_X_value_23 : decode b_X_value 23 = .ok (.iload_n 3, 1) := by decide +kernel
theorem d_X_value_24 : decode b_X_value 24 = .ok (.iadd, 1) := by decide +kernel
theorem d_X_value_25 : decode b_X_value 25 = .ok (.iaload, 1) := by decide +kernel
theorem d_X_value_26 : decode b_X_value 26 = .ok (.ifCond .le 20, 3) := by decide +kernel
theorem d_X_value_29 : decode b_X_value 29 = .ok (.aload_n 0, 1) := by decide +kernel
theorem d_X_value_30 : decode b_X_value 30 = .ok (.iload_n 1, 1) := by decide +kernel
theorem d_X_value_31 : decode b_X_value 31 = .ok (.iload_n 3, 1) := by decide +kernel
theorem d_X_value_32 : decode b_X_value 32 = .ok (.invokevirtual 62, 3) := by decide +kernel
theorem d_X_value_35 : decode b_X_value 35 = .ok (.iload_n 2, 1) := by decide +kernel
theorem d_X_value_36 : decode b_X_value 36 = .ok (.if_icmp .ne 10, 3) := by decide +kernel
theorem d_X_value_39 : decode b_X_value 39 = .ok (.aload_n 0, 1) := by decide +kernel
theorem d_X_value_40 : decode b_X_value 40 = .ok (.iload_n 1, 1) := by decide +kernel
theorem d_X_value_41 : decode b_X_value 41 = .ok (.iload_n 3, 1) := by decide +kernel
theorem d_X_value_42 : decode b_X_value 42 = .ok (.invokevirtual 66, 3) := by decide +kernel
theorem d_X_value_45 : decode b_X_value 45 = .ok (.ireturn, 1) := by decide +kernel
theorem d_X_value_46 : decode b_X_value 46 = .ok (.iinc 3 1, 3) := by decide +kernel
theorem d_X_value_49 : decode b_X_value 49 = .ok (.goto (-38), 3) := by decide +kernel
theorem d_X_value_52 : decode b_X_value 52 = .ok (.iconst 0, 1) := by decide +kernel
theorem d_X_value_53 : decode b_X_value 53 = .ok (.ireturn, 1) := by decide +kernel
theorem d_X_total_0 : decode b_X_total 0 = .ok (.iload_n 1, 1) := by decide +kernel
theorem d_X_total_1 : decode b_X_total 1 = .ok (.invokestatic 44, 3) := by decide +kernel
theorem d_X_total_4 : decode b_X_total 4 = .ok (.ifCond .ne 5, 3) := by decide +kernel
theorem d_X_total_7 : decode b_X_total 7 = .ok (.iconst 0, 1) := by decide +kernel
theorem d_X_total_8 : decode b_X_total 8 = .ok (.ireturn, 1) := by decide +kernel
theorem d_X_total_9 : decode b_X_total 9 = .ok (.iconst 0, 1) := by decide +kernel
theorem d_X_total_10 : decode b_X_total 10 = .ok (.istore_n 2, 1) := by decide +kernel
theorem d_X_total_11 : decode b_X_total 11 = .ok (.iconst 0, 1) := by decide +kernel
theorem d_X_total_12 : decode b_X_total 12 = .ok (.istore_n 3, 1) := by decide +kernel
theorem d_X_total_13 : decode b_X_total 13 = .ok (.iload_n 3, 1) := by decide +kernel
theorem d_X_total_14 : decode b_X_total 14 = .ok (.iconst 3, 1) := by decide +kernel
theorem d_X_total_15 : decode b_X_total 15 = .ok (.if_icmp .ge 57, 3) := by decide +kernel
theorem d_X_total_18 : decode b_X_total 18 = .ok (.aload_n 0, 1) := by decide +kernel
theorem d_X_total_19 : decode b_X_total 19 = .ok (.getfield 25, 3) := by decide +kernel
theorem d_X_total_22 : decode b_X_total 22 = .ok (.bipush 49, 2) := by decide +kernel
theorem d_X_total_24 : decode b_X_total 24 = .ok (.iload_n 3, 1) := by decide +kernel
theorem d_X_total_25 : decode b_X_total 25 = .ok (.imul, 1) := by decide +kernel
theorem d_X_total_26 : decode b_X_total 26 = .ok (.aload_n 0, 1) := by decide +kernel
theorem d_X_total_27 : decode b_X_total 27 = .ok (.getfield 28, 3) := by decide +kernel
theorem d_X_total_30 : decode b_X_total 30 = .ok (.iconst 3, 1) := by decide +kernel
theorem d_X_total_31 : decode b_X_total 31 = .ok (.iload_n 1, 1) := by decide +kernel
theorem d_X_total_32 : decode b_X_total 32 = .ok (.imul, 1) := by decide +kernel
theorem d_X_total_33 : decode b_X_total 33 = .ok (.iload_n 3, 1) := by decide +kernel
theorem d_X_total_34 : decode b_X_total 34 = .ok (.iadd, 1) := by decide +kernel
theorem d_X_total_35 : decode b_X_total 35 = .ok (.iaload, 1) := by decide +kernel
theorem d_X_total_36 : decode b_X_total 36 = .ok (.iadd, 1) := by decide +kernel
theorem d_X_total_37 : decode b_X_total 37 = .ok (.iaload, 1) := by decide +kernel
theorem d_X_total_38 : decode b_X_total 38 = .ok (.istore 4, 2) := by decide +kernel
theorem d_X_total_40 : decode b_X_total 40 = .ok (.iload_n 2, 1) := by decide +kernel
theorem d_X_total_41 : decode b_X_total 41 = .ok (.iload 4, 2) := by decide +kernel
theorem d_X_total_43 : decode b_X_total 43 = .ok (.aload_n 0, 1) := by decide +kernel
theorem d_X_total_44 : decode b_X_total 44 = .ok (.getfield 25, 3) := by decide +kernel
theorem d_X_total_47 : decode b_X_total 47 = .ok (.bipush 49, 2) := by decide +kernel
theorem d_X_total_49 : decode b_X_total 49 = .ok (.iload_n 3, 1) := by decide +kernel
theorem d_X_total_50 : decode b_X_total 50 = .ok (.imul, 1) := by decide +kernel
theorem d_X_total_51 : decode b_X_total 51 = .ok (.aload_n 0, 1) := by decide +kernel
theorem d_X_total_52 : decode b_X_total 52 = .ok (.getfield 31, 3) := by decide +kernel
theorem d_X_total_55 : decode b_X_total 55 = .ok (.iconst 3, 1) := by decide +kernel
theorem d_X_total_56 : decode b_X_total 56 = .ok (.iload_n 1, 1) := by decide +kernel
theorem d_X_total_57 : decode b_X_total 57 = .ok (.imul, 1) := by decide +kernel
theorem d_X_total_58 : decode b_X_total 58 = .ok (.iload_n 3, 1) := by decide +kernel
theorem d_X_total_59 : decode b_X_total 59 = .ok (.iadd, 1) := by decide +kernel
theorem d_X_total_60 : decode b_X_total 60 = .ok (.iaload, 1) := by decide +kernel
theorem d_X_total_61 : decode b_X_total 61 = .ok (.iadd, 1) := by decide +kernel
theorem d_X_total_62 : decode b_X_total 62 = .ok (.iaload, 1) := by decide +kernel
theorem d_X_total_63 : decode b_X_total 63 = .ok (.isub, 1) := by decide +kernel
theorem d_X_total_64 : decode b_X_total 64 = .ok (.iadd, 1) := by decide +kernel
theorem d_X_total_65 : decode b_X_total 65 = .ok (.istore_n 2, 1) := by decide +kernel
theorem d_X_total_66 : decode b_X_total 66 = .ok (.iinc 3 1, 3) := by decide +kernel
theorem d_X_total_69 : decode b_X_total 69 = .ok (.goto (-56), 3) := by decide +kernel
theorem d_X_total_72 : decode b_X_total 72 = .ok (.iload_n 2, 1) := by decide +kernel
theorem d_X_total_73 : decode b_X_total 73 = .ok (.ireturn, 1) := by decide +kernel
theorem d_X_known_0 : decode b_X_known 0 = .ok (.iload_n 1, 1) := by decide +kernel
theorem d_X_known_1 : decode b_X_known 1 = .ok (.invokestatic 44, 3) := by decide +kernel
theorem d_X_known_4 : decode b_X_known 4 = .ok (.ifCond .eq 23, 3) := by decide +kernel
theorem d_X_known_7 : decode b_X_known 7 = .ok (.iload_n 2, 1) := by decide +kernel
theorem d_X_known_8 : decode b_X_known 8 = .ok (.invokestatic 44, 3) := by decide +kernel
theorem d_X_known_11 : decode b_X_known 11 = .ok (.ifCond .eq 16, 3) := by decide +kernel
theorem d_X_known_14 : decode b_X_known 14 = .ok (.aload_n 0, 1) := by decide +kernel
theorem d_X_known_15 : decode b_X_known 15 = .ok (.getfield 28, 3) := by decide +kernel
theorem d_X_known_18 : decode b_X_known 18 = .ok (.iconst 3, 1) := by decide +kernel
theorem d_X_known_19 : decode b_X_known 19 = .ok (.iload_n 1, 1) := by decide +kernel
theorem d_X_known_20 : decode b_X_known 20 = .ok (.imul, 1) := by decide +kernel
theorem d_X_known_21 : decode b_X_known 21 = .ok (.iload_n 2, 1) := by decide +kernel
theorem d_X_known_22 : decode b_X_known 22 = .ok (.iadd, 1) := by decide +kernel
theorem d_X_known_23 : decode b_X_known 23 = .ok (.iaload, 1) := by decide +kernel
theorem d_X_known_24 : decode b_X_known 24 = .ok (.goto 4, 3) := by decide +kernel
theorem d_X_known_27 : decode b_X_known 27 = .ok (.iconst (-1), 1) := by decide +kernel
theorem d_X_known_28 : decode b_X_known 28 = .ok (.ireturn, 1) := by decide +kernel
theorem d_X_isReplica_0 : decode b_X_isReplica 0 = .ok (.iload_n 0, 1) := by decide +kernel
theorem d_X_isReplica_1 : decode b_X_isReplica 1 = .ok (.ifCond .lt 12, 3) := by decide +kernel
theorem d_X_isReplica_4 : decode b_X_isReplica 4 = .ok (.iload_n 0, 1) := by decide +kernel
theorem d_X_isReplica_5 : decode b_X_isReplica 5 = .ok (.iconst 2, 1) := by decide +kernel
theorem d_X_isReplica_6 : decode b_X_isReplica 6 = .ok (.if_icmp .gt 7, 3) := by decide +kernel
theorem d_X_isReplica_9 : decode b_X_isReplica 9 = .ok (.iconst 1, 1) := by decide +kernel
theorem d_X_isReplica_10 : decode b_X_isReplica 10 = .ok (.goto 4, 3) := by decide +kernel
theorem d_X_isReplica_13 : decode b_X_isReplica 13 = .ok (.iconst 0, 1) := by decide +kernel
theorem d_X_isReplica_14 : decode b_X_isReplica 14 = .ok (.ireturn, 1) := by decide +kernel
theorem d_X_make_0 : decode b_X_make 0 = .ok (.iload_n 1, 1) := by decide +kernel
theorem d_X_make_1 : decode b_X_make 1 = .ok (.invokestatic 44, 3) := by decide +kernel
theorem d_X_make_4 : decode b_X_make 4 = .ok (.ifCond .eq 12, 3) := by decide +kernel
theorem d_X_make_7 : decode b_X_make 7 = .ok (.aload_n 0, 1) := by decide +kernel
theorem d_X_make_8 : decode b_X_make 8 = .ok (.getfield 69, 3) := by decide +kernel
theorem d_X_make_11 : decode b_X_make 11 = .ok (.bipush 48, 2) := by decide +kernel
theorem d_X_make_13 : decode b_X_make 13 = .ok (.if_icmp .lt 5, 3) := by decide +kernel
theorem d_X_make_16 : decode b_X_make 16 = .ok (.iconst (-1), 1) := by decide +kernel
theorem d_X_make_17 : decode b_X_make 17 = .ok (.ireturn, 1) := by decide +kernel
theorem d_X_make_18 : decode b_X_make 18 = .ok (.aload_n 0, 1) := by decide +kernel
theorem d_X_make_19 : decode b_X_make 19 = .ok (.getfield 69, 3) := by decide +kernel
theorem d_X_make_22 : decode b_X_make 22 = .ok (.istore 4, 2) := by decide +kernel
theorem d_X_make_24 : decode b_X_make 24 = .ok (.aload_n 0, 1) := by decide +kernel
theorem d_X_make_25 : decode b_X_make 25 = .ok (.dup, 1) := by decide +kernel
theorem d_X_make_26 : decode b_X_make 26 = .ok (.getfield 69, 3) := by decide +kernel
theorem d_X_make_29 : decode b_X_make 29 = .ok (.iconst 1, 1) := by decide +kernel
theorem d_X_make_30 : decode b_X_make 30 = .ok (.iadd, 1) := by decide +kernel
theorem d_X_make_31 : decode b_X_make 31 = .ok (.putfield 69, 3) := by decide +kernel
theorem d_X_make_34 : decode b_X_make 34 = .ok (.aload_n 0, 1) := by decide +kernel
theorem d_X_make_35 : decode b_X_make 35 = .ok (.getfield 7, 3) := by decide +kernel
theorem d_X_make_38 : decode b_X_make 38 = .ok (.iload 4, 2) := by decide +kernel
theorem d_X_make_40 : decode b_X_make 40 = .ok (.iload_n 2, 1) := by decide +kernel
theorem d_X_make_41 : decode b_X_make 41 = .ok (.iastore, 1) := by decide +kernel
theorem d_X_make_42 : decode b_X_make 42 = .ok (.aload_n 0, 1) := by decide +kernel
theorem d_X_make_43 : decode b_X_make 43 = .ok (.getfield 13, 3) := by decide +kernel
theorem d_X_make_46 : decode b_X_make 46 = .ok (.iload 4, 2) := by decide +kernel
theorem d_X_make_48 : decode b_X_make 48 = .ok (.iload_n 3, 1) := by decide +kernel
theorem d_X_make_49 : decode b_X_make 49 = .ok (.iastore, 1) := by decide +kernel
theorem d_X_make_50 : decode b_X_make 50 = .ok (.iconst 0, 1) := by decide +kernel
theorem d_X_make_51 : decode b_X_make 51 = .ok (.istore 5, 2) := by decide +kernel
theorem d_X_make_53 : decode b_X_make 53 = .ok (.iload 5, 2) := by decide +kernel
theorem d_X_make_55 : decode b_X_make 55 = .ok (.iconst 3, 1) := by decide +kernel
theorem d_X_make_56 : decode b_X_make 56 = .ok (.if_icmp .ge 32, 3) := by decide +kernel
theorem d_X_make_59 : decode b_X_make 59 = .ok (.aload_n 0, 1) := by decide +kernel
theorem d_X_make_60 : decode b_X_make 60 = .ok (.getfield 16, 3) := by decide +kernel
theorem d_X_make_63 : decode b_X_make 63 = .ok (.iconst 3, 1) := by decide +kernel
theorem d_X_make_64 : decode b_X_make 64 = .ok (.iload 4, 2) := by decide +kernel
theorem d_X_make_66 : decode b_X_make 66 = .ok (.imul, 1) := by decide +kernel
theorem d_X_make_67 : decode b_X_make 67 = .ok (.iload 5, 2) := by decide +kernel
theorem d_X_make_69 : decode b_X_make 69 = .ok (.iadd, 1) := by decide +kernel
theorem d_X_make_70 : decode b_X_make 70 = .ok (.aload_n 0, 1) := by decide +kernel
theorem d_X_make_71 : decode b_X_make 71 = .ok (.getfield 28, 3) := by decide +kernel
theorem d_X_make_74 : decode b_X_make 74 = .ok (.iconst 3, 1) := by decide +kernel
theorem d_X_make_75 : decode b_X_make 75 = .ok (.iload_n 1, 1) := by decide +kernel
theorem d_X_make_76 : decode b_X_make 76 = .ok (.imul, 1) := by decide +kernel
theorem d_X_make_77 : decode b_X_make 77 = .ok (.iload 5, 2) := by decide +kernel
theorem d_X_make_79 : decode b_X_make 79 = .ok (.iadd, 1) := by decide +kernel
theorem d_X_make_80 : decode b_X_make 80 = .ok (.iaload, 1) := by decide +kernel
theorem d_X_make_81 : decode b_X_make 81 = .ok (.iastore, 1) := by decide +kernel
theorem d_X_make_82 : decode b_X_make 82 = .ok (.iinc 5 1, 3) := by decide +kernel
theorem d_X_make_85 : decode b_X_make 85 = .ok (.goto (-32), 3) := by decide +kernel
theorem d_X_make_88 : decode b_X_make 88 = .ok (.aload_n 0, 1) := by decide +kernel
theorem d_X_make_89 : decode b_X_make 89 = .ok (.getfield 19, 3) := by decide +kernel
theorem d_X_make_92 : decode b_X_make 92 = .ok (.iload_n 1, 1) := by decide +kernel
theorem d_X_make_93 : decode b_X_make 93 = .ok (.iaload, 1) := by decide +kernel
theorem d_X_make_94 : decode b_X_make 94 = .ok (.iconst 1, 1) := by decide +kernel
theorem d_X_make_95 : decode b_X_make 95 = .ok (.iadd, 1) := by decide +kernel
theorem d_X_make_96 : decode b_X_make 96 = .ok (.istore 5, 2) := by decide +kernel
theorem d_X_make_98 : decode b_X_make 98 = .ok (.aload_n 0, 1) := by decide +kernel
theorem d_X_make_99 : decode b_X_make 99 = .ok (.getfield 19, 3) := by decide +kernel
theorem d_X_make_102 : decode b_X_make 102 = .ok (.iload_n 1, 1) := by decide +kernel
theorem d_X_make_103 : decode b_X_make 103 = .ok (.iload 5, 2) := by decide +kernel
theorem d_X_make_105 : decode b_X_make 105 = .ok (.iastore, 1) := by decide +kernel
theorem d_X_make_106 : decode b_X_make 106 = .ok (.aload_n 0, 1) := by decide +kernel
theorem d_X_make_107 : decode b_X_make 107 = .ok (.getfield 22, 3) := by decide +kernel
theorem d_X_make_110 : decode b_X_make 110 = .ok (.bipush 49, 2) := by decide +kernel
theorem d_X_make_112 : decode b_X_make 112 = .ok (.iload_n 1, 1) := by decide +kernel
theorem d_X_make_113 : decode b_X_make 113 = .ok (.imul, 1) := by decide +kernel
theorem d_X_make_114 : decode b_X_make 114 = .ok (.iload 5, 2) := by decide +kernel
theorem d_X_make_116 : decode b_X_make 116 = .ok (.iadd, 1) := by decide +kernel
theorem d_X_make_117 : decode b_X_make 117 = .ok (.iload 4, 2) := by decide +kernel
theorem d_X_make_119 : decode b_X_make 119 = .ok (.iastore, 1) := by decide +kernel
theorem d_X_make_120 : decode b_X_make 120 = .ok (.aload_n 0, 1) := by decide +kernel
theorem d_X_make_121 : decode b_X_make 121 = .ok (.getfield 25, 3) := by decide +kernel
theorem d_X_make_124 : decode b_X_make 124 = .ok (.bipush 49, 2) := by decide +kernel
theorem d_X_make_126 : decode b_X_make 126 = .ok (.iload_n 1, 1) := by decide +kernel
theorem d_X_make_127 : decode b_X_make 127 = .ok (.imul, 1) := by decide +kernel
theorem d_X_make_128 : decode b_X_make 128 = .ok (.iload 5, 2) := by decide +kernel
theorem d_X_make_130 : decode b_X_make 130 = .ok (.iadd, 1) := by decide +kernel
theorem d_X_make_131 : decode b_X_make 131 = .ok (.aload_n 0, 1) := by decide +kernel
theorem d_X_make_132 : decode b_X_make 132 = .ok (.getfield 25, 3) := by decide +kernel
theorem d_X_make_135 : decode b_X_make 135 = .ok (.bipush 49, 2) := by decide +kernel
theorem d_X_make_137 : decode b_X_make 137 = .ok (.iload_n 1, 1) := by decide +kernel
theorem d_X_make_138 : decode b_X_make 138 = .ok (.imul, 1) := by decide +kernel
theorem d_X_make_139 : decode b_X_make 139 = .ok (.iload 5, 2) := by decide +kernel
theorem d_X_make_141 : decode b_X_make 141 = .ok (.iadd, 1) := by decide +kernel
theorem d_X_make_142 : decode b_X_make 142 = .ok (.iconst 1, 1) := by decide +kernel
theorem d_X_make_143 : decode b_X_make 143 = .ok (.isub, 1) := by decide +kernel
theorem d_X_make_144 : decode b_X_make 144 = .ok (.iaload, 1) := by decide +kernel
theorem d_X_make_145 : decode b_X_make 145 = .ok (.iload_n 2, 1) := by decide +kernel
theorem d_X_make_146 : decode b_X_make 146 = .ok (.iconst 3, 1) := by decide +kernel
theorem d_X_make_147 : decode b_X_make 147 = .ok (.if_icmp .ne 7, 3) := by decide +kernel
theorem d_X_make_150 : decode b_X_make 150 = .ok (.iload_n 3, 1) := by decide +kernel
theorem d_X_make_151 : decode b_X_make 151 = .ok (.goto 4, 3) := by decide +kernel
theorem d_X_make_154 : decode b_X_make 154 = .ok (.iconst 0, 1) := by decide +kernel
theorem d_X_make_155 : decode b_X_make 155 = .ok (.iadd, 1) := by decide +kernel
theorem d_X_make_156 : decode b_X_make 156 = .ok (.iastore, 1) := by decide +kernel
theorem d_X_make_157 : decode b_X_make 157 = .ok (.aload_n 0, 1) := by decide +kernel
theorem d_X_make_158 : decode b_X_make 158 = .ok (.iload_n 1, 1) := by decide +kernel
theorem d_X_make_159 : decode b_X_make 159 = .ok (.iload 4, 2) := by decide +kernel
theorem d_X_make_161 : decode b_X_make 161 = .ok (.iload_n 1, 1) := by decide +kernel
theorem d_X_make_162 : decode b_X_make 162 = .ok (.iload 5, 2) := by decide +kernel
theorem d_X_make_164 : decode b_X_make 164 = .ok (.invokevirtual 48, 3) := by decide +kernel
theorem d_X_make_167 : decode b_X_make 167 = .ok (.aload_n 0, 1) := by decide +kernel
theorem d_X_make_168 : decode b_X_make 168 = .ok (.getfield 69, 3) := by decide +kernel
theorem d_X_make_171 : decode b_X_make 171 = .ok (.ireturn, 1) := by decide +kernel
theorem d_X_apply_0 : decode b_X_apply 0 = .ok (.aload_n 0, 1) := by decide +kernel
theorem d_X_apply_1 : decode b_X_apply 1 = .ok (.getfield 7, 3) := by decide +kernel
theorem d_X_apply_4 : decode b_X_apply 4 = .ok (.iload_n 2, 1) := by decide +kernel
theorem d_X_apply_5 : decode b_X_apply 5 = .ok (.iaload, 1) := by decide +kernel
theorem d_X_apply_6 : decode b_X_apply 6 = .ok (.istore 5, 2) := by decide +kernel
theorem d_X_apply_8 : decode b_X_apply 8 = .ok (.iload 5, 2) := by decide +kernel
theorem d_X_apply_10 : decode b_X_apply 10 = .ok (.ifCond .ne 28, 3) := by decide +kernel
theorem d_X_apply_13 : decode b_X_apply 13 = .ok (.aload_n 0, 1) := by decide +kernel
theorem d_X_apply_14 : decode b_X_apply 14 = .ok (.getfield 34, 3) := by decide +kernel
theorem d_X_apply_17 : decode b_X_apply 17 = .ok (.bipush 24, 2) := by decide +kernel
theorem d_X_apply_19 : decode b_X_apply 19 = .ok (.iload_n 1, 1) := by decide +kernel
theorem d_X_apply_20 : decode b_X_apply 20 = .ok (.imul, 1) := by decide +kernel
theorem d_X_apply_21 : decode b_X_apply 21 = .ok (.iconst 3, 1) := by decide +kernel
theorem d_X_apply_22 : decode b_X_apply 22 = .ok (.aload_n 0, 1) := by decide +kernel
theorem d_X_apply_23 : decode b_X_apply 23 = .ok (.getfield 13, 3) := by decide +kernel
theorem d_X_apply_26 : decode b_X_apply 26 = .ok (.iload_n 2, 1) := by decide +kernel
theorem d_X_apply_27 : decode b_X_apply 27 = .ok (.iaload, 1) := by decide +kernel
theorem d_X_apply_28 : decode b_X_apply 28 = .ok (.imul, 1) := by decide +kernel
theorem d_X_apply_29 : decode b_X_apply 29 = .ok (.iadd, 1) := by decide +kernel
theorem d_X_apply_30 : decode b_X_apply 30 = .ok (.iload_n 3, 1) := by decide +kernel
theorem d_X_apply_31 : decode b_X_apply 31 = .ok (.iadd, 1) := by decide +kernel
theorem d_X_apply_32 : decode b_X_apply 32 = .ok (.iload 4, 2) := by decide +kernel
theorem d_X_apply_34 : decode b_X_apply 34 = .ok (.iastore, 1) := by decide +kernel
theorem d_X_apply_35 : decode b_X_apply 35 = .ok (.goto 93, 3) := by decide +kernel
theorem d_X_apply_38 : decode b_X_apply 38 = .ok (.iload 5, 2) := by decide +kernel
theorem d_X_apply_40 : decode b_X_apply 40 = .ok (.iconst 1, 1) := by decide +kernel
theorem d_X_apply_41 : decode b_X_apply 41 = .ok (.if_icmp .ne 18, 3) := by decide +kernel
theorem d_X_apply_44 : decode b_X_apply 44 = .ok (.aload_n 0, 1) := by decide +kernel
theorem d_X_apply_45 : decode b_X_apply 45 = .ok (.iload_n 1, 1) := by decide +kernel
theorem d_X_apply_46 : decode b_X_apply 46 = .ok (.aload_n 0, 1) := by decide +kernel
theorem d_X_apply_47 : decode b_X_apply 47 = .ok (.getfield 13, 3) := by decide +kernel
theorem d_X_apply_50 : decode b_X_apply 50 = .ok (.iload_n 2, 1) := by decide +kernel
theorem d_X_apply_51 : decode b_X_apply 51 = .ok (.iaload, 1) := by decide +kernel
theorem d_X_apply_52 : decode b_X_apply 52 = .ok (.iload_n 2, 1) := by decide +kernel
theorem d_X_apply_53 : decode b_X_apply 53 = .ok (.invokevirtual 73, 3) := by decide +kernel
theorem d_X_apply_56 : decode b_X_apply 56 = .ok (.goto 72, 3) := by decide +kernel
theorem d_X_apply_59 : decode b_X_apply 59 = .ok (.iload 5, 2) := by decide +kernel
theorem d_X_apply_61 : decode b_X_apply 61 = .ok (.iconst 2, 1) := by decide +kernel
theorem d_X_apply_62 : decode b_X_apply 62 = .ok (.if_icmp .ne 24, 3) := by decide +kernel
theorem d_X_apply_65 : decode b_X_apply 65 = .ok (.aload_n 0, 1) := by decide +kernel
theorem d_X_apply_66 : decode b_X_apply 66 = .ok (.iload_n 1, 1) := by decide +kernel
theorem d_X_apply_67 : decode b_X_apply 67 = .ok (.iload_n 2, 1) := by decide +kernel
theorem d_X_apply_68 : decode b_X_apply 68 = .ok (.invokevirtual 77, 3) := by decide +kernel
theorem d_X_apply_71 : decode b_X_apply 71 = .ok (.aload_n 0, 1) := by decide +kernel
theorem d_X_apply_72 : decode b_X_apply 72 = .ok (.getfield 37, 3) := by decide +kernel
theorem d_X_apply_75 : decode b_X_apply 75 = .ok (.iconst 3, 1) := by decide +kernel
theorem d_X_apply_76 : decode b_X_apply 76 = .ok (.iload_n 1, 1) := by decide +kernel
theorem d_X_apply_77 : decode b_X_apply 77 = .ok (.imul, 1) := by decide +kernel
theorem d_X_apply_78 : decode b_X_apply 78 = .ok (.iload_n 3, 1) := by decide +kernel
theorem d_X_apply_79 : decode b_X_apply 79 = .ok (.iadd, 1) := by decide +kernel
theorem d_X_apply_80 : decode b_X_apply 80 = .ok (.iload 4, 2) := by decide +kernel
theorem d_X_apply_82 : decode b_X_apply 82 = .ok (.iastore, 1) := by decide +kernel
theorem d_X_apply_83 : decode b_X_apply 83 = .ok (.goto 45, 3) := by decide +kernel
theorem d_X_apply_86 : decode b_X_apply 86 = .ok (.iload 5, 2) := by decide +kernel
theorem d_X_apply_88 : decode b_X_apply 88 = .ok (.iconst 4, 1) := by decide +kernel
theorem d_X_apply_89 : decode b_X_apply 89 = .ok (.if_icmp .ne 39, 3) := by decide +kernel
theorem d_X_apply_92 : decode b_X_apply 92 = .ok (.iconst 0, 1) := by decide +kernel
theorem d_X_apply_93 : decode b_X_apply 93 = .ok (.istore 6, 2) := by decide +kernel
theorem d_X_apply_95 : decode b_X_apply 95 = .ok (.iload 6, 2) := by decide +kernel
theorem d_X_apply_97 : decode b_X_apply 97 = .ok (.bipush 8, 2) := by decide +kernel
theorem d_X_apply_99 : decode b_X_apply 99 = .ok (.if_icmp .ge 17, 3) := by decide +kernel
theorem d_X_apply_102 : decode b_X_apply 102 = .ok (.aload_n 0, 1) := by decide +kernel
theorem d_X_apply_103 : decode b_X_apply 103 = .ok (.iload_n 1, 1) := by decide +kernel
theorem d_X_apply_104 : decode b_X_apply 104 = .ok (.iload 6, 2) := by decide +kernel
theorem d_X_apply_106 : decode b_X_apply 106 = .ok (.iload_n 2, 1) := by decide +kernel
theorem d_X_apply_107 : decode b_X_apply 107 = .ok (.invokevirtual 73, 3) := by decide +kernel
theorem d_X_apply_110 : decode b_X_apply 110 = .ok (.iinc 6 1, 3) := by decide +kernel
theorem d_X_apply_113 : decode b_X_apply 113 = .ok (.goto (-18), 3) := by decide +kernel
theorem d_X_apply_116 : decode b_X_apply 116 = .ok (.aload_n 0, 1) := by decide +kernel
theorem d_X_apply_117 : decode b_X_apply 117 = .ok (.iload_n 1, 1) := by decide +kernel
theorem d_X_apply_118 : decode b_X_apply 118 = .ok (.iload_n 2, 1) := by decide +kernel
theorem d_X_apply_119 : decode b_X_apply 119 = .ok (.invokevirtual 77, 3) := by decide +kernel
theorem d_X_apply_122 : decode b_X_apply 122 = .ok (.aload_n 0, 1) := by decide +kernel
theorem d_X_apply_123 : decode b_X_apply 123 = .ok (.iload_n 1, 1) := by decide +kernel
theorem d_X_apply_124 : decode b_X_apply 124 = .ok (.iload_n 2, 1) := by decide +kernel
theorem d_X_apply_125 : decode b_X_apply 125 = .ok (.invokevirtual 80, 3) := by decide +kernel
theorem d_X_apply_128 : decode b_X_apply 128 = .ok (.aload_n 0, 1) := by decide +kernel
theorem d_X_apply_129 : decode b_X_apply 129 = .ok (.getfield 28, 3) := by decide +kernel
theorem d_X_apply_132 : decode b_X_apply 132 = .ok (.iconst 3, 1) := by decide +kernel
theorem d_X_apply_133 : decode b_X_apply 133 = .ok (.iload_n 1, 1) := by decide +kernel
theorem d_X_apply_134 : decode b_X_apply 134 = .ok (.imul, 1) := by decide +kernel
theorem d_X_apply_135 : decode b_X_apply 135 = .ok (.iload_n 3, 1) := by decide +kernel
theorem d_X_apply_136 : decode b_X_apply 136 = .ok (.iadd, 1) := by decide +kernel
theorem d_X_apply_137 : decode b_X_apply 137 = .ok (.iload 4, 2) := by decide +kernel
theorem d_X_apply_139 : decode b_X_apply 139 = .ok (.iastore, 1) := by decide +kernel
theorem d_X_apply_140 : decode b_X_apply 140 = .ok (.return_, 1) := by decide +kernel
theorem d_X_dropAdds_0 : decode b_X_dropAdds 0 = .ok (.iconst 0, 1) := by decide +kernel
theorem d_X_dropAdds_1 : decode b_X_dropAdds 1 = .ok (.istore 4, 2) := by decide +kernel
theorem d_X_dropAdds_3 : decode b_X_dropAdds 3 = .ok (.iload 4, 2) := by decide +kernel
theorem d_X_dropAdds_5 : decode b_X_dropAdds 5 = .ok (.iconst 3, 1) := by decide +kernel
theorem d_X_dropAdds_6 : decode b_X_dropAdds 6 = .ok (.if_icmp .ge 51, 3) := by decide +kernel
theorem d_X_dropAdds_9 : decode b_X_dropAdds 9 = .ok (.bipush 24, 2) := by decide +kernel
theorem d_X_dropAdds_11 : decode b_X_dropAdds 11 = .ok (.iload_n 1, 1) := by decide +kernel
theorem d_X_dropAdds_12 : decode b_X_dropAdds 12 = .ok (.imul, 1) := by decide +kernel
theorem d_X_dropAdds_13 : decode b_X_dropAdds 13 = .ok (.iconst 3, 1) := by decide +kernel
theorem d_X_dropAdds_14 : decode b_X_dropAdds 14 = .ok (.iload_n 2, 1) := by decide +kernel
theorem d_X_dropAdds_15 : decode b_X_dropAdds 15 = .ok (.imul, 1) := by decide +kernel
theorem d_X_dropAdds_16 : decode b_X_dropAdds 16 = .ok (.iadd, 1) := by decide +kernel
theorem d_X_dropAdds_17 : decode b_X_dropAdds 17 = .ok (.iload 4, 2) := by decide +kernel
theorem d_X_dropAdds_19 : decode b_X_dropAdds 19 = .ok (.iadd, 1) := by decide +kernel
theorem d_X_dropAdds_20 : decode b_X_dropAdds 20 = .ok (.istore 5, 2) := by decide +kernel
theorem d_X_dropAdds_22 : decode b_X_dropAdds 22 = .ok (.aload_n 0, 1) := by decide +kernel
theorem d_X_dropAdds_23 : decode b_X_dropAdds 23 = .ok (.getfield 34, 3) := by decide +kernel
theorem d_X_dropAdds_26 : decode b_X_dropAdds 26 = .ok (.iload 5, 2) := by decide +kernel
theorem d_X_dropAdds_28 : decode b_X_dropAdds 28 = .ok (.iaload, 1) := by decide +kernel
theorem d_X_dropAdds_29 : decode b_X_dropAdds 29 = .ok (.aload_n 0, 1) := by decide +kernel
theorem d_X_dropAdds_30 : decode b_X_dropAdds 30 = .ok (.getfield 16, 3) := by decide +kernel
theorem d_X_dropAdds_33 : decode b_X_dropAdds 33 = .ok (.iconst 3, 1) := by decide +kernel
theorem d_X_dropAdds_34 : decode b_X_dropAdds 34 = .ok (.iload_n 3, 1) := by decide +kernel
theorem d_X_dropAdds_35 : decode b_X_dropAdds 35 = .ok (.imul, 1) := by decide +kernel
theorem d_X_dropAdds_36 : decode b_X_dropAdds 36 = .ok (.iload 4, 2) := by decide +kernel
theorem d_X_dropAdds_38 : decode b_X_dropAdds 38 = .ok (.iadd, 1) := by decide +kernel
theorem d_X_dropAdds_39 : decode b_X_dropAdds 39 = .ok (.iaload, 1) := by decide +kernel
theorem d_X_dropAdds_40 : decode b_X_dropAdds 40 = .ok (.if_icmp .gt 11, 3) := by decide +kernel
theorem d_X_dropAdds_43 : decode b_X_dropAdds 43 = .ok (.aload_n 0, 1) := by decide +kernel
theorem d_X_dropAdds_44 : decode b_X_dropAdds 44 = .ok (.getfield 34, 3) := by decide +kernel
theorem d_X_dropAdds_47 : decode b_X_dropAdds 47 = .ok (.iload 5, 2) := by decide +kernel
theorem d_X_dropAdds_49 : decode b_X_dropAdds 49 = .ok (.iconst 0, 1) := by decide +kernel
theorem d_X_dropAdds_50 : decode b_X_dropAdds 50 = .ok (.iastore, 1) := by decide +kernel
theorem d_X_dropAdds_51 : decode b_X_dropAdds 51 = .ok (.iinc 4 1, 3) := by decide +kernel
theorem d_X_dropAdds_54 : decode b_X_dropAdds 54 = .ok (.goto (-51), 3) := by decide +kernel
theorem d_X_dropAdds_57 : decode b_X_dropAdds 57 = .ok (.return_, 1) := by decide +kernel
theorem d_X_dropAssigns_0 : decode b_X_dropAssigns 0 = .ok (.iconst 0, 1) := by decide +kernel
theorem d_X_dropAssigns_1 : decode b_X_dropAssigns 1 = .ok (.istore_n 3, 1) := by decide +kernel
theorem d_X_dropAssigns_2 : decode b_X_dropAssigns 2 = .ok (.iload_n 3, 1) := by decide +kernel
theorem d_X_dropAssigns_3 : decode b_X_dropAssigns 3 = .ok (.iconst 3, 1) := by decide +kernel
theorem d_X_dropAssigns_4 : decode b_X_dropAssigns 4 = .ok (.if_icmp .ge 44, 3) := by decide +kernel
theorem d_X_dropAssigns_7 : decode b_X_dropAssigns 7 = .ok (.iconst 3, 1) := by decide +kernel
theorem d_X_dropAssigns_8 : decode b_X_dropAssigns 8 = .ok (.iload_n 1, 1) := by decide +kernel
theorem d_X_dropAssigns_9 : decode b_X_dropAssigns 9 = .ok (.imul, 1) := by decide +kernel
theorem d_X_dropAssigns_10 : decode b_X_dropAssigns 10 = .ok (.iload_n 3, 1) := by decide +kernel
theorem d_X_dropAssigns_11 : decode b_X_dropAssigns 11 = .ok (.iadd, 1) := by decide +kernel
theorem d_X_dropAssigns_12 : decode b_X_dropAssigns 12 = .ok (.istore 4, 2) := by decide +kernel
theorem d_X_dropAssigns_14 : decode b_X_dropAssigns 14 = .ok (.aload_n 0, 1) := by decide +kernel
theorem d_X_dropAssigns_15 : decode b_X_dropAssigns 15 = .ok (.getfield 37, 3) := by decide +kernel
theorem d_X_dropAssigns_18 : decode b_X_dropAssigns 18 = .ok (.iload 4, 2) := by decide +kernel
theorem d_X_dropAssigns_20 : decode b_X_dropAssigns 20 = .ok (.iaload, 1) := by decide +kernel
theorem d_X_dropAssigns_21 : decode b_X_dropAssigns 21 = .ok (.aload_n 0, 1) := by decide +kernel
theorem d_X_dropAssigns_22 : decode b_X_dropAssigns 22 = .ok (.getfield 16, 3) := by decide +kernel
theorem d_X_dropAssigns_25 : decode b_X_dropAssigns 25 = .ok (.iconst 3, 1) := by decide +kernel
theorem d_X_dropAssigns_26 : decode b_X_dropAssigns 26 = .ok (.iload_n 2, 1) := by decide +kernel
theorem d_X_dropAssigns_27 : decode b_X_dropAssigns 27 = .ok (.imul, 1) := by decide +kernel
theorem d_X_dropAssigns_28 : decode b_X_dropAssigns 28 = .ok (.iload_n 3, 1) := by decide +kernel
theorem d_X_dropAssigns_29 : decode b_X_dropAssigns 29 = .ok (.iadd, 1) := by decide +kernel
theorem d_X_dropAssigns_30 : decode b_X_dropAssigns 30 = .ok (.iaload, 1) := by decide +kernel
theorem d_X_dropAssigns_31 : decode b_X_dropAssigns 31 = .ok (.if_icmp .gt 11, 3) := by decide +kernel
theorem d_X_dropAssigns_34 : decode b_X_dropAssigns 34 = .ok (.aload_n 0, 1) := by decide +kernel
theorem d_X_dropAssigns_35 : decode b_X_dropAssigns 35 = .ok (.getfield 37, 3) := by decide +kernel
theorem d_X_dropAssigns_38 : decode b_X_dropAssigns 38 = .ok (.iload 4, 2) := by decide +kernel
theorem d_X_dropAssigns_40 : decode b_X_dropAssigns 40 = .ok (.iconst 0, 1) := by decide +kernel
theorem d_X_dropAssigns_41 : decode b_X_dropAssigns 41 = .ok (.iastore, 1) := by decide +kernel
theorem d_X_dropAssigns_42 : decode b_X_dropAssigns 42 = .ok (.iinc 3 1, 3) := by decide +kernel
theorem d_X_dropAssigns_45 : decode b_X_dropAssigns 45 = .ok (.goto (-43), 3) := by decide +kernel
theorem d_X_dropAssigns_48 : decode b_X_dropAssigns 48 = .ok (.return_, 1) := by decide +kernel
theorem d_X_cover_0 : decode b_X_cover 0 = .ok (.iconst 0, 1) := by decide +kernel
theorem d_X_cover_1 : decode b_X_cover 1 = .ok (.istore_n 3, 1) := by decide +kernel
theorem d_X_cover_2 : decode b_X_cover 2 = .ok (.iload_n 3, 1) := by decide +kernel
theorem d_X_cover_3 : decode b_X_cover 3 = .ok (.iconst 3, 1) := by decide +kernel
theorem d_X_cover_4 : decode b_X_cover 4 = .ok (.if_icmp .ge 53, 3) := by decide +kernel
theorem d_X_cover_7 : decode b_X_cover 7 = .ok (.iconst 3, 1) := by decide +kernel
theorem d_X_cover_8 : decode b_X_cover 8 = .ok (.iload_n 1, 1) := by decide +kernel
theorem d_X_cover_9 : decode b_X_cover 9 = .ok (.imul, 1) := by decide +kernel
theorem d_X_cover_10 : decode b_X_cover 10 = .ok (.iload_n 3, 1) := by decide +kernel
theorem d_X_cover_11 : decode b_X_cover 11 = .ok (.iadd, 1) := by decide +kernel
theorem d_X_cover_12 : decode b_X_cover 12 = .ok (.istore 4, 2) := by decide +kernel
theorem d_X_cover_14 : decode b_X_cover 14 = .ok (.aload_n 0, 1) := by decide +kernel
theorem d_X_cover_15 : decode b_X_cover 15 = .ok (.getfield 31, 3) := by decide +kernel
theorem d_X_cover_18 : decode b_X_cover 18 = .ok (.iload 4, 2) := by decide +kernel
theorem d_X_cover_20 : decode b_X_cover 20 = .ok (.iaload, 1) := by decide +kernel
theorem d_X_cover_21 : decode b_X_cover 21 = .ok (.aload_n 0, 1) := by decide +kernel
theorem d_X_cover_22 : decode b_X_cover 22 = .ok (.getfield 16, 3) := by decide +kernel
theorem d_X_cover_25 : decode b_X_cover 25 = .ok (.iconst 3, 1) := by decide +kernel
theorem d_X_cover_26 : decode b_X_cover 26 = .ok (.iload_n 2, 1) := by decide +kernel
theorem d_X_cover_27 : decode b_X_cover 27 = .ok (.imul, 1) := by decide +kernel
theorem d_X_cover_28 : decode b_X_cover 28 = .ok (.iload_n 3, 1) := by decide +kernel
theorem d_X_cover_29 : decode b_X_cover 29 = .ok (.iadd, 1) := by decide +kernel
theorem d_X_cover_30 : decode b_X_cover 30 = .ok (.iaload, 1) := by decide +kernel
theorem d_X_cover_31 : decode b_X_cover 31 = .ok (.if_icmp .ge 20, 3) := by decide +kernel
theorem d_X_cover_34 : decode b_X_cover 34 = .ok (.aload_n 0, 1) := by decide +kernel
theorem d_X_cover_35 : decode b_X_cover 35 = .ok (.getfield 31, 3) := by decide +kernel
theorem d_X_cover_38 : decode b_X_cover 38 = .ok (.iload 4, 2) := by decide +kernel
theorem d_X_cover_40 : decode b_X_cover 40 = .ok (.aload_n 0, 1) := by decide +kernel
theorem d_X_cover_41 : decode b_X_cover 41 = .ok (.getfield 16, 3) := by decide +kernel
theorem d_X_cover_44 : decode b_X_cover 44 = .ok (.iconst 3, 1) := by decide +kernel
theorem d_X_cover_45 : decode b_X_cover 45 = .ok (.iload_n 2, 1) := by decide +kernel
theorem d_X_cover_46 : decode b_X_cover 46 = .ok (.imul, 1) := by decide +kernel
theorem d_X_cover_47 : decode b_X_cover 47 = .ok (.iload_n 3, 1) := by decide +kernel
theorem d_X_cover_48 : decode b_X_cover 48 = .ok (.iadd, 1) := by decide +kernel
theorem d_X_cover_49 : decode b_X_cover 49 = .ok (.iaload, 1) := by decide +kernel
theorem d_X_cover_50 : decode b_X_cover 50 = .ok (.iastore, 1) := by decide +kernel
theorem d_X_cover_51 : decode b_X_cover 51 = .ok (.iinc 3 1, 3) := by decide +kernel
theorem d_X_cover_54 : decode b_X_cover 54 = .ok (.goto (-52), 3) := by decide +kernel
theorem d_X_cover_57 : decode b_X_cover 57 = .ok (.return_, 1) := by decide +kernel
theorem d_X_survivor_0 : decode b_X_survivor 0 = .ok (.iload_n 0, 1) := by decide +kernel
theorem d_X_survivor_1 : decode b_X_survivor 1 = .ok (.iload_n 2, 1) := by decide +kernel
theorem d_X_survivor_2 : decode b_X_survivor 2 = .ok (.if_icmp .ne 5, 3) := by decide +kernel
theorem d_X_survivor_5 : decode b_X_survivor 5 = .ok (.iload_n 0, 1) := by decide +kernel
theorem d_X_survivor_6 : decode b_X_survivor 6 = .ok (.ireturn, 1) := by decide +kernel
theorem d_X_survivor_7 : decode b_X_survivor 7 = .ok (.iload_n 0, 1) := by decide +kernel
theorem d_X_survivor_8 : decode b_X_survivor 8 = .ok (.iload_n 3, 1) := by decide +kernel
theorem d_X_survivor_9 : decode b_X_survivor 9 = .ok (.if_icmp .le 7, 3) := by decide +kernel
theorem d_X_survivor_12 : decode b_X_survivor 12 = .ok (.iload_n 0, 1) := by decide +kernel
theorem d_X_survivor_13 : decode b_X_survivor 13 = .ok (.goto 4, 3) := by decide +kernel
theorem d_X_survivor_16 : decode b_X_survivor 16 = .ok (.iconst 0, 1) := by decide +kernel
theorem d_X_survivor_17 : decode b_X_survivor 17 = .ok (.istore 4, 2) := by decide +kernel
theorem d_X_survivor_19 : decode b_X_survivor 19 = .ok (.iload_n 2, 1) := by decide +kernel
theorem d_X_survivor_20 : decode b_X_survivor 20 = .ok (.iload_n 1, 1) := by decide +kernel
theorem d_X_survivor_21 : decode b_X_survivor 21 = .ok (.if_icmp .le 7, 3) := by decide +kernel
theorem d_X_survivor_24 : decode b_X_survivor 24 = .ok (.iload_n 2, 1) := by decide +kernel
theorem d_X_survivor_25 : decode b_X_survivor 25 = .ok (.goto 4, 3) := by decide +kernel
theorem d_X_survivor_28 : decode b_X_survivor 28 = .ok (.iconst 0, 1) := by decide +kernel
theorem d_X_survivor_29 : decode b_X_survivor 29 = .ok (.istore 5, 2) := by decide +kernel
theorem d_X_survivor_31 : decode b_X_survivor 31 = .ok (.iload 4, 2) := by decide +kernel
theorem d_X_survivor_33 : decode b_X_survivor 33 = .ok (.iload 5, 2) := by decide +kernel
theorem d_X_survivor_35 : decode b_X_survivor 35 = .ok (.if_icmp .le 8, 3) := by decide +kernel
theorem d_X_survivor_38 : decode b_X_survivor 38 = .ok (.iload 4, 2) := by decide +kernel
theorem d_X_survivor_40 : decode b_X_survivor 40 = .ok (.goto 5, 3) := by decide +kernel
theorem d_X_survivor_43 : decode b_X_survivor 43 = .ok (.iload 5, 2) := by decide +kernel
theorem d_X_survivor_45 : decode b_X_survivor 45 = .ok (.ireturn, 1) := by decide +kernel
theorem d_X_joinAdds_0 : decode b_X_joinAdds 0 = .ok (.iconst 0, 1) := by decide +kernel
theorem d_X_joinAdds_1 : decode b_X_joinAdds 1 = .ok (.istore_n 3, 1) := by decide +kernel
theorem d_X_joinAdds_2 : decode b_X_joinAdds 2 = .ok (.iload_n 3, 1) := by decide +kernel
theorem d_X_joinAdds_3 : decode b_X_joinAdds 3 = .ok (.bipush 8, 2) := by decide +kernel
theorem d_X_joinAdds_5 : decode b_X_joinAdds 5 = .ok (.if_icmp .ge 105, 3) := by decide +kernel
theorem d_X_joinAdds_8 : decode b_X_joinAdds 8 = .ok (.iconst 0, 1) := by decide +kernel
theorem d_X_joinAdds_9 : decode b_X_joinAdds 9 = .ok (.istore 4, 2) := by decide +kernel
theorem d_X_joinAdds_11 : decode b_X_joinAdds 11 = .ok (.iload 4, 2) := by decide +kernel
theorem d_X_joinAdds_13 : decode b_X_joinAdds 13 = .ok (.iconst 3, 1) := by decide +kernel
theorem d_X_joinAdds_14 : decode b_X_joinAdds 14 = .ok (.if_icmp .ge 90, 3) := by decide +kernel
theorem d_X_joinAdds_17 : decode b_X_joinAdds 17 = .ok (.aload_n 0, 1) := by decide +kernel
theorem d_X_joinAdds_18 : decode b_X_joinAdds 18 = .ok (.getfield 34, 3) := by decide +kernel
theorem d_X_joinAdds_21 : decode b_X_joinAdds 21 = .ok (.bipush 24, 2) := by decide +kernel
theorem d_X_joinAdds_23 : decode b_X_joinAdds 23 = .ok (.iload_n 2, 1) := by decide +kernel
theorem d_X_joinAdds_24 : decode b_X_joinAdds 24 = .ok (.imul, 1) := by decide +kernel
theorem d_X_joinAdds_25 : decode b_X_joinAdds 25 = .ok (.iconst 3, 1) := by decide +kernel
theorem d_X_joinAdds_26 : decode b_X_joinAdds 26 = .ok (.iload_n 3, 1) := by decide +kernel
theorem d_X_joinAdds_27 : decode b_X_joinAdds 27 = .ok (.imul, 1) := by decide +kernel
theorem d_X_joinAdds_28 : decode b_X_joinAdds 28 = .ok (.iadd, 1) := by decide +kernel
theorem d_X_joinAdds_29 : decode b_X_joinAdds 29 = .ok (.iload 4, 2) := by decide +kernel
theorem d_X_joinAdds_31 : decode b_X_joinAdds 31 = .ok (.iadd, 1) := by decide +kernel
theorem d_X_joinAdds_32 : decode b_X_joinAdds 32 = .ok (.iaload, 1) := by decide +kernel
theorem d_X_joinAdds_33 : decode b_X_joinAdds 33 = .ok (.istore 5, 2) := by decide +kernel
theorem d_X_joinAdds_35 : decode b_X_joinAdds 35 = .ok (.aload_n 0, 1) := by decide +kernel
theorem d_X_joinAdds_36 : decode b_X_joinAdds 36 = .ok (.getfield 34, 3) := by decide +kernel
theorem d_X_joinAdds_39 : decode b_X_joinAdds 39 = .ok (.bipush 24, 2) := by decide +kernel
theorem d_X_joinAdds_41 : decode b_X_joinAdds 41 = .ok (.iload_n 1, 1) := by decide +kernel
theorem d_X_joinAdds_42 : decode b_X_joinAdds 42 = .ok (.imul, 1) := by decide +kernel
theorem d_X_joinAdds_43 : decode b_X_joinAdds 43 = .ok (.iconst 3, 1) := by decide +kernel
theorem d_X_joinAdds_44 : decode b_X_joinAdds 44 = .ok (.iload_n 3, 1) := by decide +kernel
theorem d_X_joinAdds_45 : decode b_X_joinAdds 45 = .ok (.imul, 1) := by decide +kernel
theorem d_X_joinAdds_46 : decode b_X_joinAdds 46 = .ok (.iadd, 1) := by decide +kernel
theorem d_X_joinAdds_47 : decode b_X_joinAdds 47 = .ok (.iload 4, 2) := by decide +kernel
theorem d_X_joinAdds_49 : decode b_X_joinAdds 49 = .ok (.iadd, 1) := by decide +kernel
theorem d_X_joinAdds_50 : decode b_X_joinAdds 50 = .ok (.iaload, 1) := by decide +kernel
theorem d_X_joinAdds_51 : decode b_X_joinAdds 51 = .ok (.istore 6, 2) := by decide +kernel
theorem d_X_joinAdds_53 : decode b_X_joinAdds 53 = .ok (.aload_n 0, 1) := by decide +kernel
theorem d_X_joinAdds_54 : decode b_X_joinAdds 54 = .ok (.getfield 34, 3) := by decide +kernel
theorem d_X_joinAdds_57 : decode b_X_joinAdds 57 = .ok (.bipush 24, 2) := by decide +kernel
theorem d_X_joinAdds_59 : decode b_X_joinAdds 59 = .ok (.iload_n 2, 1) := by decide +kernel
theorem d_X_joinAdds_60 : decode b_X_joinAdds 60 = .ok (.imul, 1) := by decide +kernel
theorem d_X_joinAdds_61 : decode b_X_joinAdds 61 = .ok (.iconst 3, 1) := by decide +kernel
theorem d_X_joinAdds_62 : decode b_X_joinAdds 62 = .ok (.iload_n 3, 1) := by decide +kernel
theorem d_X_joinAdds_63 : decode b_X_joinAdds 63 = .ok (.imul, 1) := by decide +kernel
theorem d_X_joinAdds_64 : decode b_X_joinAdds 64 = .ok (.iadd, 1) := by decide +kernel
theorem d_X_joinAdds_65 : decode b_X_joinAdds 65 = .ok (.iload 4, 2) := by decide +kernel
theorem d_X_joinAdds_67 : decode b_X_joinAdds 67 = .ok (.iadd, 1) := by decide +kernel
theorem d_X_joinAdds_68 : decode b_X_joinAdds 68 = .ok (.iload 5, 2) := by decide +kernel
theorem d_X_joinAdds_70 : decode b_X_joinAdds 70 = .ok (.aload_n 0, 1) := by decide +kernel
theorem d_X_joinAdds_71 : decode b_X_joinAdds 71 = .ok (.getfield 28, 3) := by decide +kernel
theorem d_X_joinAdds_74 : decode b_X_joinAdds 74 = .ok (.iconst 3, 1) := by decide +kernel
theorem d_X_joinAdds_75 : decode b_X_joinAdds 75 = .ok (.iload_n 2, 1) := by decide +kernel
theorem d_X_joinAdds_76 : decode b_X_joinAdds 76 = .ok (.imul, 1) := by decide +kernel
theorem d_X_joinAdds_77 : decode b_X_joinAdds 77 = .ok (.iload 4, 2) := by decide +kernel
theorem d_X_joinAdds_79 : decode b_X_joinAdds 79 = .ok (.iadd, 1) := by decide +kernel
theorem d_X_joinAdds_80 : decode b_X_joinAdds 80 = .ok (.iaload, 1) := by decide +kernel
theorem d_X_joinAdds_81 : decode b_X_joinAdds 81 = .ok (.iload 6, 2) := by decide +kernel
theorem d_X_joinAdds_83 : decode b_X_joinAdds 83 = .ok (.aload_n 0, 1) := by decide +kernel
theorem d_X_joinAdds_84 : decode b_X_joinAdds 84 = .ok (.getfield 28, 3) := by decide +kernel
theorem d_X_joinAdds_87 : decode b_X_joinAdds 87 = .ok (.iconst 3, 1) := by decide +kernel
theorem d_X_joinAdds_88 : decode b_X_joinAdds 88 = .ok (.iload_n 1, 1) := by decide +kernel
theorem d_X_joinAdds_89 : decode b_X_joinAdds 89 = .ok (.imul, 1) := by decide +kernel
theorem d_X_joinAdds_90 : decode b_X_joinAdds 90 = .ok (.iload 4, 2) := by decide +kernel
theorem d_X_joinAdds_92 : decode b_X_joinAdds 92 = .ok (.iadd, 1) := by decide +kernel
theorem d_X_joinAdds_93 : decode b_X_joinAdds 93 = .ok (.iaload, 1) := by decide +kernel
theorem d_X_joinAdds_94 : decode b_X_joinAdds 94 = .ok (.invokestatic 83, 3) := by decide +kernel
theorem d_X_joinAdds_97 : decode b_X_joinAdds 97 = .ok (.iastore, 1) := by decide +kernel
theorem d_X_joinAdds_98 : decode b_X_joinAdds 98 = .ok (.iinc 4 1, 3) := by decide +kernel
theorem d_X_joinAdds_101 : decode b_X_joinAdds 101 = .ok (.goto (-90), 3) := by decide +kernel
theorem d_X_joinAdds_104 : decode b_X_joinAdds 104 = .ok (.iinc 3 1, 3) := by decide +kernel
theorem d_X_joinAdds_107 : decode b_X_joinAdds 107 = .ok (.goto (-105), 3) := by decide +kernel
theorem d_X_joinAdds_110 : decode b_X_joinAdds 110 = .ok (.return_, 1) := by decide +kernel
theorem d_X_joinAssigns_0 : decode b_X_joinAssigns 0 = .ok (.iconst 0, 1) := by decide +kernel
theorem d_X_joinAssigns_1 : decode b_X_joinAssigns 1 = .ok (.istore_n 3, 1) := by decide +kernel
theorem d_X_joinAssigns_2 : decode b_X_joinAssigns 2 = .ok (.iload_n 3, 1) := by decide +kernel
theorem d_X_joinAssigns_3 : decode b_X_joinAssigns 3 = .ok (.iconst 3, 1) := by decide +kernel
theorem d_X_joinAssigns_4 : decode b_X_joinAssigns 4 = .ok (.if_icmp .ge 70, 3) := by decide +kernel
theorem d_X_joinAssigns_7 : decode b_X_joinAssigns 7 = .ok (.aload_n 0, 1) := by decide +kernel
theorem d_X_joinAssigns_8 : decode b_X_joinAssigns 8 = .ok (.getfield 37, 3) := by decide +kernel
theorem d_X_joinAssigns_11 : decode b_X_joinAssigns 11 = .ok (.iconst 3, 1) := by decide +kernel
theorem d_X_joinAssigns_12 : decode b_X_joinAssigns 12 = .ok (.iload_n 2, 1) := by decide +kernel
theorem d_X_joinAssigns_13 : decode b_X_joinAssigns 13 = .ok (.imul, 1) := by decide +kernel
theorem d_X_joinAssigns_14 : decode b_X_joinAssigns 14 = .ok (.iload_n 3, 1) := by decide +kernel
theorem d_X_joinAssigns_15 : decode b_X_joinAssigns 15 = .ok (.iadd, 1) := by decide +kernel
theorem d_X_joinAssigns_16 : decode b_X_joinAssigns 16 = .ok (.iaload, 1) := by decide +kernel
theorem d_X_joinAssigns_17 : decode b_X_joinAssigns 17 = .ok (.istore 4, 2) := by decide +kernel
theorem d_X_joinAssigns_19 : decode b_X_joinAssigns 19 = .ok (.aload_n 0, 1) := by decide +kernel
theorem d_X_joinAssigns_20 : decode b_X_joinAssigns 20 = .ok (.getfield 37, 3) := by decide +kernel
theorem d_X_joinAssigns_23 : decode b_X_joinAssigns 23 = .ok (.iconst 3, 1) := by decide +kernel
theorem d_X_joinAssigns_24 : decode b_X_joinAssigns 24 = .ok (.iload_n 1, 1) := by decide +kernel
theorem d_X_joinAssigns_25 : decode b_X_joinAssigns 25 = .ok (.imul, 1) := by decide +kernel
theorem d_X_joinAssigns_26 : decode b_X_joinAssigns 26 = .ok (.iload_n 3, 1) := by decide +kernel
theorem d_X_joinAssigns_27 : decode b_X_joinAssigns 27 = .ok (.iadd, 1) := by decide +kernel
theorem d_X_joinAssigns_28 : decode b_X_joinAssigns 28 = .ok (.iaload, 1) := by decide +kernel
theorem d_X_joinAssigns_29 : decode b_X_joinAssigns 29 = .ok (.istore 5, 2) := by decide +kernel
theorem d_X_joinAssigns_31 : decode b_X_joinAssigns 31 = .ok (.aload_n 0, 1) := by decide +kernel
theorem d_X_joinAssigns_32 : decode b_X_joinAssigns 32 = .ok (.getfield 37, 3) := by decide +kernel
theorem d_X_joinAssigns_35 : decode b_X_joinAssigns 35 = .ok (.iconst 3, 1) := by decide +kernel
theorem d_X_joinAssigns_36 : decode b_X_joinAssigns 36 = .ok (.iload_n 2, 1) := by decide +kernel
theorem d_X_joinAssigns_37 : decode b_X_joinAssigns 37 = .ok (.imul, 1) := by decide +kernel
theorem d_X_joinAssigns_38 : decode b_X_joinAssigns 38 = .ok (.iload_n 3, 1) := by decide +kernel
theorem d_X_joinAssigns_39 : decode b_X_joinAssigns 39 = .ok (.iadd, 1) := by decide +kernel
theorem d_X_joinAssigns_40 : decode b_X_joinAssigns 40 = .ok (.iload 4, 2) := by decide +kernel
theorem d_X_joinAssigns_42 : decode b_X_joinAssigns 42 = .ok (.aload_n 0, 1) := by decide +kernel
theorem d_X_joinAssigns_43 : decode b_X_joinAssigns 43 = .ok (.getfield 28, 3) := by decide +kernel
theorem d_X_joinAssigns_46 : decode b_X_joinAssigns 46 = .ok (.iconst 3, 1) := by decide +kernel
theorem d_X_joinAssigns_47 : decode b_X_joinAssigns 47 = .ok (.iload_n 2, 1) := by decide +kernel
theorem d_X_joinAssigns_48 : decode b_X_joinAssigns 48 = .ok (.imul, 1) := by decide +kernel
theorem d_X_joinAssigns_49 : decode b_X_joinAssigns 49 = .ok (.iload_n 3, 1) := by decide +kernel
theorem d_X_joinAssigns_50 : decode b_X_joinAssigns 50 = .ok (.iadd, 1) := by decide +kernel
theorem d_X_joinAssigns_51 : decode b_X_joinAssigns 51 = .ok (.iaload, 1) := by decide +kernel
theorem d_X_joinAssigns_52 : decode b_X_joinAssigns 52 = .ok (.iload 5, 2) := by decide +kernel
theorem d_X_joinAssigns_54 : decode b_X_joinAssigns 54 = .ok (.aload_n 0, 1) := by decide +kernel
theorem d_X_joinAssigns_55 : decode b_X_joinAssigns 55 = .ok (.getfield 28, 3) := by decide +kernel
theorem d_X_joinAssigns_58 : decode b_X_joinAssigns 58 = .ok (.iconst 3, 1) := by decide +kernel
theorem d_X_joinAssigns_59 : decode b_X_joinAssigns 59 = .ok (.iload_n 1, 1) := by decide +kernel
theorem d_X_joinAssigns_60 : decode b_X_joinAssigns 60 = .ok (.imul, 1) := by decide +kernel
theorem d_X_joinAssigns_61 : decode b_X_joinAssigns 61 = .ok (.iload_n 3, 1) := by decide +kernel
theorem d_X_joinAssigns_62 : decode b_X_joinAssigns 62 = .ok (.iadd, 1) := by decide +kernel
theorem d_X_joinAssigns_63 : decode b_X_joinAssigns 63 = .ok (.iaload, 1) := by decide +kernel
theorem d_X_joinAssigns_64 : decode b_X_joinAssigns 64 = .ok (.invokestatic 83, 3) := by decide +kernel
theorem d_X_joinAssigns_67 : decode b_X_joinAssigns 67 = .ok (.iastore, 1) := by decide +kernel
theorem d_X_joinAssigns_68 : decode b_X_joinAssigns 68 = .ok (.iinc 3 1, 3) := by decide +kernel
theorem d_X_joinAssigns_71 : decode b_X_joinAssigns 71 = .ok (.goto (-69), 3) := by decide +kernel
theorem d_X_joinAssigns_74 : decode b_X_joinAssigns 74 = .ok (.return_, 1) := by decide +kernel
theorem d_X_joinVectors_0 : decode b_X_joinVectors 0 = .ok (.iconst 0, 1) := by decide +kernel
theorem d_X_joinVectors_1 : decode b_X_joinVectors 1 = .ok (.istore_n 3, 1) := by decide +kernel
theorem d_X_joinVectors_2 : decode b_X_joinVectors 2 = .ok (.iload_n 3, 1) := by decide +kernel
theorem d_X_joinVectors_3 : decode b_X_joinVectors 3 = .ok (.iconst 3, 1) := by decide +kernel
theorem d_X_joinVectors_4 : decode b_X_joinVectors 4 = .ok (.if_icmp .ge 105, 3) := by decide +kernel
theorem d_X_joinVectors_7 : decode b_X_joinVectors 7 = .ok (.iconst 3, 1) := by decide +kernel
theorem d_X_joinVectors_8 : decode b_X_joinVectors 8 = .ok (.iload_n 1, 1) := by decide +kernel
theorem d_X_joinVectors_9 : decode b_X_joinVectors 9 = .ok (.imul, 1) := by decide +kernel
theorem d_X_joinVectors_10 : decode b_X_joinVectors 10 = .ok (.iload_n 3, 1) := by decide +kernel
theorem d_X_joinVectors_11 : decode b_X_joinVectors 11 = .ok (.iadd, 1) := by decide +kernel
theorem d_X_joinVectors_12 : decode b_X_joinVectors 12 = .ok (.istore 4, 2) := by decide +kernel
theorem d_X_joinVectors_14 : decode b_X_joinVectors 14 = .ok (.iconst 3, 1) := by decide +kernel
theorem d_X_joinVectors_15 : decode b_X_joinVectors 15 = .ok (.iload_n 2, 1) := by decide +kernel
theorem d_X_joinVectors_16 : decode b_X_joinVectors 16 = .ok (.imul, 1) := by decide +kernel
theorem d_X_joinVectors_17 : decode b_X_joinVectors 17 = .ok (.iload_n 3, 1) := by decide +kernel
theorem d_X_joinVectors_18 : decode b_X_joinVectors 18 = .ok (.iadd, 1) := by decide +kernel
theorem d_X_joinVectors_19 : decode b_X_joinVectors 19 = .ok (.istore 5, 2) := by decide +kernel
theorem d_X_joinVectors_21 : decode b_X_joinVectors 21 = .ok (.aload_n 0, 1) := by decide +kernel
theorem d_X_joinVectors_22 : decode b_X_joinVectors 22 = .ok (.getfield 28, 3) := by decide +kernel
theorem d_X_joinVectors_25 : decode b_X_joinVectors 25 = .ok (.iload 5, 2) := by decide +kernel
theorem d_X_joinVectors_27 : decode b_X_joinVectors 27 = .ok (.aload_n 0, 1) := by decide +kernel
theorem d_X_joinVectors_28 : decode b_X_joinVectors 28 = .ok (.getfield 28, 3) := by decide +kernel
theorem d_X_joinVectors_31 : decode b_X_joinVectors 31 = .ok (.iload 4, 2) := by decide +kernel
theorem d_X_joinVectors_33 : decode b_X_joinVectors 33 = .ok (.iaload, 1) := by decide +kernel
theorem d_X_joinVectors_34 : decode b_X_joinVectors 34 = .ok (.aload_n 0, 1) := by decide +kernel
theorem d_X_joinVectors_35 : decode b_X_joinVectors 35 = .ok (.getfield 28, 3) := by decide +kernel
theorem d_X_joinVectors_38 : decode b_X_joinVectors 38 = .ok (.iload 5, 2) := by decide +kernel
theorem d_X_joinVectors_40 : decode b_X_joinVectors 40 = .ok (.iaload, 1) := by decide +kernel
theorem d_X_joinVectors_41 : decode b_X_joinVectors 41 = .ok (.if_icmp .le 13, 3) := by decide +kernel
theorem d_X_joinVectors_44 : decode b_X_joinVectors 44 = .ok (.aload_n 0, 1) := by decide +kernel
theorem d_X_joinVectors_45 : decode b_X_joinVectors 45 = .ok (.getfield 28, 3) := by decide +kernel
theorem d_X_joinVectors_48 : decode b_X_joinVectors 48 = .ok (.iload 4, 2) := by decide +kernel
theorem d_X_joinVectors_50 : decode b_X_joinVectors 50 = .ok (.iaload, 1) := by decide +kernel
theorem d_X_joinVectors_51 : decode b_X_joinVectors 51 = .ok (.goto 10, 3) := by decide +kernel
theorem d_X_joinVectors_54 : decode b_X_joinVectors 54 = .ok (.aload_n 0, 1) := by decide +kernel
theorem d_X_joinVectors_55 : decode b_X_joinVectors 55 = .ok (.getfield 28, 3) := by decide +kernel
theorem d_X_joinVectors_58 : decode b_X_joinVectors 58 = .ok (.iload 5, 2) := by decide +kernel
theorem d_X_joinVectors_60 : decode b_X_joinVectors 60 = .ok (.iaload, 1) := by decide +kernel
theorem d_X_joinVectors_61 : decode b_X_joinVectors 61 = .ok (.iastore, 1) := by decide +kernel
theorem d_X_joinVectors_62 : decode b_X_joinVectors 62 = .ok (.aload_n 0, 1) := by decide +kernel
theorem d_X_joinVectors_63 : decode b_X_joinVectors 63 = .ok (.getfield 31, 3) := by decide +kernel
theorem d_X_joinVectors_66 : decode b_X_joinVectors 66 = .ok (.iload 5, 2) := by decide +kernel
theorem d_X_joinVectors_68 : decode b_X_joinVectors 68 = .ok (.aload_n 0, 1) := by decide +kernel
theorem d_X_joinVectors_69 : decode b_X_joinVectors 69 = .ok (.getfield 31, 3) := by decide +kernel
theorem d_X_joinVectors_72 : decode b_X_joinVectors 72 = .ok (.iload 4, 2) := by decide +kernel
theorem d_X_joinVectors_74 : decode b_X_joinVectors 74 = .ok (.iaload, 1) := by decide +kernel
theorem d_X_joinVectors_75 : decode b_X_joinVectors 75 = .ok (.aload_n 0, 1) := by decide +kernel
theorem d_X_joinVectors_76 : decode b_X_joinVectors 76 = .ok (.getfield 31, 3) := by decide +kernel
theorem d_X_joinVectors_79 : decode b_X_joinVectors 79 = .ok (.iload 5, 2) := by decide +kernel
theorem d_X_joinVectors_81 : decode b_X_joinVectors 81 = .ok (.iaload, 1) := by decide +kernel
theorem d_X_joinVectors_82 : decode b_X_joinVectors 82 = .ok (.if_icmp .le 13, 3) := by decide +kernel
theorem d_X_joinVectors_85 : decode b_X_joinVectors 85 = .ok (.aload_n 0, 1) := by decide +kernel
theorem d_X_joinVectors_86 : decode b_X_joinVectors 86 = .ok (.getfield 31, 3) := by decide +kernel
theorem d_X_joinVectors_89 : decode b_X_joinVectors 89 = .ok (.iload 4, 2) := by decide +kernel
theorem d_X_joinVectors_91 : decode b_X_joinVectors 91 = .ok (.iaload, 1) := by decide +kernel
theorem d_X_joinVectors_92 : decode b_X_joinVectors 92 = .ok (.goto 10, 3) := by decide +kernel
theorem d_X_joinVectors_95 : decode b_X_joinVectors 95 = .ok (.aload_n 0, 1) := by decide +kernel
theorem d_X_joinVectors_96 : decode b_X_joinVectors 96 = .ok (.getfield 31, 3) := by decide +kernel
theorem d_X_joinVectors_99 : decode b_X_joinVectors 99 = .ok (.iload 5, 2) := by decide +kernel
theorem d_X_joinVectors_101 : decode b_X_joinVectors 101 = .ok (.iaload, 1) := by decide +kernel
theorem d_X_joinVectors_102 : decode b_X_joinVectors 102 = .ok (.iastore, 1) := by decide +kernel
theorem d_X_joinVectors_103 : decode b_X_joinVectors 103 = .ok (.iinc 3 1, 3) := by decide +kernel
theorem d_X_joinVectors_106 : decode b_X_joinVectors 106 = .ok (.goto (-104), 3) := by decide +kernel
theorem d_X_joinVectors_109 : decode b_X_joinVectors 109 = .ok (.return_, 1) := by decide +kernel
theorem d_X_valueFrom_0 : decode b_X_valueFrom 0 = .ok (.aload_n 0, 1) := by decide +kernel
theorem d_X_valueFrom_1 : decode b_X_valueFrom 1 = .ok (.getfield 22, 3) := by decide +kernel
theorem d_X_valueFrom_4 : decode b_X_valueFrom 4 = .ok (.bipush 49, 2) := by decide +kernel
theorem d_X_valueFrom_6 : decode b_X_valueFrom 6 = .ok (.iload_n 2, 1) := by decide +kernel
theorem d_X_valueFrom_7 : decode b_X_valueFrom 7 = .ok (.imul, 1) := by decide +kernel
theorem d_X_valueFrom_8 : decode b_X_valueFrom 8 = .ok (.aload_n 0, 1) := by decide +kernel
theorem d_X_valueFrom_9 : decode b_X_valueFrom 9 = .ok (.getfield 37, 3) := by decide +kernel
theorem d_X_valueFrom_12 : decode b_X_valueFrom 12 = .ok (.iconst 3, 1) := by decide +kernel
theorem d_X_valueFrom_13 : decode b_X_valueFrom 13 = .ok (.iload_n 1, 1) := by decide +kernel
theorem d_X_valueFrom_14 : decode b_X_valueFrom 14 = .ok (.imul, 1) := by decide +kernel
theorem d_X_valueFrom_15 : decode b_X_valueFrom 15 = .ok (.iload_n 2, 1) := by decide +kernel
theorem d_X_valueFrom_16 : decode b_X_valueFrom 16 = .ok (.iadd, 1) := by decide +kernel
theorem d_X_valueFrom_17 : decode b_X_valueFrom 17 = .ok (.iaload, 1) := by decide +kernel
theorem d_X_valueFrom_18 : decode b_X_valueFrom 18 = .ok (.iadd, 1) := by decide +kernel
theorem d_X_valueFrom_19 : decode b_X_valueFrom 19 = .ok (.iaload, 1) := by decide +kernel
theorem d_X_valueFrom_20 : decode b_X_valueFrom 20 = .ok (.istore_n 3, 1) := by decide +kernel
theorem d_X_valueFrom_21 : decode b_X_valueFrom 21 = .ok (.aload_n 0, 1) := by decide +kernel
theorem d_X_valueFrom_22 : decode b_X_valueFrom 22 = .ok (.getfield 13, 3) := by decide +kernel
theorem d_X_valueFrom_25 : decode b_X_valueFrom 25 = .ok (.iload_n 3, 1) := by decide +kernel
theorem d_X_valueFrom_26 : decode b_X_valueFrom 26 = .ok (.iaload, 1) := by decide +kernel
theorem d_X_valueFrom_27 : decode b_X_valueFrom 27 = .ok (.ireturn, 1) := by decide +kernel
theorem d_X_placeOfValue_0 : decode b_X_placeOfValue 0 = .ok (.aload_n 0, 1) := by decide +kernel
theorem d_X_placeOfValue_1 : decode b_X_placeOfValue 1 = .ok (.iload_n 1, 1) := by decide +kernel
theorem d_X_placeOfValue_2 : decode b_X_placeOfValue 2 = .ok (.iload_n 2, 1) := by decide +kernel
theorem d_X_placeOfValue_3 : decode b_X_placeOfValue 3 = .ok (.invokevirtual 66, 3) := by decide +kernel
theorem d_X_placeOfValue_6 : decode b_X_placeOfValue 6 = .ok (.istore_n 3, 1) := by decide +kernel
theorem d_X_placeOfValue_7 : decode b_X_placeOfValue 7 = .ok (.iconst 0, 1) := by decide +kernel
theorem d_X_placeOfValue_8 : decode b_X_placeOfValue 8 = .ok (.istore 4, 2) := by decide +kernel
theorem d_X_placeOfValue_10 : decode b_X_placeOfValue 10 = .ok (.iconst 0, 1) := by decide +kernel
theorem d_X_placeOfValue_11 : decode b_X_placeOfValue 11 = .ok (.istore 5, 2) := by decide +kernel
theorem d_X_placeOfValue_13 : decode b_X_placeOfValue 13 = .ok (.iload 5, 2) := by decide +kernel
theorem d_X_placeOfValue_15 : decode b_X_placeOfValue 15 = .ok (.iconst 3, 1) := by decide +kernel
theorem d_X_placeOfValue_16 : decode b_X_placeOfValue 16 = .ok (.if_icmp .ge 59, 3) := by decide +kernel
theorem d_X_placeOfValue_19 : decode b_X_placeOfValue 19 = .ok (.iload 5, 2) := by decide +kernel
theorem d_X_placeOfValue_21 : decode b_X_placeOfValue 21 = .ok (.iload_n 2, 1) := by decide +kernel
theorem d_X_placeOfValue_22 : decode b_X_placeOfValue 22 = .ok (.if_icmp .eq 47, 3) := by decide +kernel
theorem d_X_placeOfValue_25 : decode b_X_placeOfValue 25 = .ok (.aload_n 0, 1) := by decide +kernel
theorem d_X_placeOfValue_26 : decode b_X_placeOfValue 26 = .ok (.getfield 37, 3) := by decide +kernel
theorem d_X_placeOfValue_29 : decode b_X_placeOfValue 29 = .ok (.iconst 3, 1) := by decide +kernel
theorem d_X_placeOfValue_30 : decode b_X_placeOfValue 30 = .ok (.iload_n 1, 1) := by decide +kernel
theorem d_X_placeOfValue_31 : decode b_X_placeOfValue 31 = .ok (.imul, 1) := by decide +kernel
theorem d_X_placeOfValue_32 : decode b_X_placeOfValue 32 = .ok (.iload 5, 2) := by decide +kernel
theorem d_X_placeOfValue_34 : decode b_X_placeOfValue 34 = .ok (.iadd, 1) := by decide +kernel
theorem d_X_placeOfValue_35 : decode b_X_placeOfValue 35 = .ok (.iaload, 1) := by decide +kernel
theorem d_X_placeOfValue_36 : decode b_X_placeOfValue 36 = .ok (.ifCond .le 33, 3) := by decide +kernel
theorem d_X_placeOfValue_39 : decode b_X_placeOfValue 39 = .ok (.aload_n 0, 1) := by decide +kernel
theorem d_X_placeOfValue_40 : decode b_X_placeOfValue 40 = .ok (.iload_n 1, 1) := by decide +kernel
theorem d_X_placeOfValue_41 : decode b_X_placeOfValue 41 = .ok (.iload 5, 2) := by decide +kernel
theorem d_X_placeOfValue_43 : decode b_X_placeOfValue 43 = .ok (.invokevirtual 66, 3) := by decide +kernel
theorem d_X_placeOfValue_46 : decode b_X_placeOfValue 46 = .ok (.istore 6, 2) := by decide +kernel
theorem d_X_placeOfValue_48 : decode b_X_placeOfValue 48 = .ok (.iload 6, 2) := by decide +kernel
theorem d_X_placeOfValue_50 : decode b_X_placeOfValue 50 = .ok (.iload_n 3, 1) := by decide +kernel
theorem d_X_placeOfValue_51 : decode b_X_placeOfValue 51 = .ok (.if_icmp .lt 15, 3) := by decide +kernel
theorem d_X_placeOfValue_54 : decode b_X_placeOfValue 54 = .ok (.iload 6, 2) := by decide +kernel
theorem d_X_placeOfValue_56 : decode b_X_placeOfValue 56 = .ok (.iload_n 3, 1) := by decide +kernel
theorem d_X_placeOfValue_57 : decode b_X_placeOfValue 57 = .ok (.if_icmp .ne 12, 3) := by decide +kernel
theorem d_X_placeOfValue_60 : decode b_X_placeOfValue 60 = .ok (.iload 5, 2) := by decide +kernel
theorem d_X_placeOfValue_62 : decode b_X_placeOfValue 62 = .ok (.iload_n 2, 1) := by decide +kernel
theorem d_X_placeOfValue_63 : decode b_X_placeOfValue 63 = .ok (.if_icmp .ge 6, 3) := by decide +kernel
theorem d_X_placeOfValue_66 : decode b_X_placeOfValue 66 = .ok (.iinc 4 1, 3) := by decide +kernel
theorem d_X_placeOfValue_69 : decode b_X_placeOfValue 69 = .ok (.iinc 5 1, 3) := by decide +kernel
theorem d_X_placeOfValue_72 : decode b_X_placeOfValue 72 = .ok (.goto (-59), 3) := by decide +kernel
theorem d_X_placeOfValue_75 : decode b_X_placeOfValue 75 = .ok (.iload 4, 2) := by decide +kernel
theorem d_X_placeOfValue_77 : decode b_X_placeOfValue 77 = .ok (.ireturn, 1) := by decide +kernel
end
section
theorem d_Y_init_0 : decode b_Y_init 0 = .ok (.aload_n 0, 1) := by decide +kernel
theorem d_Y_init_1 : decode b_Y_init 1 = .ok (.invokespecial 1, 3) := by decide +kernel
theorem d_Y_init_4 : decode b_Y_init 4 = .ok (.aload_n 0, 1) := by decide +kernel
theorem d_Y_init_5 : decode b_Y_init 5 = .ok (.bipush 48, 2) := by decide +kernel
theorem d_Y_init_7 : decode b_Y_init 7 = .ok (.newarray .int, 2) := by decide +kernel
theorem d_Y_init_9 : decode b_Y_init 9 = .ok (.putfield 7, 3) := by decide +kernel
theorem d_Y_init_12 : decode b_Y_init 12 = .ok (.aload_n 0, 1) := by decide +kernel
theorem d_Y_init_13 : decode b_Y_init 13 = .ok (.bipush 48, 2) := by decide +kernel
theorem d_Y_init_15 : decode b_Y_init 15 = .ok (.newarray .int, 2) := by decide +kernel
theorem d_Y_init_17 : decode b_Y_init 17 = .ok (.putfield 13, 3) := by decide +kernel
theorem d_Y_init_20 : decode b_Y_init 20 = .ok (.aload_n 0, 1) := by decide +kernel
theorem d_Y_init_21 : decode b_Y_init 21 = .ok (.bipush 48, 2) := by decide +kernel
theorem d_Y_init_23 : decode b_Y_init 23 = .ok (.newarray .int, 2) := by decide +kernel
theorem d_Y_init_25 : decode b_Y_init 25 = .ok (.putfield 16, 3) := by decide +kernel
theorem d_Y_init_28 : decode b_Y_init 28 = .ok (.aload_n 0, 1) := by decide +kernel
theorem d_Y_init_29 : decode b_Y_init 29 = .ok (.bipush 48, 2) := by decide +kernel
theorem d_Y_init_31 : decode b_Y_init 31 = .ok (.newarray .long, 2) := by decide +kernel
theorem d_Y_init_33 : decode b_Y_init 33 = .ok (.putfield 19, 3) := by decide +kernel
theorem d_Y_init_36 : decode b_Y_init 36 = .ok (.aload_n 0, 1) := by decide +kernel
theorem d_Y_init_37 : decode b_Y_init 37 = .ok (.iconst 3, 1) := by decide +kernel
theorem d_Y_init_38 : decode b_Y_init 38 = .ok (.newarray .long, 2) := by decide +kernel
theorem d_Y_init_40 : decode b_Y_init 40 = .ok (.putfield 23, 3) := by decide +kernel
theorem d_Y_init_43 : decode b_Y_init 43 = .ok (.return_, 1) := by decide +kernel
theorem d_Y_bad_0 : decode b_Y_bad 0 = .ok (.iload_n 0, 1) := by decide +kernel
theorem d_Y_bad_1 : decode b_Y_bad 1 = .ok (.ifCond .lt 8, 3) := by decide +kernel
theorem d_Y_bad_4 : decode b_Y_bad 4 = .ok (.iload_n 0, 1) := by decide +kernel
theorem d_Y_bad_5 : decode b_Y_bad 5 = .ok (.iconst 2, 1) := by decide +kernel
theorem d_Y_bad_6 : decode b_Y_bad 6 = .ok (.if_icmp .le 7, 3) := by decide +kernel
theorem d_Y_bad_9 : decode b_Y_bad 9 = .ok (.iconst 1, 1) := by decide +kernel
theorem d_Y_bad_10 : decode b_Y_bad 10 = .ok (.goto 4, 3) := by decide +kernel
theorem d_Y_bad_13 : decode b_Y_bad 13 = .ok (.iconst 0, 1) := by decide +kernel
theorem d_Y_bad_14 : decode b_Y_bad 14 = .ok (.ireturn, 1) := by decide +kernel
theorem d_Y_make_0 : decode b_Y_make 0 = .ok (.iload_n 1, 1) := by decide +kernel
theorem d_Y_make_1 : decode b_Y_make 1 = .ok (.invokestatic 26, 3) := by decide +kernel
theorem d_Y_make_4 : decode b_Y_make 4 = .ok (.ifCond .ne 12, 3) := by decide +kernel
theorem d_Y_make_7 : decode b_Y_make 7 = .ok (.aload_n 0, 1) := by decide +kernel
theorem d_Y_make_8 : decode b_Y_make 8 = .ok (.getfield 30, 3) := by decide +kernel
theorem d_Y_make_11 : decode b_Y_make 11 = .ok (.bipush 48, 2) := by decide +kernel
theorem d_Y_make_13 : decode b_Y_make 13 = .ok (.if_icmp .ne 5, 3) := by decide +kernel
theorem d_Y_make_16 : decode b_Y_make 16 = .ok (.iconst (-1), 1) := by decide +kernel
theorem d_Y_make_17 : decode b_Y_make 17 = .ok (.ireturn, 1) := by decide +kernel
theorem d_Y_make_18 : decode b_Y_make 18 = .ok (.aload_n 0, 1) := by decide +kernel
theorem d_Y_make_19 : decode b_Y_make 19 = .ok (.getfield 7, 3) := by decide +kernel
theorem d_Y_make_22 : decode b_Y_make 22 = .ok (.aload_n 0, 1) := by decide +kernel
theorem d_Y_make_23 : decode b_Y_make 23 = .ok (.getfield 30, 3) := by decide +kernel
theorem d_Y_make_26 : decode b_Y_make 26 = .ok (.iload_n 2, 1) := by decide +kernel
theorem d_Y_make_27 : decode b_Y_make 27 = .ok (.iastore, 1) := by decide +kernel
theorem d_Y_make_28 : decode b_Y_make 28 = .ok (.aload_n 0, 1) := by decide +kernel
theorem d_Y_make_29 : decode b_Y_make 29 = .ok (.getfield 13, 3) := by decide +kernel
theorem d_Y_make_32 : decode b_Y_make 32 = .ok (.aload_n 0, 1) := by decide +kernel
theorem d_Y_make_33 : decode b_Y_make 33 = .ok (.getfield 30, 3) := by decide +kernel
theorem d_Y_make_36 : decode b_Y_make 36 = .ok (.iload_n 3, 1) := by decide +kernel
theorem d_Y_make_37 : decode b_Y_make 37 = .ok (.iastore, 1) := by decide +kernel
theorem d_Y_make_38 : decode b_Y_make 38 = .ok (.aload_n 0, 1) := by decide +kernel
theorem d_Y_make_39 : decode b_Y_make 39 = .ok (.getfield 16, 3) := by decide +kernel
theorem d_Y_make_42 : decode b_Y_make 42 = .ok (.aload_n 0, 1) := by decide +kernel
theorem d_Y_make_43 : decode b_Y_make 43 = .ok (.getfield 30, 3) := by decide +kernel
theorem d_Y_make_46 : decode b_Y_make 46 = .ok (.iload_n 1, 1) := by decide +kernel
theorem d_Y_make_47 : decode b_Y_make 47 = .ok (.iastore, 1) := by decide +kernel
theorem d_Y_make_48 : decode b_Y_make 48 = .ok (.aload_n 0, 1) := by decide +kernel
theorem d_Y_make_49 : decode b_Y_make 49 = .ok (.getfield 19, 3) := by decide +kernel
theorem d_Y_make_52 : decode b_Y_make 52 = .ok (.aload_n 0, 1) := by decide +kernel
theorem d_Y_make_53 : decode b_Y_make 53 = .ok (.getfield 30, 3) := by decide +kernel
theorem d_Y_make_56 : decode b_Y_make 56 = .ok (.aload_n 0, 1) := by decide +kernel
theorem d_Y_make_57 : decode b_Y_make 57 = .ok (.getfield 23, 3) := by decide +kernel
theorem d_Y_make_60 : decode b_Y_make 60 = .ok (.iload_n 1, 1) := by decide +kernel
theorem d_Y_make_61 : decode b_Y_make 61 = .ok (.laload, 1) := by decide +kernel
theorem d_Y_make_62 : decode b_Y_make 62 = .ok (.lastore, 1) := by decide +kernel
theorem d_Y_make_63 : decode b_Y_make 63 = .ok (.aload_n 0, 1) := by decide +kernel
theorem d_Y_make_64 : decode b_Y_make 64 = .ok (.getfield 23, 3) := by decide +kernel
theorem d_Y_make_67 : decode b_Y_make 67 = .ok (.iload_n 1, 1) := by decide +kernel
theorem d_Y_make_68 : decode b_Y_make 68 = .ok (.dup2, 1) := by decide +kernel
theorem d_Y_make_69 : decode b_Y_make 69 = .ok (.laload, 1) := by decide +kernel
theorem d_Y_make_70 : decode b_Y_make 70 = .ok (.lconst 1, 1) := by decide +kernel
theorem d_Y_make_71 : decode b_Y_make 71 = .ok (.aload_n 0, 1) := by decide +kernel
theorem d_Y_make_72 : decode b_Y_make 72 = .ok (.getfield 30, 3) := by decide +kernel
theorem d_Y_make_75 : decode b_Y_make 75 = .ok (.lshl, 1) := by decide +kernel
theorem d_Y_make_76 : decode b_Y_make 76 = .ok (.lor, 1) := by decide +kernel
theorem d_Y_make_77 : decode b_Y_make 77 = .ok (.lastore, 1) := by decide +kernel
theorem d_Y_make_78 : decode b_Y_make 78 = .ok (.aload_n 0, 1) := by decide +kernel
theorem d_Y_make_79 : decode b_Y_make 79 = .ok (.dup, 1) := by decide +kernel
theorem d_Y_make_80 : decode b_Y_make 80 = .ok (.getfield 30, 3) := by decide +kernel
theorem d_Y_make_83 : decode b_Y_make 83 = .ok (.iconst 1, 1) := by decide +kernel
theorem d_Y_make_84 : decode b_Y_make 84 = .ok (.iadd, 1) := by decide +kernel
theorem d_Y_make_85 : decode b_Y_make 85 = .ok (.putfield 30, 3) := by decide +kernel
theorem d_Y_make_88 : decode b_Y_make 88 = .ok (.aload_n 0, 1) := by decide +kernel
theorem d_Y_make_89 : decode b_Y_make 89 = .ok (.getfield 30, 3) := by decide +kernel
theorem d_Y_make_92 : decode b_Y_make 92 = .ok (.ireturn, 1) := by decide +kernel
theorem d_Y_add_0 : decode b_Y_add 0 = .ok (.aload_n 0, 1) := by decide +kernel
theorem d_Y_add_1 : decode b_Y_add 1 = .ok (.iload_n 1, 1) := by decide +kernel
theorem d_Y_add_2 : decode b_Y_add 2 = .ok (.iconst 0, 1) := by decide +kernel
theorem d_Y_add_3 : decode b_Y_add 3 = .ok (.iload_n 2, 1) := by decide +kernel
theorem d_Y_add_4 : decode b_Y_add 4 = .ok (.bipush 7, 2) := by decide +kernel
theorem d_Y_add_6 : decode b_Y_add 6 = .ok (.iand, 1) := by decide +kernel
theorem d_Y_add_7 : decode b_Y_add 7 = .ok (.invokevirtual 34, 3) := by decide +kernel
theorem d_Y_add_10 : decode b_Y_add 10 = .ok (.ireturn, 1) := by decide +kernel
theorem d_Y_remove_0 : decode b_Y_remove 0 = .ok (.aload_n 0, 1) := by decide +kernel
theorem d_Y_remove_1 : decode b_Y_remove 1 = .ok (.iload_n 1, 1) := by decide +kernel
theorem d_Y_remove_2 : decode b_Y_remove 2 = .ok (.iconst 1, 1) := by decide +kernel
theorem d_Y_remove_3 : decode b_Y_remove 3 = .ok (.iload_n 2, 1) := by decide +kernel
theorem d_Y_remove_4 : decode b_Y_remove 4 = .ok (.bipush 7, 2) := by decide +kernel
theorem d_Y_remove_6 : decode b_Y_remove 6 = .ok (.iand, 1) := by decide +kernel
theorem d_Y_remove_7 : decode b_Y_remove 7 = .ok (.invokevirtual 34, 3) := by decide +kernel
theorem d_Y_remove_10 : decode b_Y_remove 10 = .ok (.ireturn, 1) := by decide +kernel
theorem d_Y_assign_0 : decode b_Y_assign 0 = .ok (.aload_n 0, 1) := by decide +kernel
theorem d_Y_assign_1 : decode b_Y_assign 1 = .ok (.iload_n 1, 1) := by decide +kernel
theorem d_Y_assign_2 : decode b_Y_assign 2 = .ok (.iconst 2, 1) := by decide +kernel
theorem d_Y_assign_3 : decode b_Y_assign 3 = .ok (.iload_n 2, 1) := by decide +kernel
theorem d_Y_assign_4 : decode b_Y_assign 4 = .ok (.invokevirtual 34, 3) := by decide +kernel
theorem d_Y_assign_7 : decode b_Y_assign 7 = .ok (.ireturn, 1) := by decide +kernel
theorem d_Y_count_0 : decode b_Y_count 0 = .ok (.aload_n 0, 1) := by decide +kernel
theorem d_Y_count_1 : decode b_Y_count 1 = .ok (.iload_n 1, 1) := by decide +kernel
theorem d_Y_count_2 : decode b_Y_count 2 = .ok (.iconst 3, 1) := by decide +kernel
theorem d_Y_count_3 : decode b_Y_count 3 = .ok (.iload_n 2, 1) := by decide +kernel
theorem d_Y_count_4 : decode b_Y_count 4 = .ok (.invokevirtual 34, 3) := by decide +kernel
theorem d_Y_count_7 : decode b_Y_count 7 = .ok (.ireturn, 1) := by decide +kernel
theorem d_Y_reset_0 : decode b_Y_reset 0 = .ok (.aload_n 0, 1) := by decide +kernel
theorem d_Y_reset_1 : decode b_Y_reset 1 = .ok (.iload_n 1, 1) := by decide +kernel
theorem d_Y_reset_2 : decode b_Y_reset 2 = .ok (.iconst 4, 1) := by decide +kernel
theorem d_Y_reset_3 : decode b_Y_reset 3 = .ok (.iconst 0, 1) := by decide +kernel
theorem d_Y_reset_4 : decode b_Y_reset 4 = .ok (.invokevirtual 34, 3) := by decide +kernel
theorem d_Y_reset_7 : decode b_Y_reset 7 = .ok (.ireturn, 1) := by decide +kernel
theorem d_Y_deliver_0 : decode b_Y_deliver 0 = .ok (.iload_n 1, 1) := by decide +kernel
theorem d_Y_deliver_1 : decode b_Y_deliver 1 = .ok (.invokestatic 26, 3) := by decide +kernel
theorem d_Y_deliver_4 : decode b_Y_deliver 4 = .ok (.ifCond .ne 10, 3) := by decide +kernel
theorem d_Y_deliver_7 : decode b_Y_deliver 7 = .ok (.iload_n 2, 1) := by decide +kernel
theorem d_Y_deliver_8 : decode b_Y_deliver 8 = .ok (.invokestatic 26, 3) := by decide +kernel
theorem d_Y_deliver_11 : decode b_Y_deliver 11 = .ok (.ifCond .eq 5, 3) := by decide +kernel
theorem d_Y_deliver_14 : decode b_Y_deliver 14 = .ok (.iconst (-1), 1) := by decide +kernel
theorem d_Y_deliver_15 : decode b_Y_deliver 15 = .ok (.ireturn, 1) := by decide +kernel
theorem d_Y_deliver_16 : decode b_Y_deliver 16 = .ok (.iconst 0, 1) := by decide +kernel
theorem d_Y_deliver_17 : decode b_Y_deliver 17 = .ok (.istore_n 3, 1) := by decide +kernel
theorem d_Y_deliver_18 : decode b_Y_deliver 18 = .ok (.iload_n 3, 1) := by decide +kernel
theorem d_Y_deliver_19 : decode b_Y_deliver 19 = .ok (.aload_n 0, 1) := by decide +kernel
theorem d_Y_deliver_20 : decode b_Y_deliver 20 = .ok (.getfield 30, 3) := by decide +kernel
theorem d_Y_deliver_23 : decode b_Y_deliver 23 = .ok (.if_icmp .ge 73, 3) := by decide +kernel
theorem d_Y_deliver_26 : decode b_Y_deliver 26 = .ok (.aload_n 0, 1) := by decide +kernel
theorem d_Y_deliver_27 : decode b_Y_deliver 27 = .ok (.getfield 16, 3) := by decide +kernel
theorem d_Y_deliver_30 : decode b_Y_deliver 30 = .ok (.iload_n 3, 1) := by decide +kernel
theorem d_Y_deliver_31 : decode b_Y_deliver 31 = .ok (.iaload, 1) := by decide +kernel
theorem d_Y_deliver_32 : decode b_Y_deliver 32 = .ok (.iload_n 1, 1) := by decide +kernel
theorem d_Y_deliver_33 : decode b_Y_deliver 33 = .ok (.if_icmp .ne 57, 3) := by decide +kernel
theorem d_Y_deliver_36 : decode b_Y_deliver 36 = .ok (.aload_n 0, 1) := by decide +kernel
theorem d_Y_deliver_37 : decode b_Y_deliver 37 = .ok (.getfield 23, 3) := by decide +kernel
theorem d_Y_deliver_40 : decode b_Y_deliver 40 = .ok (.iload_n 2, 1) := by decide +kernel
theorem d_Y_deliver_41 : decode b_Y_deliver 41 = .ok (.laload, 1) := by decide +kernel
theorem d_Y_deliver_42 : decode b_Y_deliver 42 = .ok (.iload_n 3, 1) := by decide +kernel
theorem d_Y_deliver_43 : decode b_Y_deliver 43 = .ok (.lshr, 1) := by decide +kernel
theorem d_Y_deliver_44 : decode b_Y_deliver 44 = .ok (.lconst 1, 1) := by decide +kernel
theorem d_Y_deliver_45 : decode b_Y_deliver 45 = .ok (.land, 1) := by decide +kernel
theorem d_Y_deliver_46 : decode b_Y_deliver 46 = .ok (.lconst 0, 1) := by decide +kernel
theorem d_Y_deliver_47 : decode b_Y_deliver 47 = .ok (.lcmp, 1) := by decide +kernel
theorem d_Y_deliver_48 : decode b_Y_deliver 48 = .ok (.ifCond .ne 42, 3) := by decide +kernel
theorem d_Y_deliver_51 : decode b_Y_deliver 51 = .ok (.aload_n 0, 1) := by decide +kernel
theorem d_Y_deliver_52 : decode b_Y_deliver 52 = .ok (.getfield 19, 3) := by decide +kernel
theorem d_Y_deliver_55 : decode b_Y_deliver 55 = .ok (.iload_n 3, 1) := by decide +kernel
theorem d_Y_deliver_56 : decode b_Y_deliver 56 = .ok (.laload, 1) := by decide +kernel
theorem d_Y_deliver_57 : decode b_Y_deliver 57 = .ok (.aload_n 0, 1) := by decide +kernel
theorem d_Y_deliver_58 : decode b_Y_deliver 58 = .ok (.getfield 23, 3) := by decide +kernel
theorem d_Y_deliver_61 : decode b_Y_deliver 61 = .ok (.iload_n 2, 1) := by decide +kernel
theorem d_Y_deliver_62 : decode b_Y_deliver 62 = .ok (.laload, 1) := by decide +kernel
theorem d_Y_deliver_63 : decode b_Y_deliver 63 = .ok (.ldc2_w 38, 3) := by decide +kernel
theorem d_Y_deliver_66 : decode b_Y_deliver 66 = .ok (.lxor, 1) := by decide +kernel
theorem d_Y_deliver_67 : decode b_Y_deliver 67 = .ok (.land, 1) := by decide +kernel
theorem d_Y_deliver_68 : decode b_Y_deliver 68 = .ok (.lconst 0, 1) := by decide +kernel
theorem d_Y_deliver_69 : decode b_Y_deliver 69 = .ok (.lcmp, 1) := by decide +kernel
theorem d_Y_deliver_70 : decode b_Y_deliver 70 = .ok (.ifCond .eq 6, 3) := by decide +kernel
theorem d_Y_deliver_73 : decode b_Y_deliver 73 = .ok (.bipush (-2), 2) := by decide +kernel
theorem d_Y_deliver_75 : decode b_Y_deliver 75 = .ok (.ireturn, 1) := by decide +kernel
theorem d_Y_deliver_76 : decode b_Y_deliver 76 = .ok (.aload_n 0, 1) := by decide +kernel
theorem d_Y_deliver_77 : decode b_Y_deliver 77 = .ok (.getfield 23, 3) := by decide +kernel
theorem d_Y_deliver_80 : decode b_Y_deliver 80 = .ok (.iload_n 2, 1) := by decide +kernel
theorem d_Y_deliver_81 : decode b_Y_deliver 81 = .ok (.dup2, 1) := by decide +kernel
theorem d_Y_deliver_82 : decode b_Y_deliver 82 = .ok (.laload, 1) := by decide +kernel
theorem d_Y_deliver_83 : decode b_Y_deliver 83 = .ok (.lconst 1, 1) := by decide +kernel
theorem d_Y_deliver_84 : decode b_Y_deliver 84 = .ok (.iload_n 3, 1) := by decide +kernel
theorem d_Y_deliver_85 : decode b_Y_deliver 85 = .ok (.lshl, 1) := by decide +kernel
theorem d_Y_deliver_86 : decode b_Y_deliver 86 = .ok (.lor, 1) := by decide +kernel
theorem d_Y_deliver_87 : decode b_Y_deliver 87 = .ok (.lastore, 1) := by decide +kernel
theorem d_Y_deliver_88 : decode b_Y_deliver 88 = .ok (.iconst 0, 1) := by decide +kernel
theorem d_Y_deliver_89 : decode b_Y_deliver 89 = .ok (.ireturn, 1) := by decide +kernel
theorem d_Y_deliver_90 : decode b_Y_deliver 90 = .ok (.iinc 3 1, 3) := by decide +kernel
theorem d_Y_deliver_93 : decode b_Y_deliver 93 = .ok (.goto (-75), 3) := by decide +kernel
theorem d_Y_deliver_96 : decode b_Y_deliver 96 = .ok (.iconst (-1), 1) := by decide +kernel
theorem d_Y_deliver_97 : decode b_Y_deliver 97 = .ok (.ireturn, 1) := by decide +kernel
theorem d_Y_sync_0 : decode b_Y_sync 0 = .ok (.iload_n 1, 1) := by decide +kernel
theorem d_Y_sync_1 : decode b_Y_sync 1 = .ok (.invokestatic 26, 3) := by decide +kernel
theorem d_Y_sync_4 : decode b_Y_sync 4 = .ok (.ifCond .ne 10, 3) := by decide +kernel
theorem d_Y_sync_7 : decode b_Y_sync 7 = .ok (.iload_n 2, 1) := by decide +kernel
theorem d_Y_sync_8 : decode b_Y_sync 8 = .ok (.invokestatic 26, 3) := by decide +kernel
theorem d_Y_sync_11 : decode b_Y_sync 11 = .ok (.ifCond .eq 5, 3) := by decide +kernel
theorem d_Y_sync_14 : decode b_Y_sync 14 = .ok (.iconst (-1), 1) := by decide +kernel
theorem d_Y_sync_15 : decode b_Y_sync 15 = .ok (.ireturn, 1) := by decide +kernel
theorem d_Y_sync_16 : decode b_Y_sync 16 = .ok (.aload_n 0, 1) := by decide +kernel
theorem d_Y_sync_17 : decode b_Y_sync 17 = .ok (.getfield 23, 3) := by decide +kernel
theorem d_Y_sync_20 : decode b_Y_sync 20 = .ok (.iload_n 2, 1) := by decide +kernel
theorem d_Y_sync_21 : decode b_Y_sync 21 = .ok (.dup2, 1) := by decide +kernel
theorem d_Y_sync_22 : decode b_Y_sync 22 = .ok (.laload, 1) := by decide +kernel
theorem d_Y_sync_23 : decode b_Y_sync 23 = .ok (.aload_n 0, 1) := by decide +kernel
theorem d_Y_sync_24 : decode b_Y_sync 24 = .ok (.getfield 23, 3) := by decide +kernel
theorem d_Y_sync_27 : decode b_Y_sync 27 = .ok (.iload_n 1, 1) := by decide +kernel
theorem d_Y_sync_28 : decode b_Y_sync 28 = .ok (.laload, 1) := by decide +kernel
theorem d_Y_sync_29 : decode b_Y_sync 29 = .ok (.lor, 1) := by decide +kernel
theorem d_Y_sync_30 : decode b_Y_sync 30 = .ok (.lastore, 1) := by decide +kernel
theorem d_Y_sync_31 : decode b_Y_sync 31 = .ok (.iconst 0, 1) := by decide +kernel
theorem d_Y_sync_32 : decode b_Y_sync 32 = .ok (.ireturn, 1) := by decide +kernel
theorem d_Y_stands_0 : decode b_Y_stands 0 = .ok (.aload_n 0, 1) := by decide +kernel
theorem d_Y_stands_1 : decode b_Y_stands 1 = .ok (.getfield 23, 3) := by decide +kernel
theorem d_Y_stands_4 : decode b_Y_stands 4 = .ok (.iload_n 1, 1) := by decide +kernel
theorem d_Y_stands_5 : decode b_Y_stands 5 = .ok (.laload, 1) := by decide +kernel
theorem d_Y_stands_6 : decode b_Y_stands 6 = .ok (.iload_n 2, 1) := by decide +kernel
theorem d_Y_stands_7 : decode b_Y_stands 7 = .ok (.lshr, 1) := by decide +kernel
theorem d_Y_stands_8 : decode b_Y_stands 8 = .ok (.lconst 1, 1) := by decide +kernel
theorem d_Y_stands_9 : decode b_Y_stands 9 = .ok (.land, 1) := by decide +kernel
theorem d_Y_stands_10 : decode b_Y_stands 10 = .ok (.lconst 0, 1) := by decide +kernel
theorem d_Y_stands_11 : decode b_Y_stands 11 = .ok (.lcmp, 1) := by decide +kernel
theorem d_Y_stands_12 : decode b_Y_stands 12 = .ok (.ifCond .ne 5, 3) := by decide +kernel
theorem d_Y_stands_15 : decode b_Y_stands 15 = .ok (.iconst 0, 1) := by decide +kernel
theorem d_Y_stands_16 : decode b_Y_stands 16 = .ok (.ireturn, 1) := by decide +kernel
theorem d_Y_stands_17 : decode b_Y_stands 17 = .ok (.iconst 0, 1) := by decide +kernel
theorem d_Y_stands_18 : decode b_Y_stands 18 = .ok (.istore_n 3, 1) := by decide +kernel
theorem d_Y_stands_19 : decode b_Y_stands 19 = .ok (.iload_n 3, 1) := by decide +kernel
theorem d_Y_stands_20 : decode b_Y_stands 20 = .ok (.aload_n 0, 1) := by decide +kernel
theorem d_Y_stands_21 : decode b_Y_stands 21 = .ok (.getfield 30, 3) := by decide +kernel
theorem d_Y_stands_24 : decode b_Y_stands 24 = .ok (.if_icmp .ge 131, 3) := by decide +kernel
theorem d_Y_stands_27 : decode b_Y_stands 27 = .ok (.aload_n 0, 1) := by decide +kernel
theorem d_Y_stands_28 : decode b_Y_stands 28 = .ok (.getfield 23, 3) := by decide +kernel
theorem d_Y_stands_31 : decode b_Y_stands 31 = .ok (.iload_n 1, 1) := by decide +kernel
theorem d_Y_stands_32 : decode b_Y_stands 32 = .ok (.laload, 1) := by decide +kernel
theorem d_Y_stands_33 : decode b_Y_stands 33 = .ok (.iload_n 3, 1) := by decide +kernel
theorem d_Y_stands_34 : decode b_Y_stands 34 = .ok (.lshr, 1) := by decide +kernel
theorem d_Y_stands_35 : decode b_Y_stands 35 = .ok (.lconst 1, 1) := by decide +kernel
theorem d_Y_stands_36 : decode b_Y_stands 36 = .ok (.land, 1) := by decide +kernel
theorem d_Y_stands_37 : decode b_Y_stands 37 = .ok (.lconst 1, 1) := by decide +kernel
theorem d_Y_stands_38 : decode b_Y_stands 38 = .ok (.lcmp, 1) := by decide +kernel
theorem d_Y_stands_39 : decode b_Y_stands 39 = .ok (.ifCond .ne 22, 3) := by decide +kernel
theorem d_Y_stands_42 : decode b_Y_stands 42 = .ok (.aload_n 0, 1) := by decide +kernel
theorem d_Y_stands_43 : decode b_Y_stands 43 = .ok (.getfield 19, 3) := by decide +kernel
theorem d_Y_stands_46 : decode b_Y_stands 46 = .ok (.iload_n 3, 1) := by decide +kernel
theorem d_Y_stands_47 : decode b_Y_stands 47 = .ok (.laload, 1) := by decide +kernel
theorem d_Y_stands_48 : decode b_Y_stands 48 = .ok (.iload_n 2, 1) := by decide +kernel
theorem d_Y_stands_49 : decode b_Y_stands 49 = .ok (.lshr, 1) := by decide +kernel
theorem d_Y_stands_50 : decode b_Y_stands 50 = .ok (.lconst 1, 1) := by decide +kernel
theorem d_Y_stands_51 : decode b_Y_stands 51 = .ok (.land, 1) := by decide +kernel
theorem d_Y_stands_52 : decode b_Y_stands 52 = .ok (.lconst 1, 1) := by decide +kernel
theorem d_Y_stands_53 : decode b_Y_stands 53 = .ok (.lcmp, 1) := by decide +kernel
theorem d_Y_stands_54 : decode b_Y_stands 54 = .ok (.ifCond .ne 7, 3) := by decide +kernel
theorem d_Y_stands_57 : decode b_Y_stands 57 = .ok (.iconst 1, 1) := by decide +kernel
theorem d_Y_stands_58 : decode b_Y_stands 58 = .ok (.goto 4, 3) := by decide +kernel
theorem d_Y_stands_61 : decode b_Y_stands 61 = .ok (.iconst 0, 1) := by decide +kernel
theorem d_Y_stands_62 : decode b_Y_stands 62 = .ok (.istore 4, 2) := by decide +kernel
theorem d_Y_stands_64 : decode b_Y_stands 64 = .ok (.iload 4, 2) := by decide +kernel
theorem d_Y_stands_66 : decode b_Y_stands 66 = .ok (.ifCond .eq 15, 3) := by decide +kernel
theorem d_Y_stands_69 : decode b_Y_stands 69 = .ok (.aload_n 0, 1) := by decide +kernel
theorem d_Y_stands_70 : decode b_Y_stands 70 = .ok (.getfield 7, 3) := by decide +kernel
theorem d_Y_stands_73 : decode b_Y_stands 73 = .ok (.iload_n 3, 1) := by decide +kernel
theorem d_Y_stands_74 : decode b_Y_stands 74 = .ok (.iaload, 1) := by decide +kernel
theorem d_Y_stands_75 : decode b_Y_stands 75 = .ok (.iconst 4, 1) := by decide +kernel
theorem d_Y_stands_76 : decode b_Y_stands 76 = .ok (.if_icmp .ne 5, 3) := by decide +kernel
theorem d_Y_stands_79 : decode b_Y_stands 79 = .ok (.iconst 0, 1) := by decide +kernel
theorem d_Y_stands_80 : decode b_Y_stands 80 = .ok (.ireturn, 1) := by decide +kernel
theorem d_Y_stands_81 : decode b_Y_stands 81 = .ok (.iload 4, 2) := by decide +kernel
theorem d_Y_stands_83 : decode b_Y_stands 83 = .ok (.ifCond .eq 39, 3) := by decide +kernel
theorem d_Y_stands_86 : decode b_Y_stands 86 = .ok (.aload_n 0, 1) := by decide +kernel
theorem d_Y_stands_87 : decode b_Y_stands 87 = .ok (.getfield 7, 3) := by decide +kernel
theorem d_Y_stands_90 : decode b_Y_stands 90 = .ok (.iload_n 2, 1) := by decide +kernel
theorem d_Y_stands_91 : decode b_Y_stands 91 = .ok (.iaload, 1) := by decide +kernel
theorem d_Y_stands_92 : decode b_Y_stands 92 = .ok (.ifCond .ne 30, 3) := by decide +kernel
theorem d_Y_stands_95 : decode b_Y_stands 95 = .ok (.aload_n 0, 1) := by decide +kernel
theorem d_Y_stands_96 : decode b_Y_stands 96 = .ok (.getfield 7, 3) := by decide +kernel
theorem d_Y_stands_99 : decode b_Y_stands 99 = .ok (.iload_n 3, 1) := by decide +kernel
theorem d_Y_stands_100 : decode b_Y_stands 100 = .ok (.iaload, 1) := by decide +kernel
theorem d_Y_stands_101 : decode b_Y_stands 101 = .ok (.iconst 1, 1) := by decide +kernel
theorem d_Y_stands_102 : decode b_Y_stands 102 = .ok (.if_icmp .ne 20, 3) := by decide +kernel
theorem d_Y_stands_105 : decode b_Y_stands 105 = .ok (.aload_n 0, 1) := by decide +kernel
theorem d_Y_stands_106 : decode b_Y_stands 106 = .ok (.getfield 13, 3) := by decide +kernel
theorem d_Y_stands_109 : decode b_Y_stands 109 = .ok (.iload_n 3, 1) := by decide +kernel
theorem d_Y_stands_110 : decode b_Y_stands 110 = .ok (.iaload, 1) := by decide +kernel
theorem d_Y_stands_111 : decode b_Y_stands 111 = .ok (.aload_n 0, 1) := by decide +kernel
theorem d_Y_stands_112 : decode b_Y_stands 112 = .ok (.getfield 13, 3) := by decide +kernel
theorem d_Y_stands_115 : decode b_Y_stands 115 = .ok (.iload_n 2, 1) := by decide +kernel
theorem d_Y_stands_116 : decode b_Y_stands 116 = .ok (.iaload, 1) := by decide +kernel
theorem d_Y_stands_117 : decode b_Y_stands 117 = .ok (.if_icmp .ne 5, 3) := by decide +kernel
theorem d_Y_stands_120 : decode b_Y_stands 120 = .ok (.iconst 0, 1) := by decide +kernel
theorem d_Y_stands_121 : decode b_Y_stands 121 = .ok (.ireturn, 1) := by decide +kernel
theorem d_Y_stands_122 : decode b_Y_stands 122 = .ok (.iload 4, 2) := by decide +kernel
theorem d_Y_stands_124 : decode b_Y_stands 124 = .ok (.ifCond .eq 25, 3) := by decide +kernel
theorem d_Y_stands_127 : decode b_Y_stands 127 = .ok (.aload_n 0, 1) := by decide +kernel
theorem d_Y_stands_128 : decode b_Y_stands 128 = .ok (.getfield 7, 3) := by decide +kernel
theorem d_Y_stands_131 : decode b_Y_stands 131 = .ok (.iload_n 2, 1) := by decide +kernel
theorem d_Y_stands_132 : decode b_Y_stands 132 = .ok (.iaload, 1) := by decide +kernel
theorem d_Y_stands_133 : decode b_Y_stands 133 = .ok (.iconst 2, 1) := by decide +kernel
theorem d_Y_stands_134 : decode b_Y_stands 134 = .ok (.if_icmp .ne 15, 3) := by decide +kernel
theorem d_Y_stands_137 : decode b_Y_stands 137 = .ok (.aload_n 0, 1) := by decide +kernel
theorem d_Y_stands_138 : decode b_Y_stands 138 = .ok (.getfield 7, 3) := by decide +kernel
theorem d_Y_stands_141 : decode b_Y_stands 141 = .ok (.iload_n 3, 1) := by decide +kernel
theorem d_Y_stands_142 : decode b_Y_stands 142 = .ok (.iaload, 1) := by decide +kernel
theorem d_Y_stands_143 : decode b_Y_stands 143 = .ok (.iconst 2, 1) := by decide +kernel
theorem d_Y_stands_144 : decode b_Y_stands 144 = .ok (.if_icmp .ne 5, 3) := by decide +kernel
theorem d_Y_stands_147 : decode b_Y_stands 147 = .ok (.iconst 0, 1) := by decide +kernel
theorem d_Y_stands_148 : decode b_Y_stands 148 = .ok (.ireturn, 1) := by decide +kernel
theorem d_Y_stands_149 : decode b_Y_stands 149 = .ok (.iinc 3 1, 3) := by decide +kernel
theorem d_Y_stands_152 : decode b_Y_stands 152 = .ok (.goto (-133), 3) := by decide +kernel
theorem d_Y_stands_155 : decode b_Y_stands 155 = .ok (.iconst 1, 1) := by decide +kernel
theorem d_Y_stands_156 : decode b_Y_stands 156 = .ok (.ireturn, 1) := by decide +kernel
theorem d_Y_has_0 : decode b_Y_has 0 = .ok (.iload_n 1, 1) := by decide +kernel
theorem d_Y_has_1 : decode b_Y_has 1 = .ok (.invokestatic 26, 3) := by decide +kernel
theorem d_Y_has_4 : decode b_Y_has 4 = .ok (.ifCond .eq 5, 3) := by decide +kernel
theorem d_Y_has_7 : decode b_Y_has 7 = .ok (.iconst (-1), 1) := by decide +kernel
theorem d_Y_has_8 : decode b_Y_has 8 = .ok (.ireturn, 1) := by decide +kernel
theorem d_Y_has_9 : decode b_Y_has 9 = .ok (.iconst 0, 1) := by decide +kernel
theorem d_Y_has_10 : decode b_Y_has 10 = .ok (.istore_n 3, 1) := by decide +kernel
theorem d_Y_has_11 : decode b_Y_has 11 = .ok (.iload_n 3, 1) := by decide +kernel
theorem d_Y_has_12 : decode b_Y_has 12 = .ok (.aload_n 0, 1) := by decide +kernel
theorem d_Y_has_13 : decode b_Y_has 13 = .ok (.getfield 30, 3) := by decide +kernel
theorem d_Y_has_16 : decode b_Y_has 16 = .ok (.if_icmp .ge 42, 3) := by decide +kernel
theorem d_Y_has_19 : decode b_Y_has 19 = .ok (.aload_n 0, 1) := by decide +kernel
theorem d_Y_has_20 : decode b_Y_has 20 = .ok (.getfield 7, 3) := by decide +kernel
theorem d_Y_has_23 : decode b_Y_has 23 = .ok (.iload_n 3, 1) := by decide +kernel
theorem d_Y_has_24 : decode b_Y_has 24 = .ok (.iaload, 1) := by decide +kernel
theorem d_Y_has_25 : decode b_Y_has 25 = .ok (.ifCond .ne 27, 3) := by decide +kernel
theorem d_Y_has_28 : decode b_Y_has 28 = .ok (.aload_n 0, 1) := by decide +kernel
theorem d_Y_has_29 : decode b_Y_has 29 = .ok (.getfield 13, 3) := by decide +kernel
theorem d_Y_has_32 : decode b_Y_has 32 = .ok (.iload_n 3, 1) := by decide +kernel
theorem d_Y_has_33 : decode b_Y_has 33 = .ok (.iaload, 1) := by decide +kernel
theorem d_Y_has_34 : decode b_Y_has 34 = .ok (.iload_n 2, 1) := by decide +kernel
theorem d_Y_has_35 : decode b_Y_has 35 = .ok (.bipush 7, 2) := by decide +kernel
theorem d_Y_has_37 : decode b_Y_has 37 = .ok (.iand, 1) := by decide +kernel
theorem d_Y_has_38 : decode b_Y_has 38 = .ok (.if_icmp .ne 14, 3) := by decide +kernel
theorem d_Y_has_41 : decode b_Y_has 41 = .ok (.aload_n 0, 1) := by decide +kernel
theorem d_Y_has_42 : decode b_Y_has 42 = .ok (.iload_n 1, 1) := by decide +kernel
theorem d_Y_has_43 : decode b_Y_has 43 = .ok (.iload_n 3, 1) := by decide +kernel
theorem d_Y_has_44 : decode b_Y_has 44 = .ok (.invokevirtual 40, 3) := by decide +kernel
theorem d_Y_has_47 : decode b_Y_has 47 = .ok (.ifCond .eq 5, 3) := by decide +kernel
theorem d_Y_has_50 : decode b_Y_has 50 = .ok (.iconst 1, 1) := by decide +kernel
theorem d_Y_has_51 : decode b_Y_has 51 = .ok (.ireturn, 1) := by decide +kernel
theorem d_Y_has_52 : decode b_Y_has 52 = .ok (.iinc 3 1, 3) := by decide +kernel
theorem d_Y_has_55 : decode b_Y_has 55 = .ok (.goto (-44), 3) := by decide +kernel
theorem d_Y_has_58 : decode b_Y_has 58 = .ok (.iconst 0, 1) := by decide +kernel
theorem d_Y_has_59 : decode b_Y_has 59 = .ok (.ireturn, 1) := by decide +kernel
theorem d_Y_values_0 : decode b_Y_values 0 = .ok (.iload_n 1, 1) := by decide +kernel
theorem d_Y_values_1 : decode b_Y_values 1 = .ok (.invokestatic 26, 3) := by decide +kernel
theorem d_Y_values_4 : decode b_Y_values 4 = .ok (.ifCond .eq 5, 3) := by decide +kernel
theorem d_Y_values_7 : decode b_Y_values 7 = .ok (.iconst (-1), 1) := by decide +kernel
theorem d_Y_values_8 : decode b_Y_values 8 = .ok (.ireturn, 1) := by decide +kernel
theorem d_Y_values_9 : decode b_Y_values 9 = .ok (.iconst 0, 1) := by decide +kernel
theorem d_Y_values_10 : decode b_Y_values 10 = .ok (.istore_n 2, 1) := by decide +kernel
theorem d_Y_values_11 : decode b_Y_values 11 = .ok (.iconst 0, 1) := by decide +kernel
theorem d_Y_values_12 : decode b_Y_values 12 = .ok (.istore_n 3, 1) := by decide +kernel
theorem d_Y_values_13 : decode b_Y_values 13 = .ok (.iload_n 3, 1) := by decide +kernel
theorem d_Y_values_14 : decode b_Y_values 14 = .ok (.aload_n 0, 1) := by decide +kernel
theorem d_Y_values_15 : decode b_Y_values 15 = .ok (.getfield 30, 3) := by decide +kernel
theorem d_Y_values_18 : decode b_Y_values 18 = .ok (.if_icmp .ge 31, 3) := by decide +kernel
theorem d_Y_values_21 : decode b_Y_values 21 = .ok (.aload_n 0, 1) := by decide +kernel
theorem d_Y_values_22 : decode b_Y_values 22 = .ok (.getfield 7, 3) := by decide +kernel
theorem d_Y_values_25 : decode b_Y_values 25 = .ok (.iload_n 3, 1) := by decide +kernel
theorem d_Y_values_26 : decode b_Y_values 26 = .ok (.iaload, 1) := by decide +kernel
theorem d_Y_values_27 : decode b_Y_values 27 = .ok (.iconst 2, 1) := by decide +kernel
theorem d_Y_values_28 : decode b_Y_values 28 = .ok (.if_icmp .ne 15, 3) := by decide +kernel
theorem d_Y_values_31 : decode b_Y_values 31 = .ok (.aload_n 0, 1) := by decide +kernel
theorem d_Y_values_32 : decode b_Y_values 32 = .ok (.iload_n 1, 1) := by decide +kernel
theorem d_Y_values_33 : decode b_Y_values 33 = .ok (.iload_n 3, 1) := by decide +kernel
theorem d_Y_values_34 : decode b_Y_values 34 = .ok (.invokevirtual 40, 3) := by decide +kernel
theorem d_Y_values_37 : decode b_Y_values 37 = .ok (.ifCond .eq 6, 3) := by decide +kernel
theorem d_Y_values_40 : decode b_Y_values 40 = .ok (.iinc 2 1, 3) := by decide +kernel
theorem d_Y_values_43 : decode b_Y_values 43 = .ok (.iinc 3 1, 3) := by decide +kernel
theorem d_Y_values_46 : decode b_Y_values 46 = .ok (.goto (-33), 3) := by decide +kernel
theorem d_Y_values_49 : decode b_Y_values 49 = .ok (.iload_n 2, 1) := by decide +kernel
theorem d_Y_values_50 : decode b_Y_values 50 = .ok (.ireturn, 1) := by decide +kernel
theorem d_Y_under_0 : decode b_Y_under 0 = .ok (.iconst 0, 1) := by decide +kernel
theorem d_Y_under_1 : decode b_Y_under 1 = .ok (.istore 4, 2) := by decide +kernel
theorem d_Y_under_3 : decode b_Y_under 3 = .ok (.iconst 0, 1) := by decide +kernel
theorem d_Y_under_4 : decode b_Y_under 4 = .ok (.istore 5, 2) := by decide +kernel
theorem d_Y_under_6 : decode b_Y_under 6 = .ok (.iload 5, 2) := by decide +kernel
theorem d_Y_under_8 : decode b_Y_under 8 = .ok (.aload_n 0, 1) := by decide +kernel
theorem d_Y_under_9 : decode b_Y_under 9 = .ok (.getfield 30, 3) := by decide +kernel
theorem d_Y_under_12 : decode b_Y_under 12 = .ok (.if_icmp .ge 71, 3) := by decide +kernel
theorem d_Y_under_15 : decode b_Y_under 15 = .ok (.aload_n 0, 1) := by decide +kernel
theorem d_Y_under_16 : decode b_Y_under 16 = .ok (.getfield 13, 3) := by decide +kernel
theorem d_Y_under_19 : decode b_Y_under 19 = .ok (.iload 5, 2) := by decide +kernel
theorem d_Y_under_21 : decode b_Y_under 21 = .ok (.iaload, 1) := by decide +kernel
theorem d_Y_under_22 : decode b_Y_under 22 = .ok (.iload_n 2, 1) := by decide +kernel
theorem d_Y_under_23 : decode b_Y_under 23 = .ok (.if_icmp .lt 18, 3) := by decide +kernel
theorem d_Y_under_26 : decode b_Y_under 26 = .ok (.iload_n 3, 1) := by decide +kernel
theorem d_Y_under_27 : decode b_Y_under 27 = .ok (.ifCond .eq 18, 3) := by decide +kernel
theorem d_Y_under_30 : decode b_Y_under 30 = .ok (.aload_n 0, 1) := by decide +kernel
theorem d_Y_under_31 : decode b_Y_under 31 = .ok (.getfield 13, 3) := by decide +kernel
theorem d_Y_under_34 : decode b_Y_under 34 = .ok (.iload 5, 2) := by decide +kernel
theorem d_Y_under_36 : decode b_Y_under 36 = .ok (.iaload, 1) := by decide +kernel
theorem d_Y_under_37 : decode b_Y_under 37 = .ok (.iload_n 2, 1) := by decide +kernel
theorem d_Y_under_38 : decode b_Y_under 38 = .ok (.if_icmp .ne 7, 3) := by decide +kernel
theorem d_Y_under_41 : decode b_Y_under 41 = .ok (.iconst 1, 1) := by decide +kernel
theorem d_Y_under_42 : decode b_Y_under 42 = .ok (.goto 4, 3) := by decide +kernel
theorem d_Y_under_45 : decode b_Y_under 45 = .ok (.iconst 0, 1) := by decide +kernel
theorem d_Y_under_46 : decode b_Y_under 46 = .ok (.istore 6, 2) := by decide +kernel
theorem d_Y_under_48 : decode b_Y_under 48 = .ok (.aload_n 0, 1) := by decide +kernel
theorem d_Y_under_49 : decode b_Y_under 49 = .ok (.getfield 7, 3) := by decide +kernel
theorem d_Y_under_52 : decode b_Y_under 52 = .ok (.iload 5, 2) := by decide +kernel
theorem d_Y_under_54 : decode b_Y_under 54 = .ok (.iaload, 1) := by decide +kernel
theorem d_Y_under_55 : decode b_Y_under 55 = .ok (.iconst 2, 1) := by decide +kernel
theorem d_Y_under_56 : decode b_Y_under 56 = .ok (.if_icmp .ne 21, 3) := by decide +kernel
theorem d_Y_under_59 : decode b_Y_under 59 = .ok (.iload 6, 2) := by decide +kernel
theorem d_Y_under_61 : decode b_Y_under 61 = .ok (.ifCond .eq 16, 3) := by decide +kernel
theorem d_Y_under_64 : decode b_Y_under 64 = .ok (.aload_n 0, 1) := by decide +kernel
theorem d_Y_under_65 : decode b_Y_under 65 = .ok (.iload_n 1, 1) := by decide +kernel
theorem d_Y_under_66 : decode b_Y_under 66 = .ok (.iload 5, 2) := by decide +kernel
theorem d_Y_under_68 : decode b_Y_under 68 = .ok (.invokevirtual 40, 3) := by decide +kernel
theorem d_Y_under_71 : decode b_Y_under 71 = .ok (.ifCond .eq 6, 3) := by decide +kernel
theorem d_Y_under_74 : decode b_Y_under 74 = .ok (.iinc 4 1, 3) := by decide +kernel
theorem d_Y_under_77 : decode b_Y_under 77 = .ok (.iinc 5 1, 3) := by decide +kernel
theorem d_Y_under_80 : decode b_Y_under 80 = .ok (.goto (-74), 3) := by decide +kernel
theorem d_Y_under_83 : decode b_Y_under 83 = .ok (.iload 4, 2) := by decide +kernel
theorem d_Y_under_85 : decode b_Y_under 85 = .ok (.ireturn, 1) := by decide +kernel
theorem d_Y_value_0 : decode b_Y_value 0 = .ok (.iload_n 1, 1) := by decide +kernel
theorem d_Y_value_1 : decode b_Y_value 1 = .ok (.invokestatic 26, 3) := by decide +kernel
theorem d_Y_value_4 : decode b_Y_value 4 = .ok (.ifCond .eq 5, 3) := by decide +kernel
theorem d_Y_value_7 : decode b_Y_value 7 = .ok (.iconst 0, 1) := by decide +kernel
theorem d_Y_value_8 : decode b_Y_value 8 = .ok (.ireturn, 1) := by decide +kernel
theorem d_Y_value_9 : decode b_Y_value 9 = .ok (.iconst 0, 1) := by decide +kernel
theorem d_Y_value_10 : decode b_Y_value 10 = .ok (.istore_n 3, 1) := by decide +kernel
theorem d_Y_value_11 : decode b_Y_value 11 = .ok (.iload_n 3, 1) := by decide +kernel
theorem d_Y_value_12 : decode b_Y_value 12 = .ok (.aload_n 0, 1) := by decide +kernel
theorem d_Y_value_13 : decode b_Y_value 13 = .ok (.getfield 30, 3) := by decide +kernel
theorem d_Y_value_16 : decode b_Y_value 16 = .ok (.if_icmp .ge 75, 3) := by decide +kernel
theorem d_Y_value_19 : decode b_Y_value 19 = .ok (.aload_n 0, 1) := by decide +kernel
theorem d_Y_value_20 : decode b_Y_value 20 = .ok (.getfield 7, 3) := by decide +kernel
theorem d_Y_value_23 : decode b_Y_value 23 = .ok (.iload_n 3, 1) := by decide +kernel
theorem d_Y_value_24 : decode b_Y_value 24 = .ok (.iaload, 1) := by decide +kernel
theorem d_Y_value_25 : decode b_Y_value 25 = .ok (.iconst 2, 1) := by decide +kernel
theorem d_Y_value_26 : decode b_Y_value 26 = .ok (.if_icmp .ne 59, 3) := by decide +kernel
theorem d_Y_value_29 : decode b_Y_value 29 = .ok (.aload_n 0, 1) := by decide +kernel
theorem d_Y_value_30 : decode b_Y_value 30 = .ok (.iload_n 1, 1) := by decide +kernel
theorem d_Y_value_31 : decode b_Y_value 31 = .ok (.iload_n 3, 1) := by decide +kernel
theorem d_Y_value_32 : decode b_Y_value 32 = .ok (.invokevirtual 40, 3) := by decide +kernel
theorem d_Y_value_35 : decode b_Y_value 35 = .ok (.ifCond .eq 50, 3) := by decide +kernel
theorem d_Y_value_38 : decode b_Y_value 38 = .ok (.aload_n 0, 1) := by decide +kernel
theorem d_Y_value_39 : decode b_Y_value 39 = .ok (.iload_n 1, 1) := by decide +kernel
theorem d_Y_value_40 : decode b_Y_value 40 = .ok (.aload_n 0, 1) := by decide +kernel
theorem d_Y_value_41 : decode b_Y_value 41 = .ok (.getfield 13, 3) := by decide +kernel
theorem d_Y_value_44 : decode b_Y_value 44 = .ok (.iload_n 3, 1) := by decide +kernel
theorem d_Y_value_45 : decode b_Y_value 45 = .ok (.iaload, 1) := by decide +kernel
theorem d_Y_value_46 : decode b_Y_value 46 = .ok (.iconst 0, 1) := by decide +kernel
theorem d_Y_value_47 : decode b_Y_value 47 = .ok (.invokevirtual 44, 3) := by decide +kernel
theorem d_Y_value_50 : decode b_Y_value 50 = .ok (.istore 4, 2) := by decide +kernel
theorem d_Y_value_52 : decode b_Y_value 52 = .ok (.aload_n 0, 1) := by decide +kernel
theorem d_Y_value_53 : decode b_Y_value 53 = .ok (.iload_n 1, 1) := by decide +kernel
theorem d_Y_value_54 : decode b_Y_value 54 = .ok (.aload_n 0, 1) := by decide +kernel
theorem d_Y_value_55 : decode b_Y_value 55 = .ok (.getfield 13, 3) := by decide +kernel
theorem d_Y_value_58 : decode b_Y_value 58 = .ok (.iload_n 3, 1) := by decide +kernel
theorem d_Y_value_59 : decode b_Y_value 59 = .ok (.iaload, 1) := by decide +kernel
theorem d_Y_value_60 : decode b_Y_value 60 = .ok (.iconst 1, 1) := by decide +kernel
theorem d_Y_value_61 : decode b_Y_value 61 = .ok (.invokevirtual 44, 3) := by decide +kernel
theorem d_Y_value_64 : decode b_Y_value 64 = .ok (.istore 5, 2) := by decide +kernel
theorem d_Y_value_66 : decode b_Y_value 66 = .ok (.iload 4, 2) := by decide +kernel
theorem d_Y_value_68 : decode b_Y_value 68 = .ok (.iload_n 2, 1) := by decide +kernel
theorem d_Y_value_69 : decode b_Y_value 69 = .ok (.if_icmp .gt 16, 3) := by decide +kernel
theorem d_Y_value_72 : decode b_Y_value 72 = .ok (.iload_n 2, 1) := by decide +kernel
theorem d_Y_value_73 : decode b_Y_value 73 = .ok (.iload 5, 2) := by decide +kernel
theorem d_Y_value_75 : decode b_Y_value 75 = .ok (.if_icmp .ge 10, 3) := by decide +kernel
theorem d_Y_value_78 : decode b_Y_value 78 = .ok (.aload_n 0, 1) := by decide +kernel
theorem d_Y_value_79 : decode b_Y_value 79 = .ok (.getfield 13, 3) := by decide +kernel
theorem d_Y_value_82 : decode b_Y_value 82 = .ok (.iload_n 3, 1) := by decide +kernel
theorem d_Y_value_83 : decode b_Y_value 83 = .ok (.iaload, 1) := by decide +kernel
theorem d_Y_value_84 : decode b_Y_value 84 = .ok (.ireturn, 1) := by decide +kernel
theorem d_Y_value_85 : decode b_Y_value 85 = .ok (.iinc 3 1, 3) := by decide +kernel
theorem d_Y_value_88 : decode b_Y_value 88 = .ok (.goto (-77), 3) := by decide +kernel
theorem d_Y_value_91 : decode b_Y_value 91 = .ok (.iconst 0, 1) := by decide +kernel
theorem d_Y_value_92 : decode b_Y_value 92 = .ok (.ireturn, 1) := by decide +kernel
theorem d_Y_total_0 : decode b_Y_total 0 = .ok (.iload_n 1, 1) := by decide +kernel
theorem d_Y_total_1 : decode b_Y_total 1 = .ok (.invokestatic 26, 3) := by decide +kernel
theorem d_Y_total_4 : decode b_Y_total 4 = .ok (.ifCond .eq 5, 3) := by decide +kernel
theorem d_Y_total_7 : decode b_Y_total 7 = .ok (.iconst 0, 1) := by decide +kernel
theorem d_Y_total_8 : decode b_Y_total 8 = .ok (.ireturn, 1) := by decide +kernel
theorem d_Y_total_9 : decode b_Y_total 9 = .ok (.iconst 0, 1) := by decide +kernel
theorem d_Y_total_10 : decode b_Y_total 10 = .ok (.istore_n 2, 1) := by decide +kernel
theorem d_Y_total_11 : decode b_Y_total 11 = .ok (.iconst 0, 1) := by decide +kernel
theorem d_Y_total_12 : decode b_Y_total 12 = .ok (.istore_n 3, 1) := by decide +kernel
theorem d_Y_total_13 : decode b_Y_total 13 = .ok (.iload_n 3, 1) := by decide +kernel
theorem d_Y_total_14 : decode b_Y_total 14 = .ok (.aload_n 0, 1) := by decide +kernel
theorem d_Y_total_15 : decode b_Y_total 15 = .ok (.getfield 30, 3) := by decide +kernel
theorem d_Y_total_18 : decode b_Y_total 18 = .ok (.if_icmp .ge 37, 3) := by decide +kernel
theorem d_Y_total_21 : decode b_Y_total 21 = .ok (.aload_n 0, 1) := by decide +kernel
theorem d_Y_total_22 : decode b_Y_total 22 = .ok (.getfield 7, 3) := by decide +kernel
theorem d_Y_total_25 : decode b_Y_total 25 = .ok (.iload_n 3, 1) := by decide +kernel
theorem d_Y_total_26 : decode b_Y_total 26 = .ok (.iaload, 1) := by decide +kernel
theorem d_Y_total_27 : decode b_Y_total 27 = .ok (.iconst 3, 1) := by decide +kernel
theorem d_Y_total_28 : decode b_Y_total 28 = .ok (.if_icmp .ne 21, 3) := by decide +kernel
theorem d_Y_total_31 : decode b_Y_total 31 = .ok (.aload_n 0, 1) := by decide +kernel
theorem d_Y_total_32 : decode b_Y_total 32 = .ok (.iload_n 1, 1) := by decide +kernel
theorem d_Y_total_33 : decode b_Y_total 33 = .ok (.iload_n 3, 1) := by decide +kernel
theorem d_Y_total_34 : decode b_Y_total 34 = .ok (.invokevirtual 40, 3) := by decide +kernel
theorem d_Y_total_37 : decode b_Y_total 37 = .ok (.ifCond .eq 12, 3) := by decide +kernel
theorem d_Y_total_40 : decode b_Y_total 40 = .ok (.iload_n 2, 1) := by decide +kernel
theorem d_Y_total_41 : decode b_Y_total 41 = .ok (.aload_n 0, 1) := by decide +kernel
theorem d_Y_total_42 : decode b_Y_total 42 = .ok (.getfield 13, 3) := by decide +kernel
theorem d_Y_total_45 : decode b_Y_total 45 = .ok (.iload_n 3, 1) := by decide +kernel
theorem d_Y_total_46 : decode b_Y_total 46 = .ok (.iaload, 1) := by decide +kernel
theorem d_Y_total_47 : decode b_Y_total 47 = .ok (.iadd, 1) := by decide +kernel
theorem d_Y_total_48 : decode b_Y_total 48 = .ok (.istore_n 2, 1) := by decide +kernel
theorem d_Y_total_49 : decode b_Y_total 49 = .ok (.iinc 3 1, 3) := by decide +kernel
theorem d_Y_total_52 : decode b_Y_total 52 = .ok (.goto (-39), 3) := by decide +kernel
theorem d_Y_total_55 : decode b_Y_total 55 = .ok (.iload_n 2, 1) := by decide +kernel
theorem d_Y_total_56 : decode b_Y_total 56 = .ok (.ireturn, 1) := by decide +kernel
theorem d_Y_known_0 : decode b_Y_known 0 = .ok (.iload_n 1, 1) := by decide +kernel
theorem d_Y_known_1 : decode b_Y_known 1 = .ok (.invokestatic 26, 3) := by decide +kernel
theorem d_Y_known_4 : decode b_Y_known 4 = .ok (.ifCond .ne 10, 3) := by decide +kernel
theorem d_Y_known_7 : decode b_Y_known 7 = .ok (.iload_n 2, 1) := by decide +kernel
theorem d_Y_known_8 : decode b_Y_known 8 = .ok (.invokestatic 26, 3) := by decide +kernel
theorem d_Y_known_11 : decode b_Y_known 11 = .ok (.ifCond .eq 5, 3) := by decide +kernel
theorem d_Y_known_14 : decode b_Y_known 14 = .ok (.iconst (-1), 1) := by decide +kernel
theorem d_Y_known_15 : decode b_Y_known 15 = .ok (.ireturn, 1) := by decide +kernel
theorem d_Y_known_16 : decode b_Y_known 16 = .ok (.iconst 0, 1) := by decide +kernel
theorem d_Y_known_17 : decode b_Y_known 17 = .ok (.istore_n 3, 1) := by decide +kernel
theorem d_Y_known_18 : decode b_Y_known 18 = .ok (.iconst 0, 1) := by decide +kernel
theorem d_Y_known_19 : decode b_Y_known 19 = .ok (.istore 4, 2) := by decide +kernel
theorem d_Y_known_21 : decode b_Y_known 21 = .ok (.iload 4, 2) := by decide +kernel
theorem d_Y_known_23 : decode b_Y_known 23 = .ok (.aload_n 0, 1) := by decide +kernel
theorem d_Y_known_24 : decode b_Y_known 24 = .ok (.getfield 30, 3) := by decide +kernel
theorem d_Y_known_27 : decode b_Y_known 27 = .ok (.if_icmp .ge 39, 3) := by decide +kernel
theorem d_Y_known_30 : decode b_Y_known 30 = .ok (.aload_n 0, 1) := by decide +kernel
theorem d_Y_known_31 : decode b_Y_known 31 = .ok (.getfield 16, 3) := by decide +kernel
theorem d_Y_known_34 : decode b_Y_known 34 = .ok (.iload 4, 2) := by decide +kernel
theorem d_Y_known_36 : decode b_Y_known 36 = .ok (.iaload, 1) := by decide +kernel
theorem d_Y_known_37 : decode b_Y_known 37 = .ok (.iload_n 2, 1) := by decide +kernel
theorem d_Y_known_38 : decode b_Y_known 38 = .ok (.if_icmp .ne 22, 3) := by decide +kernel
theorem d_Y_known_41 : decode b_Y_known 41 = .ok (.aload_n 0, 1) := by decide +kernel
theorem d_Y_known_42 : decode b_Y_known 42 = .ok (.getfield 23, 3) := by decide +kernel
theorem d_Y_known_45 : decode b_Y_known 45 = .ok (.iload_n 1, 1) := by decide +kernel
theorem d_Y_known_46 : decode b_Y_known 46 = .ok (.laload, 1) := by decide +kernel
theorem d_Y_known_47 : decode b_Y_known 47 = .ok (.iload 4, 2) := by decide +kernel
theorem d_Y_known_49 : decode b_Y_known 49 = .ok (.lshr, 1) := by decide +kernel
theorem d_Y_known_50 : decode b_Y_known 50 = .ok (.lconst 1, 1) := by decide +kernel
theorem d_Y_known_51 : decode b_Y_known 51 = .ok (.land, 1) := by decide +kernel
theorem d_Y_known_52 : decode b_Y_known 52 = .ok (.lconst 1, 1) := by decide +kernel
theorem d_Y_known_53 : decode b_Y_known 53 = .ok (.lcmp, 1) := by decide +kernel
theorem d_Y_known_54 : decode b_Y_known 54 = .ok (.ifCond .ne 6, 3) := by decide +kernel
theorem d_Y_known_57 : decode b_Y_known 57 = .ok (.iinc 3 1, 3) := by decide +kernel
theorem d_Y_known_60 : decode b_Y_known 60 = .ok (.iinc 4 1, 3) := by decide +kernel
theorem d_Y_known_63 : decode b_Y_known 63 = .ok (.goto (-42), 3) := by decide +kernel
theorem d_Y_known_66 : decode b_Y_known 66 = .ok (.iload_n 3, 1) := by decide +kernel
theorem d_Y_known_67 : decode b_Y_known 67 = .ok (.ireturn, 1) := by decide +kernel
end
section
theorem d_law_0 : decode code 0 = .ok (.new 7, 3) := by decide +kernel
theorem d_law_3 : decode code 3 = .ok (.dup, 1) := by decide +kernel
theorem d_law_4 : decode code 4 = .ok (.invokespecial 9, 3) := by decide +kernel
theorem d_law_7 : decode code 7 = .ok (.astore_n 1, 1) := by decide +kernel
theorem d_law_8 : decode code 8 = .ok (.new 10, 3) := by decide +kernel
theorem d_law_11 : decode code 11 = .ok (.dup, 1) := by decide +kernel
theorem d_law_12 : decode code 12 = .ok (.invokespecial 12, 3) := by decide +kernel
theorem d_law_15 : decode code 15 = .ok (.astore_n 2, 1) := by decide +kernel
theorem d_law_16 : decode code 16 = .ok (.iconst 0, 1) := by decide +kernel
theorem d_law_17 : decode code 17 = .ok (.istore_n 3, 1) := by decide +kernel
theorem d_law_18 : decode code 18 = .ok (.iload_n 3, 1) := by decide +kernel
theorem d_law_19 : decode code 19 = .ok (.aload_n 0, 1) := by decide +kernel
theorem d_law_20 : decode code 20 = .ok (.arraylength, 1) := by decide +kernel
theorem d_law_21 : decode code 21 = .ok (.iconst 3, 1) := by decide +kernel
theorem d_law_22 : decode code 22 = .ok (.isub, 1) := by decide +kernel
theorem d_law_23 : decode code 23 = .ok (.if_icmp .gt 445, 3) := by decide +kernel
theorem d_law_26 : decode code 26 = .ok (.aload_n 0, 1) := by decide +kernel
theorem d_law_27 : decode code 27 = .ok (.iload_n 3, 1) := by decide +kernel
theorem d_law_28 : decode code 28 = .ok (.iaload, 1) := by decide +kernel
theorem d_law_29 : decode code 29 = .ok (.bipush 15, 2) := by decide +kernel
theorem d_law_31 : decode code 31 = .ok (.iand, 1) := by decide +kernel
theorem d_law_32 : decode code 32 = .ok (.tableswitch 430 0 11 #[64, 97, 130, 163, 196, 219, 252, 285, 318, 341, 374, 397], 64) := by decide +kernel
theorem d_law_96 : decode code 96 = .ok (.aload_n 1, 1) := by decide +kernel
theorem d_law_97 : decode code 97 = .ok (.aload_n 0, 1) := by decide +kernel
theorem d_law_98 : decode code 98 = .ok (.iload_n 3, 1) := by decide +kernel
theorem d_law_99 : decode code 99 = .ok (.iconst 1, 1) := by decide +kernel
theorem d_law_100 : decode code 100 = .ok (.iadd, 1) := by decide +kernel
theorem d_law_101 : decode code 101 = .ok (.iaload, 1) := by decide +kernel
theorem d_law_102 : decode code 102 = .ok (.aload_n 0, 1) := by decide +kernel
theorem d_law_103 : decode code 103 = .ok (.iload_n 3, 1) := by decide +kernel
theorem d_law_104 : decode code 104 = .ok (.iconst 2, 1) := by decide +kernel
theorem d_law_105 : decode code 105 = .ok (.iadd, 1) := by decide +kernel
theorem d_law_106 : decode code 106 = .ok (.iaload, 1) := by decide +kernel
theorem d_law_107 : decode code 107 = .ok (.invokevirtual 13, 3) := by decide +kernel
theorem d_law_110 : decode code 110 = .ok (.aload_n 2, 1) := by decide +kernel
theorem d_law_111 : decode code 111 = .ok (.aload_n 0, 1) := by decide +kernel
theorem d_law_112 : decode code 112 = .ok (.iload_n 3, 1) := by decide +kernel
theorem d_law_113 : decode code 113 = .ok (.iconst 1, 1) := by decide +kernel
theorem d_law_114 : decode code 114 = .ok (.iadd, 1) := by decide +kernel
theorem d_law_115 : decode code 115 = .ok (.iaload, 1) := by decide +kernel
theorem d_law_116 : decode code 116 = .ok (.aload_n 0, 1) := by decide +kernel
theorem d_law_117 : decode code 117 = .ok (.iload_n 3, 1) := by decide +kernel
theorem d_law_118 : decode code 118 = .ok (.iconst 2, 1) := by decide +kernel
theorem d_law_119 : decode code 119 = .ok (.iadd, 1) := by decide +kernel
theorem d_law_120 : decode code 120 = .ok (.iaload, 1) := by decide +kernel
theorem d_law_121 : decode code 121 = .ok (.invokevirtual 17, 3) := by decide +kernel
theorem d_law_124 : decode code 124 = .ok (.if_icmp .eq 338, 3) := by decide +kernel
theorem d_law_127 : decode code 127 = .ok (.iconst 0, 1) := by decide +kernel
theorem d_law_128 : decode code 128 = .ok (.ireturn, 1) := by decide +kernel
theorem d_law_129 : decode code 129 = .ok (.aload_n 1, 1) := by decide +kernel
theorem d_law_130 : decode code 130 = .ok (.aload_n 0, 1) := by decide +kernel
theorem d_law_131 : decode code 131 = .ok (.iload_n 3, 1) := by decide +kernel
theorem d_law_132 : decode code 132 = .ok (.iconst 1, 1) := by decide +kernel
theorem d_law_133 : decode code 133 = .ok (.iadd, 1) := by decide +kernel
theorem d_law_134 : decode code 134 = .ok (.iaload, 1) := by decide +kernel
theorem d_law_135 : decode code 135 = .ok (.aload_n 0, 1) := by decide +kernel
theorem d_law_136 : decode code 136 = .ok (.iload_n 3, 1) := by decide +kernel
theorem d_law_137 : decode code 137 = .ok (.iconst 2, 1) := by decide +kernel
theorem d_law_138 : decode code 138 = .ok (.iadd, 1) := by decide +kernel
theorem d_law_139 : decode code 139 = .ok (.iaload, 1) := by decide +kernel
theorem d_law_140 : decode code 140 = .ok (.invokevirtual 18, 3) := by decide +kernel
theorem d_law_143 : decode code 143 = .ok (.aload_n 2, 1) := by decide +kernel
theorem d_law_144 : decode code 144 = .ok (.aload_n 0, 1) := by decide +kernel
theorem d_law_145 : decode code 145 = .ok (.iload_n 3, 1) := by decide +kernel
theorem d_law_146 : decode code 146 = .ok (.iconst 1, 1) := by decide +kernel
theorem d_law_147 : decode code 147 = .ok (.iadd, 1) := by decide +kernel
theorem d_law_148 : decode code 148 = .ok (.iaload, 1) := by decide +kernel
theorem d_law_149 : decode code 149 = .ok (.aload_n 0, 1) := by decide +kernel
theorem d_law_150 : decode code 150 = .ok (.iload_n 3, 1) := by decide +kernel
theorem d_law_151 : decode code 151 = .ok (.iconst 2, 1) := by decide +kernel
theorem d_law_152 : decode code 152 = .ok (.iadd, 1) := by decide +kernel
theorem d_law_153 : decode code 153 = .ok (.iaload, 1) := by decide +kernel
theorem d_law_154 : decode code 154 = .ok (.invokevirtual 21, 3) := by decide +kernel
theorem d_law_157 : decode code 157 = .ok (.if_icmp .eq 305, 3) := by decide +kernel
theorem d_law_160 : decode code 160 = .ok (.iconst 0, 1) := by decide +kernel
theorem d_law_161 : decode code 161 = .ok (.ireturn, 1) := by decide +kernel
theorem d_law_162 : decode code 162 = .ok (.aload_n 1, 1) := by decide +kernel
theorem d_law_163 : decode code 163 = .ok (.aload_n 0, 1) := by decide +kernel
theorem d_law_164 : decode code 164 = .ok (.iload_n 3, 1) := by decide +kernel
theorem d_law_165 : decode code 165 = .ok (.iconst 1, 1) := by decide +kernel
theorem d_law_166 : decode code 166 = .ok (.iadd, 1) := by decide +kernel
theorem d_law_167 : decode code 167 = .ok (.iaload, 1) := by decide +kernel
theorem d_law_168 : decode code 168 = .ok (.aload_n 0, 1) := by decide +kernel
theorem d_law_169 : decode code 169 = .ok (.iload_n 3, 1) := by decide +kernel
theorem d_law_170 : decode code 170 = .ok (.iconst 2, 1) := by decide +kernel
theorem d_law_171 : decode code 171 = .ok (.iadd, 1) := by decide +kernel
theorem d_law_172 : decode code 172 = .ok (.iaload, 1) := by decide +kernel
theorem d_law_173 : decode code 173 = .ok (.invokevirtual 22, 3) := by decide +kernel
theorem d_law_176 : decode code 176 = .ok (.aload_n 2, 1) := by decide +kernel
theorem d_law_177 : decode code 177 = .ok (.aload_n 0, 1) := by decide +kernel
theorem d_law_178 : decode code 178 = .ok (.iload_n 3, 1) := by decide +kernel
theorem d_law_179 : decode code 179 = .ok (.iconst 1, 1) := by decide +kernel
theorem d_law_180 : decode code 180 = .ok (.iadd, 1) := by decide +kernel
theorem d_law_181 : decode code 181 = .ok (.iaload, 1) := by decide +kernel
theorem d_law_182 : decode code 182 = .ok (.aload_n 0, 1) := by decide +kernel
theorem d_law_183 : decode code 183 = .ok (.iload_n 3, 1) := by decide +kernel
theorem d_law_184 : decode code 184 = .ok (.iconst 2, 1) := by decide +kernel
theorem d_law_185 : decode code 185 = .ok (.iadd, 1) := by decide +kernel
theorem d_law_186 : decode code 186 = .ok (.iaload, 1) := by decide +kernel
theorem d_law_187 : decode code 187 = .ok (.invokevirtual 25, 3) := by decide +kernel
theorem d_law_190 : decode code 190 = .ok (.if_icmp .eq 272, 3) := by decide +kernel
theorem d_law_193 : decode code 193 = .ok (.iconst 0, 1) := by decide +kernel
theorem d_law_194 : decode code 194 = .ok (.ireturn, 1) := by decide +kernel
theorem d_law_195 : decode code 195 = .ok (.aload_n 1, 1) := by decide +kernel
theorem d_law_196 : decode code 196 = .ok (.aload_n 0, 1) := by decide +kernel
theorem d_law_197 : decode code 197 = .ok (.iload_n 3, 1) := by decide +kernel
theorem d_law_198 : decode code 198 = .ok (.iconst 1, 1) := by decide +kernel
theorem d_law_199 : decode code 199 = .ok (.iadd, 1) := by decide +kernel
theorem d_law_200 : decode code 200 = .ok (.iaload, 1) := by decide +kernel
theorem d_law_201 : decode code 201 = .ok (.aload_n 0, 1) := by decide +kernel
theorem d_law_202 : decode code 202 = .ok (.iload_n 3, 1) := by decide +kernel
theorem d_law_203 : decode code 203 = .ok (.iconst 2, 1) := by decide +kernel
theorem d_law_204 : decode code 204 = .ok (.iadd, 1) := by decide +kernel
theorem d_law_205 : decode code 205 = .ok (.iaload, 1) := by decide +kernel
theorem d_law_206 : decode code 206 = .ok (.invokevirtual 26, 3) := by decide +kernel
theorem d_law_209 : decode code 209 = .ok (.aload_n 2, 1) := by decide +kernel
theorem d_law_210 : decode code 210 = .ok (.aload_n 0, 1) := by decide +kernel
theorem d_law_211 : decode code 211 = .ok (.iload_n 3, 1) := by decide +kernel
theorem d_law_212 : decode code 212 = .ok (.iconst 1, 1) := by decide +kernel
theorem d_law_213 : decode code 213 = .ok (.iadd, 1) := by decide +kernel
theorem d_law_214 : decode code 214 = .ok (.iaload, 1) := by decide +kernel
theorem d_law_215 : decode code 215 = .ok (.aload_n 0, 1) := by decide +kernel
theorem d_law_216 : decode code 216 = .ok (.iload_n 3, 1) := by decide +kernel
theorem d_law_217 : decode code 217 = .ok (.iconst 2, 1) := by decide +kernel
theorem d_law_218 : decode code 218 = .ok (.iadd, 1) := by decide +kernel
theorem d_law_219 : decode code 219 = .ok (.iaload, 1) := by decide +kernel
theorem d_law_220 : decode code 220 = .ok (.invokevirtual 29, 3) := by decide +kernel
theorem d_law_223 : decode code 223 = .ok (.if_icmp .eq 239, 3) := by decide +kernel
theorem d_law_226 : decode code 226 = .ok (.iconst 0, 1) := by decide +kernel
theorem d_law_227 : decode code 227 = .ok (.ireturn, 1) := by decide +kernel
theorem d_law_228 : decode code 228 = .ok (.aload_n 1, 1) := by decide +kernel
theorem d_law_229 : decode code 229 = .ok (.aload_n 0, 1) := by decide +kernel
theorem d_law_230 : decode code 230 = .ok (.iload_n 3, 1) := by decide +kernel
theorem d_law_231 : decode code 231 = .ok (.iconst 1, 1) := by decide +kernel
theorem d_law_232 : decode code 232 = .ok (.iadd, 1) := by decide +kernel
theorem d_law_233 : decode code 233 = .ok (.iaload, 1) := by decide +kernel
theorem d_law_234 : decode code 234 = .ok (.invokevirtual 30, 3) := by decide +kernel
theorem d_law_237 : decode code 237 = .ok (.aload_n 2, 1) := by decide +kernel
theorem d_law_238 : decode code 238 = .ok (.aload_n 0, 1) := by decide +kernel
theorem d_law_239 : decode code 239 = .ok (.iload_n 3, 1) := by decide +kernel
theorem d_law_240 : decode code 240 = .ok (.iconst 1, 1) := by decide +kernel
theorem d_law_241 : decode code 241 = .ok (.iadd, 1) := by decide +kernel
theorem d_law_242 : decode code 242 = .ok (.iaload, 1) := by decide +kernel
theorem d_law_243 : decode code 243 = .ok (.invokevirtual 34, 3) := by decide +kernel
theorem d_law_246 : decode code 246 = .ok (.if_icmp .eq 216, 3) := by decide +kernel
theorem d_law_249 : decode code 249 = .ok (.iconst 0, 1) := by decide +kernel
theorem d_law_250 : decode code 250 = .ok (.ireturn, 1) := by decide +kernel
theorem d_law_251 : decode code 251 = .ok (.aload_n 1, 1) := by decide +kernel
theorem d_law_252 : decode code 252 = .ok (.aload_n 0, 1) := by decide +kernel
theorem d_law_253 : decode code 253 = .ok (.iload_n 3, 1) := by decide +kernel
theorem d_law_254 : decode code 254 = .ok (.iconst 1, 1) := by decide +kernel
theorem d_law_255 : decode code 255 = .ok (.iadd, 1) := by decide +kernel
theorem d_law_256 : decode code 256 = .ok (.iaload, 1) := by decide +kernel
theorem d_law_257 : decode code 257 = .ok (.aload_n 0, 1) := by decide +kernel
theorem d_law_258 : decode code 258 = .ok (.iload_n 3, 1) := by decide +kernel
theorem d_law_259 : decode code 259 = .ok (.iconst 2, 1) := by decide +kernel
theorem d_law_260 : decode code 260 = .ok (.iadd, 1) := by decide +kernel
theorem d_law_261 : decode code 261 = .ok (.iaload, 1) := by decide +kernel
theorem d_law_262 : decode code 262 = .ok (.invokevirtual 35, 3) := by decide +kernel
theorem d_law_265 : decode code 265 = .ok (.aload_n 2, 1) := by decide +kernel
theorem d_law_266 : decode code 266 = .ok (.aload_n 0, 1) := by decide +kernel
theorem d_law_267 : decode code 267 = .ok (.iload_n 3, 1) := by decide +kernel
theorem d_law_268 : decode code 268 = .ok (.iconst 1, 1) := by decide +kernel
theorem d_law_269 : decode code 269 = .ok (.iadd, 1) := by decide +kernel
theorem d_law_270 : decode code 270 = .ok (.iaload, 1) := by decide +kernel
theorem d_law_271 : decode code 271 = .ok (.aload_n 0, 1) := by decide +kernel
theorem d_law_272 : decode code 272 = .ok (.iload_n 3, 1) := by decide +kernel
theorem d_law_273 : decode code 273 = .ok (.iconst 2, 1) := by decide +kernel
theorem d_law_274 : decode code 274 = .ok (.iadd, 1) := by decide +kernel
theorem d_law_275 : decode code 275 = .ok (.iaload, 1) := by decide +kernel
theorem d_law_276 : decode code 276 = .ok (.invokevirtual 38, 3) := by decide +kernel
theorem d_law_279 : decode code 279 = .ok (.if_icmp .eq 183, 3) := by decide +kernel
theorem d_law_282 : decode code 282 = .ok (.iconst 0, 1) := by decide +kernel
theorem d_law_283 : decode code 283 = .ok (.ireturn, 1) := by decide +kernel
theorem d_law_284 : decode code 284 = .ok (.aload_n 1, 1) := by decide +kernel
theorem d_law_285 : decode code 285 = .ok (.aload_n 0, 1) := by decide +kernel
theorem d_law_286 : decode code 286 = .ok (.iload_n 3, 1) := by decide +kernel
theorem d_law_287 : decode code 287 = .ok (.iconst 1, 1) := by decide +kernel
theorem d_law_288 : decode code 288 = .ok (.iadd, 1) := by decide +kernel
theorem d_law_289 : decode code 289 = .ok (.iaload, 1) := by decide +kernel
theorem d_law_290 : decode code 290 = .ok (.aload_n 0, 1) := by decide +kernel
theorem d_law_291 : decode code 291 = .ok (.iload_n 3, 1) := by decide +kernel
theorem d_law_292 : decode code 292 = .ok (.iconst 2, 1) := by decide +kernel
theorem d_law_293 : decode code 293 = .ok (.iadd, 1) := by decide +kernel
theorem d_law_294 : decode code 294 = .ok (.iaload, 1) := by decide +kernel
theorem d_law_295 : decode code 295 = .ok (.invokevirtual 39, 3) := by decide +kernel
theorem d_law_298 : decode code 298 = .ok (.aload_n 2, 1) := by decide +kernel
theorem d_law_299 : decode code 299 = .ok (.aload_n 0, 1) := by decide +kernel
theorem d_law_300 : decode code 300 = .ok (.iload_n 3, 1) := by decide +kernel
theorem d_law_301 : decode code 301 = .ok (.iconst 1, 1) := by decide +kernel
theorem d_law_302 : decode code 302 = .ok (.iadd, 1) := by decide +kernel
theorem d_law_303 : decode code 303 = .ok (.iaload, 1) := by decide +kernel
theorem d_law_304 : decode code 304 = .ok (.aload_n 0, 1) := by decide +kernel
theorem d_law_305 : decode code 305 = .ok (.iload_n 3, 1) := by decide +kernel
theorem d_law_306 : decode code 306 = .ok (.iconst 2, 1) := by decide +kernel
theorem d_law_307 : decode code 307 = .ok (.iadd, 1) := by decide +kernel
theorem d_law_308 : decode code 308 = .ok (.iaload, 1) := by decide +kernel
theorem d_law_309 : decode code 309 = .ok (.invokevirtual 42, 3) := by decide +kernel
theorem d_law_312 : decode code 312 = .ok (.if_icmp .eq 150, 3) := by decide +kernel
theorem d_law_315 : decode code 315 = .ok (.iconst 0, 1) := by decide +kernel
theorem d_law_316 : decode code 316 = .ok (.ireturn, 1) := by decide +kernel
theorem d_law_317 : decode code 317 = .ok (.aload_n 1, 1) := by decide +kernel
theorem d_law_318 : decode code 318 = .ok (.aload_n 0, 1) := by decide +kernel
theorem d_law_319 : decode code 319 = .ok (.iload_n 3, 1) := by decide +kernel
theorem d_law_320 : decode code 320 = .ok (.iconst 1, 1) := by decide +kernel
theorem d_law_321 : decode code 321 = .ok (.iadd, 1) := by decide +kernel
theorem d_law_322 : decode code 322 = .ok (.iaload, 1) := by decide +kernel
theorem d_law_323 : decode code 323 = .ok (.aload_n 0, 1) := by decide +kernel
theorem d_law_324 : decode code 324 = .ok (.iload_n 3, 1) := by decide +kernel
theorem d_law_325 : decode code 325 = .ok (.iconst 2, 1) := by decide +kernel
theorem d_law_326 : decode code 326 = .ok (.iadd, 1) := by decide +kernel
theorem d_law_327 : decode code 327 = .ok (.iaload, 1) := by decide +kernel
theorem d_law_328 : decode code 328 = .ok (.invokevirtual 43, 3) := by decide +kernel
theorem d_law_331 : decode code 331 = .ok (.aload_n 2, 1) := by decide +kernel
theorem d_law_332 : decode code 332 = .ok (.aload_n 0, 1) := by decide +kernel
theorem d_law_333 : decode code 333 = .ok (.iload_n 3, 1) := by decide +kernel
theorem d_law_334 : decode code 334 = .ok (.iconst 1, 1) := by decide +kernel
theorem d_law_335 : decode code 335 = .ok (.iadd, 1) := by decide +kernel
theorem d_law_336 : decode code 336 = .ok (.iaload, 1) := by decide +kernel
theorem d_law_337 : decode code 337 = .ok (.aload_n 0, 1) := by decide +kernel
theorem d_law_338 : decode code 338 = .ok (.iload_n 3, 1) := by decide +kernel
theorem d_law_339 : decode code 339 = .ok (.iconst 2, 1) := by decide +kernel
theorem d_law_340 : decode code 340 = .ok (.iadd, 1) := by decide +kernel
theorem d_law_341 : decode code 341 = .ok (.iaload, 1) := by decide +kernel
theorem d_law_342 : decode code 342 = .ok (.invokevirtual 46, 3) := by decide +kernel
theorem d_law_345 : decode code 345 = .ok (.if_icmp .eq 117, 3) := by decide +kernel
theorem d_law_348 : decode code 348 = .ok (.iconst 0, 1) := by decide +kernel
theorem d_law_349 : decode code 349 = .ok (.ireturn, 1) := by decide +kernel
theorem d_law_350 : decode code 350 = .ok (.aload_n 1, 1) := by decide +kernel
theorem d_law_351 : decode code 351 = .ok (.aload_n 0, 1) := by decide +kernel
theorem d_law_352 : decode code 352 = .ok (.iload_n 3, 1) := by decide +kernel
theorem d_law_353 : decode code 353 = .ok (.iconst 1, 1) := by decide +kernel
theorem d_law_354 : decode code 354 = .ok (.iadd, 1) := by decide +kernel
theorem d_law_355 : decode code 355 = .ok (.iaload, 1) := by decide +kernel
theorem d_law_356 : decode code 356 = .ok (.invokevirtual 47, 3) := by decide +kernel
theorem d_law_359 : decode code 359 = .ok (.aload_n 2, 1) := by decide +kernel
theorem d_law_360 : decode code 360 = .ok (.aload_n 0, 1) := by decide +kernel
theorem d_law_361 : decode code 361 = .ok (.iload_n 3, 1) := by decide +kernel
theorem d_law_362 : decode code 362 = .ok (.iconst 1, 1) := by decide +kernel
theorem d_law_363 : decode code 363 = .ok (.iadd, 1) := by decide +kernel
theorem d_law_364 : decode code 364 = .ok (.iaload, 1) := by decide +kernel
theorem d_law_365 : decode code 365 = .ok (.invokevirtual 50, 3) := by decide +kernel
theorem d_law_368 : decode code 368 = .ok (.if_icmp .eq 94, 3) := by decide +kernel
theorem d_law_371 : decode code 371 = .ok (.iconst 0, 1) := by decide +kernel
theorem d_law_372 : decode code 372 = .ok (.ireturn, 1) := by decide +kernel
theorem d_law_373 : decode code 373 = .ok (.aload_n 1, 1) := by decide +kernel
theorem d_law_374 : decode code 374 = .ok (.aload_n 0, 1) := by decide +kernel
theorem d_law_375 : decode code 375 = .ok (.iload_n 3, 1) := by decide +kernel
theorem d_law_376 : decode code 376 = .ok (.iconst 1, 1) := by decide +kernel
theorem d_law_377 : decode code 377 = .ok (.iadd, 1) := by decide +kernel
theorem d_law_378 : decode code 378 = .ok (.iaload, 1) := by decide +kernel
theorem d_law_379 : decode code 379 = .ok (.aload_n 0, 1) := by decide +kernel
theorem d_law_380 : decode code 380 = .ok (.iload_n 3, 1) := by decide +kernel
theorem d_law_381 : decode code 381 = .ok (.iconst 2, 1) := by decide +kernel
theorem d_law_382 : decode code 382 = .ok (.iadd, 1) := by decide +kernel
theorem d_law_383 : decode code 383 = .ok (.iaload, 1) := by decide +kernel
theorem d_law_384 : decode code 384 = .ok (.invokevirtual 51, 3) := by decide +kernel
theorem d_law_387 : decode code 387 = .ok (.aload_n 2, 1) := by decide +kernel
theorem d_law_388 : decode code 388 = .ok (.aload_n 0, 1) := by decide +kernel
theorem d_law_389 : decode code 389 = .ok (.iload_n 3, 1) := by decide +kernel
theorem d_law_390 : decode code 390 = .ok (.iconst 1, 1) := by decide +kernel
theorem d_law_391 : decode code 391 = .ok (.iadd, 1) := by decide +kernel
theorem d_law_392 : decode code 392 = .ok (.iaload, 1) := by decide +kernel
theorem d_law_393 : decode code 393 = .ok (.aload_n 0, 1) := by decide +kernel
theorem d_law_394 : decode code 394 = .ok (.iload_n 3, 1) := by decide +kernel
theorem d_law_395 : decode code 395 = .ok (.iconst 2, 1) := by decide +kernel
theorem d_law_396 : decode code 396 = .ok (.iadd, 1) := by decide +kernel
theorem d_law_397 : decode code 397 = .ok (.iaload, 1) := by decide +kernel
theorem d_law_398 : decode code 398 = .ok (.invokevirtual 54, 3) := by decide +kernel
theorem d_law_401 : decode code 401 = .ok (.if_icmp .eq 61, 3) := by decide +kernel
theorem d_law_404 : decode code 404 = .ok (.iconst 0, 1) := by decide +kernel
theorem d_law_405 : decode code 405 = .ok (.ireturn, 1) := by decide +kernel
theorem d_law_406 : decode code 406 = .ok (.aload_n 1, 1) := by decide +kernel
theorem d_law_407 : decode code 407 = .ok (.aload_n 0, 1) := by decide +kernel
theorem d_law_408 : decode code 408 = .ok (.iload_n 3, 1) := by decide +kernel
theorem d_law_409 : decode code 409 = .ok (.iconst 1, 1) := by decide +kernel
theorem d_law_410 : decode code 410 = .ok (.iadd, 1) := by decide +kernel
theorem d_law_411 : decode code 411 = .ok (.iaload, 1) := by decide +kernel
theorem d_law_412 : decode code 412 = .ok (.invokevirtual 55, 3) := by decide +kernel
theorem d_law_415 : decode code 415 = .ok (.aload_n 2, 1) := by decide +kernel
theorem d_law_416 : decode code 416 = .ok (.aload_n 0, 1) := by decide +kernel
theorem d_law_417 : decode code 417 = .ok (.iload_n 3, 1) := by decide +kernel
theorem d_law_418 : decode code 418 = .ok (.iconst 1, 1) := by decide +kernel
theorem d_law_419 : decode code 419 = .ok (.iadd, 1) := by decide +kernel
theorem d_law_420 : decode code 420 = .ok (.iaload, 1) := by decide +kernel
theorem d_law_421 : decode code 421 = .ok (.invokevirtual 58, 3) := by decide +kernel
theorem d_law_424 : decode code 424 = .ok (.if_icmp .eq 38, 3) := by decide +kernel
theorem d_law_427 : decode code 427 = .ok (.iconst 0, 1) := by decide +kernel
theorem d_law_428 : decode code 428 = .ok (.ireturn, 1) := by decide +kernel
theorem d_law_429 : decode code 429 = .ok (.aload_n 1, 1) := by decide +kernel
theorem d_law_430 : decode code 430 = .ok (.aload_n 0, 1) := by decide +kernel
theorem d_law_431 : decode code 431 = .ok (.iload_n 3, 1) := by decide +kernel
theorem d_law_432 : decode code 432 = .ok (.iconst 1, 1) := by decide +kernel
theorem d_law_433 : decode code 433 = .ok (.iadd, 1) := by decide +kernel
theorem d_law_434 : decode code 434 = .ok (.iaload, 1) := by decide +kernel
theorem d_law_435 : decode code 435 = .ok (.aload_n 0, 1) := by decide +kernel
theorem d_law_436 : decode code 436 = .ok (.iload_n 3, 1) := by decide +kernel
theorem d_law_437 : decode code 437 = .ok (.iconst 2, 1) := by decide +kernel
theorem d_law_438 : decode code 438 = .ok (.iadd, 1) := by decide +kernel
theorem d_law_439 : decode code 439 = .ok (.iaload, 1) := by decide +kernel
theorem d_law_440 : decode code 440 = .ok (.invokevirtual 59, 3) := by decide +kernel
theorem d_law_443 : decode code 443 = .ok (.aload_n 2, 1) := by decide +kernel
theorem d_law_444 : decode code 444 = .ok (.aload_n 0, 1) := by decide +kernel
theorem d_law_445 : decode code 445 = .ok (.iload_n 3, 1) := by decide +kernel
theorem d_law_446 : decode code 446 = .ok (.iconst 1, 1) := by decide +kernel
theorem d_law_447 : decode code 447 = .ok (.iadd, 1) := by decide +kernel
theorem d_law_448 : decode code 448 = .ok (.iaload, 1) := by decide +kernel
theorem d_law_449 : decode code 449 = .ok (.aload_n 0, 1) := by decide +kernel
theorem d_law_450 : decode code 450 = .ok (.iload_n 3, 1) := by decide +kernel
theorem d_law_451 : decode code 451 = .ok (.iconst 2, 1) := by decide +kernel
theorem d_law_452 : decode code 452 = .ok (.iadd, 1) := by decide +kernel
theorem d_law_453 : decode code 453 = .ok (.iaload, 1) := by decide +kernel
theorem d_law_454 : decode code 454 = .ok (.invokevirtual 62, 3) := by decide +kernel
theorem d_law_457 : decode code 457 = .ok (.if_icmp .eq 5, 3) := by decide +kernel
theorem d_law_460 : decode code 460 = .ok (.iconst 0, 1) := by decide +kernel
theorem d_law_461 : decode code 461 = .ok (.ireturn, 1) := by decide +kernel
theorem d_law_462 : decode code 462 = .ok (.iinc 3 3, 3) := by decide +kernel
theorem d_law_465 : decode code 465 = .ok (.goto (-447), 3) := by decide +kernel
theorem d_law_468 : decode code 468 = .ok (.iconst 1, 1) := by decide +kernel
theorem d_law_469 : decode code 469 = .ok (.ireturn, 1) := by decide +kernel
end
section
/-! own rows: numbers, calls and entries over any world -/
theorem nI_inc1 (a : Nat) : nI a + Int32.ofInt 1 = nI (a + 1) := nI_1 a
theorem nI_small {a : Nat} (h : a ≤ 1000) : a < 2 ^ 31 := Nat.lt_of_le_of_lt h (by decide)
/-- a room of a level: k frames below, k times 30 words -/
abbrev z_rm (k : Nat) : Room := { frames := k, cells := 0, slots := 0, locals := 30 * k }
/-- what a walk knows of the machine and the tables -/
def z_C (p : Program) (s : State) (m : MethodId) (args : Array Value) (c : Code) (cc : ByteArray) (nL : Nat) (own : String) (D : va_G) (cI cL : ClassId) : Prop :=
  p.tables.exec = Jvm.exec ∧ c.code = cc ∧ c.maxLocals = nL ∧ s.vm.findClass own = some m.cls ∧ (∀ w ∈ lw_g, w.before args s = true) ∧ va_K D classes [(cI, .int), (cL, .long)] s
/-- the same without the world's classes -/
def z_U (p : Program) (s : State) (m : MethodId) (args : Array Value) (c : Code) (cc : ByteArray) (nL : Nat) (own : String) : Prop :=
  p.tables.exec = Jvm.exec ∧ c.code = cc ∧ c.maxLocals = nL ∧ s.vm.findClass own = some m.cls ∧ (∀ w ∈ lw_g, w.before args s = true)
def z_B (D : va_G) (cI cL : ClassId) (ws : va_W) (U : State) : Prop := va_P D classes ws U.heap ∧ va_K D classes [(cI, .int), (cL, .long)] U ∧ va_D (fun _ => True) ws
def z_W (D : va_G) (A : Nat → Prop) (H0 H : Heap) (locs : List Loc) (ws : va_W) : Prop := va_P D classes ws H ∧ va_D A ws ∧ va_S A H0 H locs ∧ ∀ z, H0.size ≤ z → A z
def z_Qv {S : Type} (D : va_G) (cI cL : ClassId) (post : S → Prop) (f : S → va_W) (A : Nat → Prop) : Array Value → State → Outcome → State → Prop := va_Qv post (fun u t => va_P D classes (f u) t.heap ∧ va_K D classes [(cI, .int), (cL, .long)] t ∧ va_D A (f u)) A
def z_Qi {S : Type} (D : va_G) (cI cL : ClassId) (post : Int32 → S → Prop) (f : S → va_W) (A : Nat → Prop) : Array Value → State → Outcome → State → Prop := va_Qi post (fun u t => va_P D classes (f u) t.heap ∧ va_K D classes [(cI, .int), (cL, .long)] t ∧ va_D A (f u)) A
/-- contracts: read only; writing, void; writing, int; static -/
def z_Mr (l : Launch) (y : MethodName) (b : ByteArray) (n : Nat) (ret : Option FieldType) (k : Nat) (D : va_G) (cI cL : ClassId) (ws : va_W) (as : List Value) (r : Int32) : Prop :=
  Met l y (.code y b n ret :: lw_g) (z_rm k) (va_Pc as (z_B D cI cL ws)) (QcRead r) 0 0 (fun _ => False)
def z_Mv {S : Type} (l : Launch) (y : MethodName) (b : ByteArray) (n : Nat) (k : Nat) (D : va_G) (cI cL : ClassId) (ws : va_W) (as : List Value) (post : S → Prop) (f : S → va_W) : Prop :=
  ∀ sz : Nat, Met l y (.code y b n none :: lw_g) (z_rm k) (va_Pc as (fun U => U.heap.size = sz ∧ z_B D cI cL ws U)) (z_Qv D cI cL post f (va_A ws sz)) 0 0 (va_A ws sz)
def z_Mi {S : Type} (l : Launch) (y : MethodName) (b : ByteArray) (n : Nat) (k : Nat) (D : va_G) (cI cL : ClassId) (ws : va_W) (as : List Value) (post : Int32 → S → Prop) (f : S → va_W) : Prop :=
  ∀ sz : Nat, Met l y (.code y b n (some .int) :: lw_g) (z_rm k) (va_Pc as (fun U => U.heap.size = sz ∧ z_B D cI cL ws U)) (z_Qi D cI cL post f (va_A ws sz)) 0 0 (va_A ws sz)
def z_Ms (l : Launch) (y : MethodName) (b : ByteArray) (n : Nat) (ret : Option FieldType) (k : Nat) (as : List Value) (r : Int32) : Prop :=
  Met l y (.code y b n ret :: lw_g) (z_rm k) (va_Pc as (fun _ => True)) (QcRead r) 0 0 (fun _ => False)
theorem z_blindB {D : va_G} {cI cL : ClassId} {ws : va_W} {as : List Value} : FrameBlind (va_Pc as (z_B D cI cL ws)) := fun a U g mk h => ⟨h.1, h.2.1, va_K.moved (u := U) (U := U.calling g mk a) (Vm.Alike.refl U.vm) h.2.2.1, h.2.2.2⟩
theorem z_blindS {D : va_G} {cI cL : ClassId} {ws : va_W} {as : List Value} {sz : Nat} : FrameBlind (va_Pc as (fun U => U.heap.size = sz ∧ z_B D cI cL ws U)) := fun a U g mk h => ⟨h.1, h.2.1, h.2.2.1, va_K.moved (u := U) (U := U.calling g mk a) (Vm.Alike.refl U.vm) h.2.2.2.1, h.2.2.2.2⟩
theorem z_blindT {as : List Value} : FrameBlind (va_Pc as (fun _ => True)) := fun _ _ _ _ h => h
/-- a virtual call's words -/
def z_L (own C : String) (idx : Nat) (y : MethodName) (b : ByteArray) (n : Nat) (ret : Option FieldType) (k : Nat) : Prop :=
  Cond.methodLink own idx y ∈ lw_g ∧ Cond.instanceMethod y ∈ lw_g ∧ Cond.selects C y y ∈ lw_g ∧ Cond.initialized C ∈ lw_g ∧ Cond.code y b n ret ∈ lw_g ∧ (y.cls = C ∧ y.cls ≠ "java/lang/invoke/MethodHandle" ∧ y.cls ≠ "java/lang/invoke/VarHandle" ∧ (parseMethodDescriptor y.desc).map (fun d => d.parameters.length) = some k)
/-- a static call's words -/
def z_LS (own : String) (idx : Nat) (y : MethodName) (b : ByteArray) (n : Nat) (ret : Option FieldType) (k : Nat) : Prop :=
  Cond.methodLink own idx y ∈ lw_g ∧ Cond.static y ∈ lw_g ∧ Cond.initialized own ∈ lw_g ∧ Cond.code y b n ret ∈ lw_g ∧ (y.cls = own ∧ y.cls ≠ "java/lang/invoke/MethodHandle" ∧ y.cls ≠ "java/lang/invoke/VarHandle" ∧ (parseMethodDescriptor y.desc).map (fun d => d.parameters.length) = some k)
theorem z_goodV {own C : String} {idx : Nat} {y : MethodName} {b : ByteArray} {n : Nat} {ret : Option FieldType} {k : Nat} (h : z_L own C idx y b n ret k) : GoodIn lw_g (wsV own idx C y (.code y b n ret :: lw_g)) := by
  obtain ⟨h1, h2, h3, h4, h5, -⟩ := h
  have key : ∀ w ∈ lw_g, w ∈ lw_g ∧ ((w.onTables && w.keeps) = true ∨ ∃ ty, w = .arrayClass ty) := fun w hw => ⟨hw, lw_g_good hw⟩
  intro w hw
  rcases List.mem_append.mp hw with hw | hw
  · simp only [List.mem_cons, List.not_mem_nil, or_false] at hw
    rcases hw with rfl | rfl | rfl | rfl
    · exact key _ h1
    · exact key _ h2
    · exact key _ h3
    · exact key _ h4
  · rcases List.mem_cons.mp hw with rfl | hw
    · exact key _ h5
    · exact key _ hw
theorem z_goodS {own : String} {idx : Nat} {y : MethodName} {b : ByteArray} {n : Nat} {ret : Option FieldType} {k : Nat} (h : z_LS own idx y b n ret k) : GoodIn lw_g (wsS own idx y (.code y b n ret :: lw_g)) := by
  obtain ⟨h1, h2, h3, h4, -⟩ := h
  have key : ∀ w ∈ lw_g, w ∈ lw_g ∧ ((w.onTables && w.keeps) = true ∨ ∃ ty, w = .arrayClass ty) := fun w hw => ⟨hw, lw_g_good hw⟩
  intro w hw
  rcases List.mem_append.mp hw with hw | hw
  · simp only [List.mem_cons, List.not_mem_nil, or_false] at hw
    rcases hw with rfl | rfl | rfl
    · exact key _ h1
    · exact key _ h2
    · exact key _ h3
  · rcases List.mem_cons.mp hw with rfl | hw
    · exact key _ h4
    · exact key _ hw
theorem z_goodC {y : MethodName} {b : ByteArray} {n : Nat} {ret : Option FieldType} (h : Cond.code y b n ret ∈ lw_g) : GoodIn lw_g (.code y b n ret :: lw_g) := by
  intro w hw
  rcases List.mem_cons.mp hw with rfl | hw
  · exact ⟨h, lw_g_good h⟩
  · exact ⟨hw, lw_g_good hw⟩
section ZR
variable {p : Program} {l : Launch} {e : Env} {R : Room} {s : State} {m : MethodId} {args : Array Value} {below : List Frame} {meth : Method} {c : Code} {H : Heap} {locs : List Loc} {cells slots : Nat} {Q : State → Prop}
variable {cc : ByteArray} {pc : Nat} {ls : Array Slot} {rest : List Value} {D : va_G} {A : Nat → Prop} {H0 : Heap} {cI cL : ClassId} {nL : Nat} {own : String} {ws : va_W}
theorem n_imul (hx : p.tables.exec = Jvm.exec) (hb : c.code = cc) {a b : Nat} (hdg : decode cc pc = .ok (.imul, 1)) (kk : W p l e R s m args below meth c H locs cells slots Q (F0 m (pc + 1) ls (.int (nI (a * b)) :: rest))) : W p l e R s m args below meth c H locs cells slots Q (F0 m pc ls (.int (nI b) :: .int (nI a) :: rest)) := lv_imul hx hb hdg (by rw [pk_mul]; exact kk)
theorem n_iadd (hx : p.tables.exec = Jvm.exec) (hb : c.code = cc) {a b : Nat} (hdg : decode cc pc = .ok (.iadd, 1)) (kk : W p l e R s m args below meth c H locs cells slots Q (F0 m (pc + 1) ls (.int (nI (a + b)) :: rest))) : W p l e R s m args below meth c H locs cells slots Q (F0 m pc ls (.int (nI b) :: .int (nI a) :: rest)) := lv_iadd hx hb hdg (by rw [nI_add]; exact kk)
theorem n_isub (hx : p.tables.exec = Jvm.exec) (hb : c.code = cc) {a b : Nat} (h : b ≤ a) (hdg : decode cc pc = .ok (.isub, 1)) (kk : W p l e R s m args below meth c H locs cells slots Q (F0 m (pc + 1) ls (.int (nI (a - b)) :: rest))) : W p l e R s m args below meth c H locs cells slots Q (F0 m pc ls (.int (nI b) :: .int (nI a) :: rest)) := lv_isub hx hb hdg (by rw [pk_sub h]; exact kk)
theorem n_ge (hx : p.tables.exec = Jvm.exec) (hb : c.code = cc) {a b : Nat} (ha : a ≤ 1000) (hB : b ≤ 1000) {off : Int} {tgt : Nat} (hdg : decode cc pc = .ok (.if_icmp .ge off, 3)) (ht : (pc : Int) + off = (tgt : Int))
    (kt : b ≤ a → W p l e R s m args below meth c H locs cells slots Q (F0 m tgt ls rest)) (kf : a < b → W p l e R s m args below meth c H locs cells slots Q (F0 m (pc + 3) ls rest)) : W p l e R s m args below meth c H locs cells slots Q (F0 m pc ls (.int (nI b) :: .int (nI a) :: rest)) :=
  lv_icmp_ge hx hb hdg ht (fun h => kt ((nI_leI (nI_small hB) (nI_small ha)).mp h)) (fun h => kf (Nat.not_le.mp fun q => h ((nI_leI (nI_small hB) (nI_small ha)).mpr q)))
theorem n_le (hx : p.tables.exec = Jvm.exec) (hb : c.code = cc) {a b : Nat} (ha : a ≤ 1000) (hB : b ≤ 1000) {off : Int} {tgt : Nat} (hdg : decode cc pc = .ok (.if_icmp .le off, 3)) (ht : (pc : Int) + off = (tgt : Int))
    (kt : a ≤ b → W p l e R s m args below meth c H locs cells slots Q (F0 m tgt ls rest)) (kf : b < a → W p l e R s m args below meth c H locs cells slots Q (F0 m (pc + 3) ls rest)) : W p l e R s m args below meth c H locs cells slots Q (F0 m pc ls (.int (nI b) :: .int (nI a) :: rest)) :=
  lv_icmp_le hx hb hdg ht (fun h => kt ((nI_leI (nI_small ha) (nI_small hB)).mp h)) (fun h => kf (Nat.not_le.mp fun q => h ((nI_leI (nI_small ha) (nI_small hB)).mpr q)))
theorem n_gt (hx : p.tables.exec = Jvm.exec) (hb : c.code = cc) {a b : Nat} (ha : a ≤ 1000) (hB : b ≤ 1000) {off : Int} {tgt : Nat} (hdg : decode cc pc = .ok (.if_icmp .gt off, 3)) (ht : (pc : Int) + off = (tgt : Int))
    (kt : b < a → W p l e R s m args below meth c H locs cells slots Q (F0 m tgt ls rest)) (kf : a ≤ b → W p l e R s m args below meth c H locs cells slots Q (F0 m (pc + 3) ls rest)) : W p l e R s m args below meth c H locs cells slots Q (F0 m pc ls (.int (nI b) :: .int (nI a) :: rest)) :=
  lv_icmp_gt hx hb hdg ht (fun h => kt ((nI_ltI (nI_small hB) (nI_small ha)).mp h)) (fun h => kf (Nat.not_lt.mp fun q => h ((nI_ltI (nI_small hB) (nI_small ha)).mpr q)))
theorem n_lt (hx : p.tables.exec = Jvm.exec) (hb : c.code = cc) {a b : Nat} (ha : a ≤ 1000) (hB : b ≤ 1000) {off : Int} {tgt : Nat} (hdg : decode cc pc = .ok (.if_icmp .lt off, 3)) (ht : (pc : Int) + off = (tgt : Int))
    (kt : a < b → W p l e R s m args below meth c H locs cells slots Q (F0 m tgt ls rest)) (kf : b ≤ a → W p l e R s m args below meth c H locs cells slots Q (F0 m (pc + 3) ls rest)) : W p l e R s m args below meth c H locs cells slots Q (F0 m pc ls (.int (nI b) :: .int (nI a) :: rest)) :=
  lv_icmp_lt hx hb hdg ht (fun h => kt ((nI_ltI (nI_small ha) (nI_small hB)).mp h)) (fun h => kf (Nat.not_lt.mp fun q => h ((nI_ltI (nI_small ha) (nI_small hB)).mpr q)))
theorem n_eq (hx : p.tables.exec = Jvm.exec) (hb : c.code = cc) {a b : Nat} (ha : a ≤ 1000) (hB : b ≤ 1000) {off : Int} {tgt : Nat} (hdg : decode cc pc = .ok (.if_icmp .eq off, 3)) (ht : (pc : Int) + off = (tgt : Int))
    (kt : a = b → W p l e R s m args below meth c H locs cells slots Q (F0 m tgt ls rest)) (kf : a ≠ b → W p l e R s m args below meth c H locs cells slots Q (F0 m (pc + 3) ls rest)) : W p l e R s m args below meth c H locs cells slots Q (F0 m pc ls (.int (nI b) :: .int (nI a) :: rest)) :=
  lv_icmp_eq hx hb hdg ht (fun h => kt ((nI_eq (nI_small ha) (nI_small hB)).mp h)) (fun h => kf (fun q => h ((nI_eq (nI_small ha) (nI_small hB)).mpr q)))
theorem n_ne (hx : p.tables.exec = Jvm.exec) (hb : c.code = cc) {a b : Nat} (ha : a ≤ 1000) (hB : b ≤ 1000) {off : Int} {tgt : Nat} (hdg : decode cc pc = .ok (.if_icmp .ne off, 3)) (ht : (pc : Int) + off = (tgt : Int))
    (kt : a ≠ b → W p l e R s m args below meth c H locs cells slots Q (F0 m tgt ls rest)) (kf : a = b → W p l e R s m args below meth c H locs cells slots Q (F0 m (pc + 3) ls rest)) : W p l e R s m args below meth c H locs cells slots Q (F0 m pc ls (.int (nI b) :: .int (nI a) :: rest)) :=
  lv_icmp_ne hx hb hdg ht (fun h => kt (fun q => h ((nI_eq (nI_small ha) (nI_small hB)).mpr q))) (fun h => kf ((nI_eq (nI_small ha) (nI_small hB)).mp h))
theorem n_ifle (hx : p.tables.exec = Jvm.exec) (hb : c.code = cc) {a : Nat} (ha : a ≤ 1000) {off : Int} {tgt : Nat} (hdg : decode cc pc = .ok (.ifCond .le off, 3)) (ht : (pc : Int) + off = (tgt : Int))
    (kt : a = 0 → W p l e R s m args below meth c H locs cells slots Q (F0 m tgt ls rest)) (kf : 0 < a → W p l e R s m args below meth c H locs cells slots Q (F0 m (pc + 3) ls rest)) : W p l e R s m args below meth c H locs cells slots Q (F0 m pc ls (.int (nI a) :: rest)) :=
  lv_if_le hx hb hdg ht (fun h => kt (Nat.eq_zero_of_not_pos fun q => nI_nle q (nI_small ha) h)) (fun h => kf (Nat.pos_of_ne_zero fun q => h (by subst q; decide)))
theorem n_ifne (hx : p.tables.exec = Jvm.exec) (hb : c.code = cc) {a : Nat} (ha : a ≤ 1000) {off : Int} {tgt : Nat} (hdg : decode cc pc = .ok (.ifCond .ne off, 3)) (ht : (pc : Int) + off = (tgt : Int))
    (kt : a ≠ 0 → W p l e R s m args below meth c H locs cells slots Q (F0 m tgt ls rest)) (kf : a = 0 → W p l e R s m args below meth c H locs cells slots Q (F0 m (pc + 3) ls rest)) : W p l e R s m args below meth c H locs cells slots Q (F0 m pc ls (.int (nI a) :: rest)) :=
  lv_if_ne hx hb hdg ht (fun h => kt (fun q => h (by subst q; decide))) (fun h => kf (Nat.eq_zero_of_not_pos fun q => nI_ne0 q (nI_small ha) h))
theorem n_ifeq (hx : p.tables.exec = Jvm.exec) (hb : c.code = cc) {a : Nat} (ha : a ≤ 1000) {off : Int} {tgt : Nat} (hdg : decode cc pc = .ok (.ifCond .eq off, 3)) (ht : (pc : Int) + off = (tgt : Int))
    (kt : a = 0 → W p l e R s m args below meth c H locs cells slots Q (F0 m tgt ls rest)) (kf : a ≠ 0 → W p l e R s m args below meth c H locs cells slots Q (F0 m (pc + 3) ls rest)) : W p l e R s m args below meth c H locs cells slots Q (F0 m pc ls (.int (nI a) :: rest)) :=
  lv_if_eq hx hb hdg ht (fun h => kt (Nat.eq_zero_of_not_pos fun q => nI_ne0 q (nI_small ha) h)) (fun h => kf (fun q => h (by subst q; decide)))
/-- the number on top under another name -/
theorem n_top {x y : Int32} (h : x = y) (kk : W p l e R s m args below meth c H locs cells slots Q (F0 m pc ls (.int y :: rest))) : W p l e R s m args below meth c H locs cells slots Q (F0 m pc ls (.int x :: rest)) := h ▸ kk
-- arrays of a world
theorem z_ild (C : z_C p s m args c cc nL own D cI cL) (P : z_W D A H0 H locs ws) (k : Nat) {a n j : Nat} {f : Nat → Int32} (ha : ws[k]? = some (a, .inl (cI, n, .inl f))) (hn : n ≤ 1000) (hj : j < n) (hdg : decode cc pc = .ok (.iaload, 1))
    (kk : W p l e R s m args below meth c H locs cells slots Q (F0 m (pc + 1) ls (.int (f j) :: rest))) : W p l e R s m args below meth c H locs cells slots Q (F0 m pc ls (.int (nI j) :: .ref a :: rest)) := by
  have hc : (nI j).toNatClampNeg = j := nI_clamp (nI_small (by omega))
  refine va_iald C.1 C.2.1 C.2.2.2.2.2 P.1 k 0 ha rfl (vp_in_nI hj (nI_small hn)) hdg ?_
  rw [hc]
  exact kk
theorem z_lld (C : z_C p s m args c cc nL own D cI cL) (P : z_W D A H0 H locs ws) (k : Nat) {a n j : Nat} {f : Nat → Int64} (ha : ws[k]? = some (a, .inl (cL, n, .inr (.inl f)))) (hn : n ≤ 1000) (hj : j < n) (hdg : decode cc pc = .ok (.laload, 1))
    (kk : W p l e R s m args below meth c H locs cells slots Q (F0 m (pc + 1) ls (.long (f j) :: rest))) : W p l e R s m args below meth c H locs cells slots Q (F0 m pc ls (.int (nI j) :: .ref a :: rest)) := by
  have hc : (nI j).toNatClampNeg = j := nI_clamp (nI_small (by omega))
  refine va_lald C.1 C.2.1 C.2.2.2.2.2 P.1 k 1 ha rfl (vp_in_nI hj (nI_small hn)) hdg ?_
  rw [hc]
  exact kk
theorem z_ist (C : z_C p s m args c cc nL own D cI cL) (P : z_W D A H0 H locs ws) (k : Nat) {a n j : Nat} {x : Int32} {f : Nat → Int32} {ws' : va_W} (ha : ws[k]? = some (a, .inl (cI, n, .inl f))) (hn : n ≤ 1000) (hj : j < n) (hs : ws.set k (a, .inl (cI, n, .inl (upd f j x))) = ws') (hdg : decode cc pc = .ok (.iastore, 1))
    (kk : ∀ (H1 : Heap) (locs1 : List Loc), z_W D A H0 H1 locs1 ws' → W p l e R s m args below meth c H1 locs1 cells slots Q (F0 m (pc + 1) ls rest)) : W p l e R s m args below meth c H locs cells slots Q (F0 m pc ls (.int x :: .int (nI j) :: .ref a :: rest)) := by
  have hc : (nI j).toNatClampNeg = j := nI_clamp (nI_small (by omega))
  refine va_iast C.1 C.2.1 C.2.2.2.2.2 P.1 P.2.1 P.2.2.1 k 0 ha rfl (vp_in_nI hj (nI_small hn)) hdg (fun H1 locs1 hP hD hS => ?_)
  rw [hc, hs] at hP hD
  exact kk H1 locs1 ⟨hP, hD, hS, P.2.2.2⟩
theorem z_lst (C : z_C p s m args c cc nL own D cI cL) (P : z_W D A H0 H locs ws) (k : Nat) {a n j : Nat} {x : Int64} {f : Nat → Int64} {ws' : va_W} (ha : ws[k]? = some (a, .inl (cL, n, .inr (.inl f)))) (hn : n ≤ 1000) (hj : j < n) (hs : ws.set k (a, .inl (cL, n, .inr (.inl (vp_updL f j x)))) = ws') (hdg : decode cc pc = .ok (.lastore, 1))
    (kk : ∀ (H1 : Heap) (locs1 : List Loc), z_W D A H0 H1 locs1 ws' → W p l e R s m args below meth c H1 locs1 cells slots Q (F0 m (pc + 1) ls rest)) : W p l e R s m args below meth c H locs cells slots Q (F0 m pc ls (.long x :: .int (nI j) :: .ref a :: rest)) := by
  have hc : (nI j).toNatClampNeg = j := nI_clamp (nI_small (by omega))
  refine va_last C.1 C.2.1 C.2.2.2.2.2 P.1 P.2.1 P.2.2.1 k 1 ha rfl (vp_in_nI hj (nI_small hn)) hdg (fun H1 locs1 hP hD hS => ?_)
  rw [hc, hs] at hP hD
  exact kk H1 locs1 ⟨hP, hD, hS, P.2.2.2⟩
-- calls
theorem z_callr (C : z_C p s m args c cc nL own D cI cL) (P : z_W D A H0 H locs ws) {Cn : String} {ci a idx n k lev : Nat} {y : MethodName} {b : ByteArray} {ret : Option FieldType} {fs : List Value} {T : u_T} {N : Nat} {as : List Value} {r : Int32}
    (hL : z_L own Cn idx y b n ret k) (hc : classes[ci]? = some (Cn, T, N)) (he : ws[0]? = some (a, .inr (ci, fs))) (hM : z_Mr l y b n ret lev D cI cL ws (.ref a :: as) r)
    (hR : lev + 1 ≤ R.frames ∧ 8 + (n + 11) + 30 * lev ≤ R.locals) (hn : as.length = k) (hsz : ls.size = nL) (hr : (rest.map fun v => v.category).sum ≤ 8) (hf : cells ≤ R.cells ∧ slots ≤ R.slots) (hdg : decode cc pc = .ok (.invokevirtual idx, 3))
    {st : List Value} (hst : st = as.reverse ++ .ref a :: rest)
    (kk : W p l e R s m args below meth c H locs cells slots Q (F0 m (pc + 3) ls (.int r :: rest))) : W p l e R s m args below meth c H locs cells slots Q (F0 m pc ls st) := by
  subst hst
  refine W.callR (W.runV (As := as) (rest := rest) ⟨C.1, C.2.1, C.2.2.1, C.2.2.2.1, C.2.2.2.2.1⟩ hM (cwV k C.2.2.2.2.1 (z_goodV hL) rfl rfl rfl hL.2.2.2.2.2 hR) ⟨z_blindB, va_recv C.2.2.2.2.2 P.1 hc he, fun U hU hW => ⟨rfl, by rw [hU]; exact P.1, va_K.moved hW.alike C.2.2.2.2.2, P.2.1.weaken (fun _ _ _ _ => trivial)⟩⟩ rfl hn hsz rfl (lv_room hr) hdg hf) kk
theorem z_calls (C : z_U p s m args c cc nL own) {idx n k lev : Nat} {y : MethodName} {b : ByteArray} {ret : Option FieldType} {as : List Value} {r : Int32}
    (hL : z_LS own idx y b n ret k) (hM : z_Ms l y b n ret lev as r)
    (hR : lev + 1 ≤ R.frames ∧ 8 + (n + 11) + 30 * lev ≤ R.locals) (hn : as.length = k) (hsz : ls.size = nL) (hr : (rest.map fun v => v.category).sum ≤ 8) (hf : cells ≤ R.cells ∧ slots ≤ R.slots) (hdg : decode cc pc = .ok (.invokestatic idx, 3))
    {st : List Value} (hst : st = as.reverse ++ rest)
    (kk : W p l e R s m args below meth c H locs cells slots Q (F0 m (pc + 3) ls (.int r :: rest))) : W p l e R s m args below meth c H locs cells slots Q (F0 m pc ls st) := by
  subst hst
  refine W.callR (W.runS (As := as) (rest := rest) ⟨C.1, C.2.1, C.2.2.1, C.2.2.2.1, C.2.2.2.2⟩ hM (cwS k C.2.2.2.2 (z_goodS hL) rfl rfl rfl hL.2.2.2.2 hR) ⟨z_blindT, fun U hU hW => ⟨rfl, trivial⟩⟩ rfl hn hsz rfl (lv_room hr) hdg hf) kk
theorem z_back {f : va_W} {H1 : Heap} {locs1 : List Loc} {t : State} (P : z_W D A H0 H locs ws) (ht : t.heap = H1) (h : va_P D classes f t.heap ∧ va_K D classes [(cI, .int), (cL, .long)] t ∧ va_D (va_A ws H.size) f) (hfr : ∀ q, va_A ws H.size q → A q) (hS : va_S A H0 H1 locs1) : z_W D A H0 H1 locs1 f :=
  ⟨by rw [← ht]; exact h.1, h.2.2.weaken (fun k q _ hq => hfr q.1 hq), hS, P.2.2.2⟩
theorem z_fr (P : z_W D A H0 H locs ws) : ∀ q, va_A ws H.size q → A q := by
  intro q h
  rcases h with ⟨k, e, h⟩ | h
  · exact P.2.1.2 k (q, e) h
  · exact P.2.2.2 q (Nat.le_trans P.2.2.1.1 h)
theorem z_callv {S : Type} (C : z_C p s m args c cc nL own D cI cL) (P : z_W D A H0 H locs ws) {Cn : String} {ci a idx n k lev : Nat} {y : MethodName} {b : ByteArray} {fs : List Value} {T : u_T} {N : Nat} {as : List Value} {post : S → Prop} {f : S → va_W}
    (hL : z_L own Cn idx y b n none k) (hc : classes[ci]? = some (Cn, T, N)) (he : ws[0]? = some (a, .inr (ci, fs))) (hM : z_Mv l y b n lev D cI cL ws (.ref a :: as) post f)
    (hR : lev + 1 ≤ R.frames ∧ 8 + (n + 11) + 30 * lev ≤ R.locals) (hn : as.length = k) (hsz : ls.size = nL) (hr : (rest.map fun v => v.category).sum ≤ 8) (hf : cells ≤ R.cells ∧ slots ≤ R.slots) (hdg : decode cc pc = .ok (.invokevirtual idx, 3))
    {st : List Value} (hst : st = as.reverse ++ .ref a :: rest)
    (kk : ∀ (u : S) (H1 : Heap) (locs1 : List Loc), post u → z_W D A H0 H1 locs1 (f u) → W p l e R s m args below meth c H1 locs1 cells slots Q (F0 m (pc + 3) ls rest)) : W p l e R s m args below meth c H locs cells slots Q (F0 m pc ls st) := by
  subst hst
  refine va_callv (va_runV (As := as) (rest := rest) ⟨C.1, C.2.1, C.2.2.1, C.2.2.2.1, C.2.2.2.2.1⟩ (hM H.size) (cwV k C.2.2.2.2.1 (z_goodV hL) rfl rfl rfl hL.2.2.2.2.2 hR) ⟨z_blindS, va_recv C.2.2.2.2.2 P.1 hc he, fun U hU hW => ⟨rfl, by rw [hU], by rw [hU]; exact P.1, va_K.moved hW.alike C.2.2.2.2.2, P.2.1.weaken (fun _ _ _ _ => trivial)⟩⟩ rfl hn hsz rfl (lv_room hr) hdg hf) P.2.2.1 (fun q _ h => z_fr P q h) (z_fr P) (fun u t H1 locs ht hvm hw hB hz1 hk1 hS => ?_)
  exact kk u H1 locs hw (z_back P ht hB (z_fr P) hS)
theorem z_calli {S : Type} (C : z_C p s m args c cc nL own D cI cL) (P : z_W D A H0 H locs ws) {Cn : String} {ci a idx n k lev : Nat} {y : MethodName} {b : ByteArray} {fs : List Value} {T : u_T} {N : Nat} {as : List Value} {post : Int32 → S → Prop} {f : S → va_W}
    (hL : z_L own Cn idx y b n (some .int) k) (hc : classes[ci]? = some (Cn, T, N)) (he : ws[0]? = some (a, .inr (ci, fs))) (hM : z_Mi l y b n lev D cI cL ws (.ref a :: as) post f)
    (hR : lev + 1 ≤ R.frames ∧ 8 + (n + 11) + 30 * lev ≤ R.locals) (hn : as.length = k) (hsz : ls.size = nL) (hr : (rest.map fun v => v.category).sum ≤ 8) (hf : cells ≤ R.cells ∧ slots ≤ R.slots) (hdg : decode cc pc = .ok (.invokevirtual idx, 3))
    {st : List Value} (hst : st = as.reverse ++ .ref a :: rest)
    (kk : ∀ (r : Int32) (u : S) (H1 : Heap) (locs1 : List Loc), post r u → z_W D A H0 H1 locs1 (f u) → W p l e R s m args below meth c H1 locs1 cells slots Q (F0 m (pc + 3) ls (.int r :: rest))) : W p l e R s m args below meth c H locs cells slots Q (F0 m pc ls st) := by
  subst hst
  refine va_calli (va_runV (As := as) (rest := rest) ⟨C.1, C.2.1, C.2.2.1, C.2.2.2.1, C.2.2.2.2.1⟩ (hM H.size) (cwV k C.2.2.2.2.1 (z_goodV hL) rfl rfl rfl hL.2.2.2.2.2 hR) ⟨z_blindS, va_recv C.2.2.2.2.2 P.1 hc he, fun U hU hW => ⟨rfl, by rw [hU], by rw [hU]; exact P.1, va_K.moved hW.alike C.2.2.2.2.2, P.2.1.weaken (fun _ _ _ _ => trivial)⟩⟩ rfl hn hsz rfl (lv_room hr) hdg hf) P.2.2.1 (fun q _ h => z_fr P q h) (z_fr P) (fun r u t H1 locs ht hvm hw hB hz1 hk1 hS => ?_)
  exact kk r u H1 locs hw (z_back P ht hB (z_fr P) hS)
-- ends
theorem z_rr (C : z_U p s m args c cc nL own) {r : Int32} {ty : FieldType} (hr : meth.sig.returnType = some ty) (hn : narrow ty (.int r) = .int r) (hlocks : meth.locks = false) (hdg : decode cc pc = .ok (.ireturn, 1)) : W p l e R s m args below meth c s.heap [] 0 0 (MQ below (QcRead r) args s 0 0 (fun _ => False)) (F0 m pc ls [.int r]) :=
  W.zret (v := r) (hlocks := hlocks) C.1 C.2.1 hr hn (fun t ht _ => ⟨rfl, ht⟩) (fun _ h => by cases h) hdg
theorem z_rv {S : Type} {post : S → Prop} {f : S → va_W} (C : z_C p s m args c cc nL own D cI cL) (u : S) (hp : post u) (P : z_W D A s.heap H locs (f u)) (hr : meth.sig.returnType = none) (hlocks : meth.locks = false) (hdg : decode cc pc = .ok (.return_, 1)) : W p l e R s m args below meth c H locs 0 0 (MQ below (z_Qv D cI cL post f A) args s 0 0 A) (F0 m pc ls []) :=
  W.vret (hlocks := hlocks) C.1 C.2.1 hr (fun t ht hW => ⟨⟨u, rfl, hp, by rw [ht]; exact P.1, va_K.moved hW.alike C.2.2.2.2.2, P.2.1⟩, P.2.2.1.F ht⟩) P.2.2.1.2.2 hdg
theorem z_ri {S : Type} {post : Int32 → S → Prop} {f : S → va_W} (C : z_C p s m args c cc nL own D cI cL) (r : Int32) (u : S) (hp : post r u) (P : z_W D A s.heap H locs (f u)) (hr : meth.sig.returnType = some .int) (hlocks : meth.locks = false) (hdg : decode cc pc = .ok (.ireturn, 1)) : W p l e R s m args below meth c H locs 0 0 (MQ below (z_Qi D cI cL post f A) args s 0 0 A) (F0 m pc ls [.int r]) :=
  W.iret (v := r) (hlocks := hlocks) C.1 C.2.1 hr (fun t ht hW => ⟨⟨r, u, rfl, hp, by rw [ht]; exact P.1, va_K.moved hW.alike C.2.2.2.2.2, P.2.1⟩, P.2.2.1.F ht⟩) P.2.2.1.2.2 hdg
end ZR
-- entries
theorem z_mr {l : Launch} {y : MethodName} {b : ByteArray} {n : Nat} {ret : Option FieldType} {k : Nat} {D : va_G} {cI cL : ClassId} {ws : va_W} {as : List Value} {r : Int32} {own : String} (hy : plainName y.cls = true) (ho : y.cls = own) (hlen : (lg_sl as).length ≤ n)
    (body : ∀ (p : Program) (e : Env) (s : State) (m : MethodId) (args : Array Value) (below : List Frame) (meth : Method) (c : Code) (A : Nat → Prop) (ls : Array Slot), z_C p s m args c b n own D cI cL → z_W D A s.heap s.heap [] ws → meth.sig.returnType = ret → meth.locks = false → lv_has ls n (lv_args 0 as) →
      W p l e (z_rm k) s m args below meth c s.heap [] 0 0 (MQ below (QcRead r) args s 0 0 (fun _ => False)) (F0 m 0 ls [])) : z_Mr l y b n ret k D cI cL ws as r := by
  refine Met.ofW (cc := b) (maxL := n) (ret := ret) hy rfl ?_
  intro p e s m args below meth c s₁ B hml hv
  obtain ⟨rfl, hP, hK, hD⟩ := hv
  have hts := atoms_spec (ws := .code y b n ret :: lw_g) B.pre
  have hown : s.vm.findClass own = some m.cls := by rw [← ho]; exact findClass_of_methodNamed B.named
  rw [lg_entry_eq]
  exact body p e s m _ below meth c (va_A ws s.heap.size) _ ⟨B.exec, B.bytes, hml, hown, fun w hw => hts w (List.mem_cons_of_mem _ hw), hK⟩ ⟨hP, hD.self, va_S.rf, fun z h => Or.inr h⟩ B.returns B.notSynchronized (lv_entry as hlen)
theorem z_mv {S : Type} {l : Launch} {y : MethodName} {b : ByteArray} {n : Nat} {k : Nat} {D : va_G} {cI cL : ClassId} {ws : va_W} {as : List Value} {post : S → Prop} {f : S → va_W} {own : String} (hy : plainName y.cls = true) (ho : y.cls = own) (hlen : (lg_sl as).length ≤ n)
    (body : ∀ (p : Program) (e : Env) (s : State) (m : MethodId) (args : Array Value) (below : List Frame) (meth : Method) (c : Code) (A : Nat → Prop) (ls : Array Slot), z_C p s m args c b n own D cI cL → z_W D A s.heap s.heap [] ws → meth.sig.returnType = none → meth.locks = false → lv_has ls n (lv_args 0 as) →
      W p l e (z_rm k) s m args below meth c s.heap [] 0 0 (MQ below (z_Qv D cI cL post f A) args s 0 0 A) (F0 m 0 ls [])) : z_Mv l y b n k D cI cL ws as post f := by
  intro sz
  refine Met.ofW (cc := b) (maxL := n) (ret := none) hy rfl ?_
  intro p e s m args below meth c s₁ B hml hv
  obtain ⟨rfl, rfl, hP, hK, hD⟩ := hv
  have hts := atoms_spec (ws := .code y b n none :: lw_g) B.pre
  have hown : s.vm.findClass own = some m.cls := by rw [← ho]; exact findClass_of_methodNamed B.named
  rw [lg_entry_eq]
  exact body p e s m _ below meth c (va_A ws s.heap.size) _ ⟨B.exec, B.bytes, hml, hown, fun w hw => hts w (List.mem_cons_of_mem _ hw), hK⟩ ⟨hP, hD.self, va_S.rf, fun z h => Or.inr h⟩ B.returns B.notSynchronized (lv_entry as hlen)
theorem z_mi {S : Type} {l : Launch} {y : MethodName} {b : ByteArray} {n : Nat} {k : Nat} {D : va_G} {cI cL : ClassId} {ws : va_W} {as : List Value} {post : Int32 → S → Prop} {f : S → va_W} {own : String} (hy : plainName y.cls = true) (ho : y.cls = own) (hlen : (lg_sl as).length ≤ n)
    (body : ∀ (p : Program) (e : Env) (s : State) (m : MethodId) (args : Array Value) (below : List Frame) (meth : Method) (c : Code) (A : Nat → Prop) (ls : Array Slot), z_C p s m args c b n own D cI cL → z_W D A s.heap s.heap [] ws → meth.sig.returnType = some .int → meth.locks = false → lv_has ls n (lv_args 0 as) →
      W p l e (z_rm k) s m args below meth c s.heap [] 0 0 (MQ below (z_Qi D cI cL post f A) args s 0 0 A) (F0 m 0 ls [])) : z_Mi l y b n k D cI cL ws as post f := by
  intro sz
  refine Met.ofW (cc := b) (maxL := n) (ret := some .int) hy rfl ?_
  intro p e s m args below meth c s₁ B hml hv
  obtain ⟨rfl, rfl, hP, hK, hD⟩ := hv
  have hts := atoms_spec (ws := .code y b n (some .int) :: lw_g) B.pre
  have hown : s.vm.findClass own = some m.cls := by rw [← ho]; exact findClass_of_methodNamed B.named
  rw [lg_entry_eq]
  exact body p e s m _ below meth c (va_A ws s.heap.size) _ ⟨B.exec, B.bytes, hml, hown, fun w hw => hts w (List.mem_cons_of_mem _ hw), hK⟩ ⟨hP, hD.self, va_S.rf, fun z h => Or.inr h⟩ B.returns B.notSynchronized (lv_entry as hlen)
theorem z_ms {l : Launch} {y : MethodName} {b : ByteArray} {n : Nat} {ret : Option FieldType} {k : Nat} {as : List Value} {r : Int32} {own : String} (hy : plainName y.cls = true) (ho : y.cls = own) (hlen : (lg_sl as).length ≤ n)
    (body : ∀ (p : Program) (e : Env) (s : State) (m : MethodId) (args : Array Value) (below : List Frame) (meth : Method) (c : Code) (ls : Array Slot), z_U p s m args c b n own → meth.sig.returnType = ret → meth.locks = false → lv_has ls n (lv_args 0 as) →
      W p l e (z_rm k) s m args below meth c s.heap [] 0 0 (MQ below (QcRead r) args s 0 0 (fun _ => False)) (F0 m 0 ls [])) : z_Ms l y b n ret k as r := by
  refine Met.ofW (cc := b) (maxL := n) (ret := ret) hy rfl ?_
  intro p e s m args below meth c s₁ B hml hv
  obtain ⟨rfl, -⟩ := hv
  have hts := atoms_spec (ws := .code y b n ret :: lw_g) B.pre
  have hown : s.vm.findClass own = some m.cls := by rw [← ho]; exact findClass_of_methodNamed B.named
  rw [lg_entry_eq]
  exact body p e s m _ below meth c _ ⟨B.exec, B.bytes, hml, hown, fun w hw => hts w (List.mem_cons_of_mem _ hw)⟩ B.returns B.notSynchronized (lv_entry as hlen)
theorem z_C.U {p : Program} {s : State} {m : MethodId} {args : Array Value} {c : Code} {cc : ByteArray} {nL : Nat} {own : String} {D : va_G} {cI cL : ClassId} (C : z_C p s m args c cc nL own D cI cL) : z_U p s m args c cc nL own := ⟨C.1, C.2.1, C.2.2.1, C.2.2.2.1, C.2.2.2.2.1⟩
end
section
/-! the worlds of the class (X) and of its reference (Y), rows of their fields and arrays -/
def x_su (g : Nat → Nat → Nat) (k j x : Nat) : Nat → Nat → Nat := fun a b => if a = k ∧ b = j then x else g a b
def x_sv (g : Nat → Nat → Int32) (k j : Nat) (x : Int32) : Nat → Nat → Int32 := fun a b => if a = k ∧ b = j then x else g a b
def x_sb (g : Nat → Nat → Int64) (k j : Nat) (x : Int64) : Nat → Nat → Int64 := fun a b => if a = k ∧ b = j then x else g a b
theorem x_su_upd (g : Nat → Nat → Nat) (k j x : Nat) : upd (fun i => nI (g k i)) j (nI x) = fun i => nI (x_su g k j x k i) := by
  funext i
  by_cases h : i = j <;> simp [upd, x_su, h]
theorem x_sv_upd (g : Nat → Nat → Int32) (k j : Nat) (x : Int32) : upd (g k) j x = x_sv g k j x k := by
  funext i
  by_cases h : i = j <;> simp [upd, x_sv, h]
theorem x_sb_upd (g : Nat → Nat → Int64) (k j : Nat) (x : Int64) : vp_updL (g k) j x = x_sb g k j x k := by
  funext i
  by_cases h : i = j <;> simp [vp_updL, x_sb, h]
theorem x_su_eq (g : Nat → Nat → Nat) (k j x : Nat) : x_su g k j x k j = x := by simp [x_su]
theorem x_su_ne {g : Nat → Nat → Nat} {k j x a b : Nat} (h : ¬ (a = k ∧ b = j)) : x_su g k j x a b = g a b := by simp [x_su, h]
theorem x_sv_eq (g : Nat → Nat → Int32) (k j : Nat) (x : Int32) : x_sv g k j x k j = x := by simp [x_sv]
theorem x_sv_ne {g : Nat → Nat → Int32} {k j : Nat} {x : Int32} {a b : Nat} (h : ¬ (a = k ∧ b = j)) : x_sv g k j x a b = g a b := by simp [x_sv, h]
theorem x_sb_eq (g : Nat → Nat → Int64) (k j : Nat) (x : Int64) : x_sb g k j x k j = x := by simp [x_sb]
theorem x_sb_ne {g : Nat → Nat → Int64} {k j : Nat} {x : Int64} {a b : Nat} (h : ¬ (a = k ∧ b = j)) : x_sb g k j x a b = g a b := by simp [x_sb, h]
def x_ws (q : Nat → Nat) (cI : ClassId) (g : Nat → Nat → Nat) (v : Nat → Nat → Int32) : va_W := [(q 0, .inr (0, [.int (nI (g 0 0)), .ref (q 1), .ref (q 2), .ref (q 3), .ref (q 4), .ref (q 5), .ref (q 6), .ref (q 7), .ref (q 8), .ref (q 9), .ref (q 10)])), (q 1, .inl (cI, 48, .inl (fun i => nI (g 1 i)))), (q 2, .inl (cI, 48, .inl (v 2))), (q 3, .inl (cI, 144, .inl (fun i => nI (g 3 i)))), (q 4, .inl (cI, 3, .inl (fun i => nI (g 4 i)))), (q 5, .inl (cI, 147, .inl (fun i => nI (g 5 i)))), (q 6, .inl (cI, 147, .inl (v 6))), (q 7, .inl (cI, 9, .inl (fun i => nI (g 7 i)))), (q 8, .inl (cI, 9, .inl (fun i => nI (g 8 i)))), (q 9, .inl (cI, 72, .inl (fun i => nI (g 9 i)))), (q 10, .inl (cI, 9, .inl (fun i => nI (g 10 i))))]
def y_ws (q : Nat → Nat) (cI cL : ClassId) (g : Nat → Nat → Nat) (v : Nat → Nat → Int32) (b : Nat → Nat → Int64) : va_W := [(q 0, .inr (1, [.int (nI (g 0 0)), .ref (q 1), .ref (q 2), .ref (q 3), .ref (q 4), .ref (q 5)])), (q 1, .inl (cI, 48, .inl (fun i => nI (g 1 i)))), (q 2, .inl (cI, 48, .inl (v 2))), (q 3, .inl (cI, 48, .inl (fun i => nI (g 3 i)))), (q 4, .inl (cL, 48, .inr (.inl (b 4)))), (q 5, .inl (cL, 3, .inr (.inl (b 5))))]
section XR
variable {p : Program} {l : Launch} {e : Env} {R : Room} {s : State} {m : MethodId} {args : Array Value} {below : List Frame} {meth : Method} {c : Code} {H : Heap} {locs : List Loc} {cells slots : Nat} {Q : State → Prop}
variable {cc : ByteArray} {pc : Nat} {ls : Array Slot} {rest : List Value} {D : va_G} {A : Nat → Prop} {H0 : Heap} {cI cL : ClassId} {nL : Nat} {q : Nat → Nat} {g : Nat → Nat → Nat} {v : Nat → Nat → Int32} {b : Nat → Nat → Int64}
theorem x_g0 (C : z_C p s m args c cc nL R_X D cI cL) (P : z_W D A H0 H locs (x_ws q cI g v)) (hdg : decode cc pc = .ok (.getfield 69, 3)) (kk : W p l e R s m args below meth c H locs cells slots Q (F0 m (pc + 3) ls (.int (nI (g 0 0)) :: rest))) : W p l e R s m args below meth c H locs cells slots Q (F0 m pc ls (.ref (q 0) :: rest)) :=
  va_get (D := D) (cl := classes) (ci := 0) (C := R_X) (T := F_X) (N := 11) (v := .int (nI (g 0 0))) C.1 C.2.1 C.2.2.2.2.1 i_X C.2.2.2.1 C.2.2.2.2.2 P.1 0 rfl rfl 0 (by decide) (C.2.2.2.2.1 _ fl_X_69) (fun _ h => h) rfl hdg kk
theorem x_p0 (C : z_C p s m args c cc nL R_X D cI cL) (P : z_W D A H0 H locs (x_ws q cI g v)) {x : Nat} (hdg : decode cc pc = .ok (.putfield 69, 3)) (kk : ∀ (H1 : Heap) (locs1 : List Loc), z_W D A H0 H1 locs1 (x_ws q cI (x_su g 0 0 x) v) → W p l e R s m args below meth c H1 locs1 cells slots Q (F0 m (pc + 3) ls (rest))) : W p l e R s m args below meth c H locs cells slots Q (F0 m pc ls (.int (nI x) :: .ref (q 0) :: rest)) := by
  refine va_put (D := D) (cl := classes) (ci := 0) (v := .int (nI x)) (ty := .int) (C := R_X) (T := F_X) (N := 11) C.1 C.2.1 C.2.2.2.2.1 i_X t_X t_X_ok n_X C.2.2.2.1 C.2.2.2.2.2 P.1 P.2.1 P.2.2.1 0 rfl rfl 0 (by decide) (C.2.2.2.2.1 _ fl_X_69) (fun _ h => h) rfl (by decide +kernel) rfl rfl (Nat.le_of_ble_eq_true rfl) hdg (fun H1 locs1 hP hD hS => ?_)
  exact kk H1 locs1 ⟨hP, hD, hS, P.2.2.2⟩
theorem x_g1 (C : z_C p s m args c cc nL R_X D cI cL) (P : z_W D A H0 H locs (x_ws q cI g v)) (hdg : decode cc pc = .ok (.getfield 7, 3)) (kk : W p l e R s m args below meth c H locs cells slots Q (F0 m (pc + 3) ls (.ref (q 1) :: rest))) : W p l e R s m args below meth c H locs cells slots Q (F0 m pc ls (.ref (q 0) :: rest)) :=
  va_get (D := D) (cl := classes) (ci := 0) (C := R_X) (T := F_X) (N := 11) (v := .ref (q 1)) C.1 C.2.1 C.2.2.2.2.1 i_X C.2.2.2.1 C.2.2.2.2.2 P.1 0 rfl rfl 1 (by decide) (C.2.2.2.2.1 _ fl_X_7) (fun _ h => h) rfl hdg kk
theorem x_l1 (C : z_C p s m args c cc nL R_X D cI cL) (P : z_W D A H0 H locs (x_ws q cI g v)) {j : Nat} (hj : j < 48) (hdg : decode cc pc = .ok (.iaload, 1)) (kk : W p l e R s m args below meth c H locs cells slots Q (F0 m (pc + 1) ls (.int (nI (g 1 j)) :: rest))) : W p l e R s m args below meth c H locs cells slots Q (F0 m pc ls (.int (nI j) :: .ref (q 1) :: rest)) := z_ild C P 1 rfl (by decide) hj hdg kk
theorem x_s1 (C : z_C p s m args c cc nL R_X D cI cL) (P : z_W D A H0 H locs (x_ws q cI g v)) {j : Nat} {x : Nat} (hj : j < 48) (hdg : decode cc pc = .ok (.iastore, 1)) (kk : ∀ (H1 : Heap) (locs1 : List Loc), z_W D A H0 H1 locs1 (x_ws q cI (x_su g 1 j x) v) → W p l e R s m args below meth c H1 locs1 cells slots Q (F0 m (pc + 1) ls (rest))) : W p l e R s m args below meth c H locs cells slots Q (F0 m pc ls (.int (nI x) :: .int (nI j) :: .ref (q 1) :: rest)) := z_ist C P 1 rfl (by decide) hj (by rw [x_su_upd g 1 j x]; rfl) hdg kk
theorem x_g2 (C : z_C p s m args c cc nL R_X D cI cL) (P : z_W D A H0 H locs (x_ws q cI g v)) (hdg : decode cc pc = .ok (.getfield 13, 3)) (kk : W p l e R s m args below meth c H locs cells slots Q (F0 m (pc + 3) ls (.ref (q 2) :: rest))) : W p l e R s m args below meth c H locs cells slots Q (F0 m pc ls (.ref (q 0) :: rest)) :=
  va_get (D := D) (cl := classes) (ci := 0) (C := R_X) (T := F_X) (N := 11) (v := .ref (q 2)) C.1 C.2.1 C.2.2.2.2.1 i_X C.2.2.2.1 C.2.2.2.2.2 P.1 0 rfl rfl 2 (by decide) (C.2.2.2.2.1 _ fl_X_13) (fun _ h => h) rfl hdg kk
theorem x_l2 (C : z_C p s m args c cc nL R_X D cI cL) (P : z_W D A H0 H locs (x_ws q cI g v)) {j : Nat} (hj : j < 48) (hdg : decode cc pc = .ok (.iaload, 1)) (kk : W p l e R s m args below meth c H locs cells slots Q (F0 m (pc + 1) ls (.int (v 2 j) :: rest))) : W p l e R s m args below meth c H locs cells slots Q (F0 m pc ls (.int (nI j) :: .ref (q 2) :: rest)) := z_ild C P 2 rfl (by decide) hj hdg kk
theorem x_s2 (C : z_C p s m args c cc nL R_X D cI cL) (P : z_W D A H0 H locs (x_ws q cI g v)) {j : Nat} {x : Int32} (hj : j < 48) (hdg : decode cc pc = .ok (.iastore, 1)) (kk : ∀ (H1 : Heap) (locs1 : List Loc), z_W D A H0 H1 locs1 (x_ws q cI g (x_sv v 2 j x)) → W p l e R s m args below meth c H1 locs1 cells slots Q (F0 m (pc + 1) ls (rest))) : W p l e R s m args below meth c H locs cells slots Q (F0 m pc ls (.int x :: .int (nI j) :: .ref (q 2) :: rest)) := z_ist C P 2 rfl (by decide) hj (by rw [x_sv_upd v 2 j x]; rfl) hdg kk
theorem x_g3 (C : z_C p s m args c cc nL R_X D cI cL) (P : z_W D A H0 H locs (x_ws q cI g v)) (hdg : decode cc pc = .ok (.getfield 16, 3)) (kk : W p l e R s m args below meth c H locs cells slots Q (F0 m (pc + 3) ls (.ref (q 3) :: rest))) : W p l e R s m args below meth c H locs cells slots Q (F0 m pc ls (.ref (q 0) :: rest)) :=
  va_get (D := D) (cl := classes) (ci := 0) (C := R_X) (T := F_X) (N := 11) (v := .ref (q 3)) C.1 C.2.1 C.2.2.2.2.1 i_X C.2.2.2.1 C.2.2.2.2.2 P.1 0 rfl rfl 3 (by decide) (C.2.2.2.2.1 _ fl_X_16) (fun _ h => h) rfl hdg kk
theorem x_l3 (C : z_C p s m args c cc nL R_X D cI cL) (P : z_W D A H0 H locs (x_ws q cI g v)) {j : Nat} (hj : j < 144) (hdg : decode cc pc = .ok (.iaload, 1)) (kk : W p l e R s m args below meth c H locs cells slots Q (F0 m (pc + 1) ls (.int (nI (g 3 j)) :: rest))) : W p l e R s m args below meth c H locs cells slots Q (F0 m pc ls (.int (nI j) :: .ref (q 3) :: rest)) := z_ild C P 3 rfl (by decide) hj hdg kk
theorem x_s3 (C : z_C p s m args c cc nL R_X D cI cL) (P : z_W D A H0 H locs (x_ws q cI g v)) {j : Nat} {x : Nat} (hj : j < 144) (hdg : decode cc pc = .ok (.iastore, 1)) (kk : ∀ (H1 : Heap) (locs1 : List Loc), z_W D A H0 H1 locs1 (x_ws q cI (x_su g 3 j x) v) → W p l e R s m args below meth c H1 locs1 cells slots Q (F0 m (pc + 1) ls (rest))) : W p l e R s m args below meth c H locs cells slots Q (F0 m pc ls (.int (nI x) :: .int (nI j) :: .ref (q 3) :: rest)) := z_ist C P 3 rfl (by decide) hj (by rw [x_su_upd g 3 j x]; rfl) hdg kk
theorem x_g4 (C : z_C p s m args c cc nL R_X D cI cL) (P : z_W D A H0 H locs (x_ws q cI g v)) (hdg : decode cc pc = .ok (.getfield 19, 3)) (kk : W p l e R s m args below meth c H locs cells slots Q (F0 m (pc + 3) ls (.ref (q 4) :: rest))) : W p l e R s m args below meth c H locs cells slots Q (F0 m pc ls (.ref (q 0) :: rest)) :=
  va_get (D := D) (cl := classes) (ci := 0) (C := R_X) (T := F_X) (N := 11) (v := .ref (q 4)) C.1 C.2.1 C.2.2.2.2.1 i_X C.2.2.2.1 C.2.2.2.2.2 P.1 0 rfl rfl 4 (by decide) (C.2.2.2.2.1 _ fl_X_19) (fun _ h => h) rfl hdg kk
theorem x_l4 (C : z_C p s m args c cc nL R_X D cI cL) (P : z_W D A H0 H locs (x_ws q cI g v)) {j : Nat} (hj : j < 3) (hdg : decode cc pc = .ok (.iaload, 1)) (kk : W p l e R s m args below meth c H locs cells slots Q (F0 m (pc + 1) ls (.int (nI (g 4 j)) :: rest))) : W p l e R s m args below meth c H locs cells slots Q (F0 m pc ls (.int (nI j) :: .ref (q 4) :: rest)) := z_ild C P 4 rfl (by decide) hj hdg kk
theorem x_s4 (C : z_C p s m args c cc nL R_X D cI cL) (P : z_W D A H0 H locs (x_ws q cI g v)) {j : Nat} {x : Nat} (hj : j < 3) (hdg : decode cc pc = .ok (.iastore, 1)) (kk : ∀ (H1 : Heap) (locs1 : List Loc), z_W D A H0 H1 locs1 (x_ws q cI (x_su g 4 j x) v) → W p l e R s m args below meth c H1 locs1 cells slots Q (F0 m (pc + 1) ls (rest))) : W p l e R s m args below meth c H locs cells slots Q (F0 m pc ls (.int (nI x) :: .int (nI j) :: .ref (q 4) :: rest)) := z_ist C P 4 rfl (by decide) hj (by rw [x_su_upd g 4 j x]; rfl) hdg kk
theorem x_g5 (C : z_C p s m args c cc nL R_X D cI cL) (P : z_W D A H0 H locs (x_ws q cI g v)) (hdg : decode cc pc = .ok (.getfield 22, 3)) (kk : W p l e R s m args below meth c H locs cells slots Q (F0 m (pc + 3) ls (.ref (q 5) :: rest))) : W p l e R s m args below meth c H locs cells slots Q (F0 m pc ls (.ref (q 0) :: rest)) :=
  va_get (D := D) (cl := classes) (ci := 0) (C := R_X) (T := F_X) (N := 11) (v := .ref (q 5)) C.1 C.2.1 C.2.2.2.2.1 i_X C.2.2.2.1 C.2.2.2.2.2 P.1 0 rfl rfl 5 (by decide) (C.2.2.2.2.1 _ fl_X_22) (fun _ h => h) rfl hdg kk
theorem x_l5 (C : z_C p s m args c cc nL R_X D cI cL) (P : z_W D A H0 H locs (x_ws q cI g v)) {j : Nat} (hj : j < 147) (hdg : decode cc pc = .ok (.iaload, 1)) (kk : W p l e R s m args below meth c H locs cells slots Q (F0 m (pc + 1) ls (.int (nI (g 5 j)) :: rest))) : W p l e R s m args below meth c H locs cells slots Q (F0 m pc ls (.int (nI j) :: .ref (q 5) :: rest)) := z_ild C P 5 rfl (by decide) hj hdg kk
theorem x_s5 (C : z_C p s m args c cc nL R_X D cI cL) (P : z_W D A H0 H locs (x_ws q cI g v)) {j : Nat} {x : Nat} (hj : j < 147) (hdg : decode cc pc = .ok (.iastore, 1)) (kk : ∀ (H1 : Heap) (locs1 : List Loc), z_W D A H0 H1 locs1 (x_ws q cI (x_su g 5 j x) v) → W p l e R s m args below meth c H1 locs1 cells slots Q (F0 m (pc + 1) ls (rest))) : W p l e R s m args below meth c H locs cells slots Q (F0 m pc ls (.int (nI x) :: .int (nI j) :: .ref (q 5) :: rest)) := z_ist C P 5 rfl (by decide) hj (by rw [x_su_upd g 5 j x]; rfl) hdg kk
theorem x_g6 (C : z_C p s m args c cc nL R_X D cI cL) (P : z_W D A H0 H locs (x_ws q cI g v)) (hdg : decode cc pc = .ok (.getfield 25, 3)) (kk : W p l e R s m args below meth c H locs cells slots Q (F0 m (pc + 3) ls (.ref (q 6) :: rest))) : W p l e R s m args below meth c H locs cells slots Q (F0 m pc ls (.ref (q 0) :: rest)) :=
  va_get (D := D) (cl := classes) (ci := 0) (C := R_X) (T := F_X) (N := 11) (v := .ref (q 6)) C.1 C.2.1 C.2.2.2.2.1 i_X C.2.2.2.1 C.2.2.2.2.2 P.1 0 rfl rfl 6 (by decide) (C.2.2.2.2.1 _ fl_X_25) (fun _ h => h) rfl hdg kk
theorem x_l6 (C : z_C p s m args c cc nL R_X D cI cL) (P : z_W D A H0 H locs (x_ws q cI g v)) {j : Nat} (hj : j < 147) (hdg : decode cc pc = .ok (.iaload, 1)) (kk : W p l e R s m args below meth c H locs cells slots Q (F0 m (pc + 1) ls (.int (v 6 j) :: rest))) : W p l e R s m args below meth c H locs cells slots Q (F0 m pc ls (.int (nI j) :: .ref (q 6) :: rest)) := z_ild C P 6 rfl (by decide) hj hdg kk
theorem x_s6 (C : z_C p s m args c cc nL R_X D cI cL) (P : z_W D A H0 H locs (x_ws q cI g v)) {j : Nat} {x : Int32} (hj : j < 147) (hdg : decode cc pc = .ok (.iastore, 1)) (kk : ∀ (H1 : Heap) (locs1 : List Loc), z_W D A H0 H1 locs1 (x_ws q cI g (x_sv v 6 j x)) → W p l e R s m args below meth c H1 locs1 cells slots Q (F0 m (pc + 1) ls (rest))) : W p l e R s m args below meth c H locs cells slots Q (F0 m pc ls (.int x :: .int (nI j) :: .ref (q 6) :: rest)) := z_ist C P 6 rfl (by decide) hj (by rw [x_sv_upd v 6 j x]; rfl) hdg kk
theorem x_g7 (C : z_C p s m args c cc nL R_X D cI cL) (P : z_W D A H0 H locs (x_ws q cI g v)) (hdg : decode cc pc = .ok (.getfield 28, 3)) (kk : W p l e R s m args below meth c H locs cells slots Q (F0 m (pc + 3) ls (.ref (q 7) :: rest))) : W p l e R s m args below meth c H locs cells slots Q (F0 m pc ls (.ref (q 0) :: rest)) :=
  va_get (D := D) (cl := classes) (ci := 0) (C := R_X) (T := F_X) (N := 11) (v := .ref (q 7)) C.1 C.2.1 C.2.2.2.2.1 i_X C.2.2.2.1 C.2.2.2.2.2 P.1 0 rfl rfl 7 (by decide) (C.2.2.2.2.1 _ fl_X_28) (fun _ h => h) rfl hdg kk
theorem x_l7 (C : z_C p s m args c cc nL R_X D cI cL) (P : z_W D A H0 H locs (x_ws q cI g v)) {j : Nat} (hj : j < 9) (hdg : decode cc pc = .ok (.iaload, 1)) (kk : W p l e R s m args below meth c H locs cells slots Q (F0 m (pc + 1) ls (.int (nI (g 7 j)) :: rest))) : W p l e R s m args below meth c H locs cells slots Q (F0 m pc ls (.int (nI j) :: .ref (q 7) :: rest)) := z_ild C P 7 rfl (by decide) hj hdg kk
theorem x_s7 (C : z_C p s m args c cc nL R_X D cI cL) (P : z_W D A H0 H locs (x_ws q cI g v)) {j : Nat} {x : Nat} (hj : j < 9) (hdg : decode cc pc = .ok (.iastore, 1)) (kk : ∀ (H1 : Heap) (locs1 : List Loc), z_W D A H0 H1 locs1 (x_ws q cI (x_su g 7 j x) v) → W p l e R s m args below meth c H1 locs1 cells slots Q (F0 m (pc + 1) ls (rest))) : W p l e R s m args below meth c H locs cells slots Q (F0 m pc ls (.int (nI x) :: .int (nI j) :: .ref (q 7) :: rest)) := z_ist C P 7 rfl (by decide) hj (by rw [x_su_upd g 7 j x]; rfl) hdg kk
theorem x_g8 (C : z_C p s m args c cc nL R_X D cI cL) (P : z_W D A H0 H locs (x_ws q cI g v)) (hdg : decode cc pc = .ok (.getfield 31, 3)) (kk : W p l e R s m args below meth c H locs cells slots Q (F0 m (pc + 3) ls (.ref (q 8) :: rest))) : W p l e R s m args below meth c H locs cells slots Q (F0 m pc ls (.ref (q 0) :: rest)) :=
  va_get (D := D) (cl := classes) (ci := 0) (C := R_X) (T := F_X) (N := 11) (v := .ref (q 8)) C.1 C.2.1 C.2.2.2.2.1 i_X C.2.2.2.1 C.2.2.2.2.2 P.1 0 rfl rfl 8 (by decide) (C.2.2.2.2.1 _ fl_X_31) (fun _ h => h) rfl hdg kk
theorem x_l8 (C : z_C p s m args c cc nL R_X D cI cL) (P : z_W D A H0 H locs (x_ws q cI g v)) {j : Nat} (hj : j < 9) (hdg : decode cc pc = .ok (.iaload, 1)) (kk : W p l e R s m args below meth c H locs cells slots Q (F0 m (pc + 1) ls (.int (nI (g 8 j)) :: rest))) : W p l e R s m args below meth c H locs cells slots Q (F0 m pc ls (.int (nI j) :: .ref (q 8) :: rest)) := z_ild C P 8 rfl (by decide) hj hdg kk
theorem x_s8 (C : z_C p s m args c cc nL R_X D cI cL) (P : z_W D A H0 H locs (x_ws q cI g v)) {j : Nat} {x : Nat} (hj : j < 9) (hdg : decode cc pc = .ok (.iastore, 1)) (kk : ∀ (H1 : Heap) (locs1 : List Loc), z_W D A H0 H1 locs1 (x_ws q cI (x_su g 8 j x) v) → W p l e R s m args below meth c H1 locs1 cells slots Q (F0 m (pc + 1) ls (rest))) : W p l e R s m args below meth c H locs cells slots Q (F0 m pc ls (.int (nI x) :: .int (nI j) :: .ref (q 8) :: rest)) := z_ist C P 8 rfl (by decide) hj (by rw [x_su_upd g 8 j x]; rfl) hdg kk
theorem x_g9 (C : z_C p s m args c cc nL R_X D cI cL) (P : z_W D A H0 H locs (x_ws q cI g v)) (hdg : decode cc pc = .ok (.getfield 34, 3)) (kk : W p l e R s m args below meth c H locs cells slots Q (F0 m (pc + 3) ls (.ref (q 9) :: rest))) : W p l e R s m args below meth c H locs cells slots Q (F0 m pc ls (.ref (q 0) :: rest)) :=
  va_get (D := D) (cl := classes) (ci := 0) (C := R_X) (T := F_X) (N := 11) (v := .ref (q 9)) C.1 C.2.1 C.2.2.2.2.1 i_X C.2.2.2.1 C.2.2.2.2.2 P.1 0 rfl rfl 9 (by decide) (C.2.2.2.2.1 _ fl_X_34) (fun _ h => h) rfl hdg kk
theorem x_l9 (C : z_C p s m args c cc nL R_X D cI cL) (P : z_W D A H0 H locs (x_ws q cI g v)) {j : Nat} (hj : j < 72) (hdg : decode cc pc = .ok (.iaload, 1)) (kk : W p l e R s m args below meth c H locs cells slots Q (F0 m (pc + 1) ls (.int (nI (g 9 j)) :: rest))) : W p l e R s m args below meth c H locs cells slots Q (F0 m pc ls (.int (nI j) :: .ref (q 9) :: rest)) := z_ild C P 9 rfl (by decide) hj hdg kk
theorem x_s9 (C : z_C p s m args c cc nL R_X D cI cL) (P : z_W D A H0 H locs (x_ws q cI g v)) {j : Nat} {x : Nat} (hj : j < 72) (hdg : decode cc pc = .ok (.iastore, 1)) (kk : ∀ (H1 : Heap) (locs1 : List Loc), z_W D A H0 H1 locs1 (x_ws q cI (x_su g 9 j x) v) → W p l e R s m args below meth c H1 locs1 cells slots Q (F0 m (pc + 1) ls (rest))) : W p l e R s m args below meth c H locs cells slots Q (F0 m pc ls (.int (nI x) :: .int (nI j) :: .ref (q 9) :: rest)) := z_ist C P 9 rfl (by decide) hj (by rw [x_su_upd g 9 j x]; rfl) hdg kk
theorem x_g10 (C : z_C p s m args c cc nL R_X D cI cL) (P : z_W D A H0 H locs (x_ws q cI g v)) (hdg : decode cc pc = .ok (.getfield 37, 3)) (kk : W p l e R s m args below meth c H locs cells slots Q (F0 m (pc + 3) ls (.ref (q 10) :: rest))) : W p l e R s m args below meth c H locs cells slots Q (F0 m pc ls (.ref (q 0) :: rest)) :=
  va_get (D := D) (cl := classes) (ci := 0) (C := R_X) (T := F_X) (N := 11) (v := .ref (q 10)) C.1 C.2.1 C.2.2.2.2.1 i_X C.2.2.2.1 C.2.2.2.2.2 P.1 0 rfl rfl 10 (by decide) (C.2.2.2.2.1 _ fl_X_37) (fun _ h => h) rfl hdg kk
theorem x_l10 (C : z_C p s m args c cc nL R_X D cI cL) (P : z_W D A H0 H locs (x_ws q cI g v)) {j : Nat} (hj : j < 9) (hdg : decode cc pc = .ok (.iaload, 1)) (kk : W p l e R s m args below meth c H locs cells slots Q (F0 m (pc + 1) ls (.int (nI (g 10 j)) :: rest))) : W p l e R s m args below meth c H locs cells slots Q (F0 m pc ls (.int (nI j) :: .ref (q 10) :: rest)) := z_ild C P 10 rfl (by decide) hj hdg kk
theorem x_s10 (C : z_C p s m args c cc nL R_X D cI cL) (P : z_W D A H0 H locs (x_ws q cI g v)) {j : Nat} {x : Nat} (hj : j < 9) (hdg : decode cc pc = .ok (.iastore, 1)) (kk : ∀ (H1 : Heap) (locs1 : List Loc), z_W D A H0 H1 locs1 (x_ws q cI (x_su g 10 j x) v) → W p l e R s m args below meth c H1 locs1 cells slots Q (F0 m (pc + 1) ls (rest))) : W p l e R s m args below meth c H locs cells slots Q (F0 m pc ls (.int (nI x) :: .int (nI j) :: .ref (q 10) :: rest)) := z_ist C P 10 rfl (by decide) hj (by rw [x_su_upd g 10 j x]; rfl) hdg kk
theorem y_g0 (C : z_C p s m args c cc nL R_Y D cI cL) (P : z_W D A H0 H locs (y_ws q cI cL g v b)) (hdg : decode cc pc = .ok (.getfield 30, 3)) (kk : W p l e R s m args below meth c H locs cells slots Q (F0 m (pc + 3) ls (.int (nI (g 0 0)) :: rest))) : W p l e R s m args below meth c H locs cells slots Q (F0 m pc ls (.ref (q 0) :: rest)) :=
  va_get (D := D) (cl := classes) (ci := 1) (C := R_Y) (T := F_Y) (N := 6) (v := .int (nI (g 0 0))) C.1 C.2.1 C.2.2.2.2.1 i_Y C.2.2.2.1 C.2.2.2.2.2 P.1 0 rfl rfl 0 (by decide) (C.2.2.2.2.1 _ fl_Y_30) (fun _ h => h) rfl hdg kk
theorem y_p0 (C : z_C p s m args c cc nL R_Y D cI cL) (P : z_W D A H0 H locs (y_ws q cI cL g v b)) {x : Nat} (hdg : decode cc pc = .ok (.putfield 30, 3)) (kk : ∀ (H1 : Heap) (locs1 : List Loc), z_W D A H0 H1 locs1 (y_ws q cI cL (x_su g 0 0 x) v b) → W p l e R s m args below meth c H1 locs1 cells slots Q (F0 m (pc + 3) ls (rest))) : W p l e R s m args below meth c H locs cells slots Q (F0 m pc ls (.int (nI x) :: .ref (q 0) :: rest)) := by
  refine va_put (D := D) (cl := classes) (ci := 1) (v := .int (nI x)) (ty := .int) (C := R_Y) (T := F_Y) (N := 6) C.1 C.2.1 C.2.2.2.2.1 i_Y t_Y t_Y_ok n_Y C.2.2.2.1 C.2.2.2.2.2 P.1 P.2.1 P.2.2.1 0 rfl rfl 0 (by decide) (C.2.2.2.2.1 _ fl_Y_30) (fun _ h => h) rfl (by decide +kernel) rfl rfl (Nat.le_of_ble_eq_true rfl) hdg (fun H1 locs1 hP hD hS => ?_)
  exact kk H1 locs1 ⟨hP, hD, hS, P.2.2.2⟩
theorem y_g1 (C : z_C p s m args c cc nL R_Y D cI cL) (P : z_W D A H0 H locs (y_ws q cI cL g v b)) (hdg : decode cc pc = .ok (.getfield 7, 3)) (kk : W p l e R s m args below meth c H locs cells slots Q (F0 m (pc + 3) ls (.ref (q 1) :: rest))) : W p l e R s m args below meth c H locs cells slots Q (F0 m pc ls (.ref (q 0) :: rest)) :=
  va_get (D := D) (cl := classes) (ci := 1) (C := R_Y) (T := F_Y) (N := 6) (v := .ref (q 1)) C.1 C.2.1 C.2.2.2.2.1 i_Y C.2.2.2.1 C.2.2.2.2.2 P.1 0 rfl rfl 1 (by decide) (C.2.2.2.2.1 _ fl_Y_7) (fun _ h => h) rfl hdg kk
theorem y_l1 (C : z_C p s m args c cc nL R_Y D cI cL) (P : z_W D A H0 H locs (y_ws q cI cL g v b)) {j : Nat} (hj : j < 48) (hdg : decode cc pc = .ok (.iaload, 1)) (kk : W p l e R s m args below meth c H locs cells slots Q (F0 m (pc + 1) ls (.int (nI (g 1 j)) :: rest))) : W p l e R s m args below meth c H locs cells slots Q (F0 m pc ls (.int (nI j) :: .ref (q 1) :: rest)) := z_ild C P 1 rfl (by decide) hj hdg kk
theorem y_s1 (C : z_C p s m args c cc nL R_Y D cI cL) (P : z_W D A H0 H locs (y_ws q cI cL g v b)) {j : Nat} {x : Nat} (hj : j < 48) (hdg : decode cc pc = .ok (.iastore, 1)) (kk : ∀ (H1 : Heap) (locs1 : List Loc), z_W D A H0 H1 locs1 (y_ws q cI cL (x_su g 1 j x) v b) → W p l e R s m args below meth c H1 locs1 cells slots Q (F0 m (pc + 1) ls (rest))) : W p l e R s m args below meth c H locs cells slots Q (F0 m pc ls (.int (nI x) :: .int (nI j) :: .ref (q 1) :: rest)) := z_ist C P 1 rfl (by decide) hj (by rw [x_su_upd g 1 j x]; rfl) hdg kk
theorem y_g2 (C : z_C p s m args c cc nL R_Y D cI cL) (P : z_W D A H0 H locs (y_ws q cI cL g v b)) (hdg : decode cc pc = .ok (.getfield 13, 3)) (kk : W p l e R s m args below meth c H locs cells slots Q (F0 m (pc + 3) ls (.ref (q 2) :: rest))) : W p l e R s m args below meth c H locs cells slots Q (F0 m pc ls (.ref (q 0) :: rest)) :=
  va_get (D := D) (cl := classes) (ci := 1) (C := R_Y) (T := F_Y) (N := 6) (v := .ref (q 2)) C.1 C.2.1 C.2.2.2.2.1 i_Y C.2.2.2.1 C.2.2.2.2.2 P.1 0 rfl rfl 2 (by decide) (C.2.2.2.2.1 _ fl_Y_13) (fun _ h => h) rfl hdg kk
theorem y_l2 (C : z_C p s m args c cc nL R_Y D cI cL) (P : z_W D A H0 H locs (y_ws q cI cL g v b)) {j : Nat} (hj : j < 48) (hdg : decode cc pc = .ok (.iaload, 1)) (kk : W p l e R s m args below meth c H locs cells slots Q (F0 m (pc + 1) ls (.int (v 2 j) :: rest))) : W p l e R s m args below meth c H locs cells slots Q (F0 m pc ls (.int (nI j) :: .ref (q 2) :: rest)) := z_ild C P 2 rfl (by decide) hj hdg kk
theorem y_s2 (C : z_C p s m args c cc nL R_Y D cI cL) (P : z_W D A H0 H locs (y_ws q cI cL g v b)) {j : Nat} {x : Int32} (hj : j < 48) (hdg : decode cc pc = .ok (.iastore, 1)) (kk : ∀ (H1 : Heap) (locs1 : List Loc), z_W D A H0 H1 locs1 (y_ws q cI cL g (x_sv v 2 j x) b) → W p l e R s m args below meth c H1 locs1 cells slots Q (F0 m (pc + 1) ls (rest))) : W p l e R s m args below meth c H locs cells slots Q (F0 m pc ls (.int x :: .int (nI j) :: .ref (q 2) :: rest)) := z_ist C P 2 rfl (by decide) hj (by rw [x_sv_upd v 2 j x]; rfl) hdg kk
theorem y_g3 (C : z_C p s m args c cc nL R_Y D cI cL) (P : z_W D A H0 H locs (y_ws q cI cL g v b)) (hdg : decode cc pc = .ok (.getfield 16, 3)) (kk : W p l e R s m args below meth c H locs cells slots Q (F0 m (pc + 3) ls (.ref (q 3) :: rest))) : W p l e R s m args below meth c H locs cells slots Q (F0 m pc ls (.ref (q 0) :: rest)) :=
  va_get (D := D) (cl := classes) (ci := 1) (C := R_Y) (T := F_Y) (N := 6) (v := .ref (q 3)) C.1 C.2.1 C.2.2.2.2.1 i_Y C.2.2.2.1 C.2.2.2.2.2 P.1 0 rfl rfl 3 (by decide) (C.2.2.2.2.1 _ fl_Y_16) (fun _ h => h) rfl hdg kk
theorem y_l3 (C : z_C p s m args c cc nL R_Y D cI cL) (P : z_W D A H0 H locs (y_ws q cI cL g v b)) {j : Nat} (hj : j < 48) (hdg : decode cc pc = .ok (.iaload, 1)) (kk : W p l e R s m args below meth c H locs cells slots Q (F0 m (pc + 1) ls (.int (nI (g 3 j)) :: rest))) : W p l e R s m args below meth c H locs cells slots Q (F0 m pc ls (.int (nI j) :: .ref (q 3) :: rest)) := z_ild C P 3 rfl (by decide) hj hdg kk
theorem y_s3 (C : z_C p s m args c cc nL R_Y D cI cL) (P : z_W D A H0 H locs (y_ws q cI cL g v b)) {j : Nat} {x : Nat} (hj : j < 48) (hdg : decode cc pc = .ok (.iastore, 1)) (kk : ∀ (H1 : Heap) (locs1 : List Loc), z_W D A H0 H1 locs1 (y_ws q cI cL (x_su g 3 j x) v b) → W p l e R s m args below meth c H1 locs1 cells slots Q (F0 m (pc + 1) ls (rest))) : W p l e R s m args below meth c H locs cells slots Q (F0 m pc ls (.int (nI x) :: .int (nI j) :: .ref (q 3) :: rest)) := z_ist C P 3 rfl (by decide) hj (by rw [x_su_upd g 3 j x]; rfl) hdg kk
theorem y_g4 (C : z_C p s m args c cc nL R_Y D cI cL) (P : z_W D A H0 H locs (y_ws q cI cL g v b)) (hdg : decode cc pc = .ok (.getfield 19, 3)) (kk : W p l e R s m args below meth c H locs cells slots Q (F0 m (pc + 3) ls (.ref (q 4) :: rest))) : W p l e R s m args below meth c H locs cells slots Q (F0 m pc ls (.ref (q 0) :: rest)) :=
  va_get (D := D) (cl := classes) (ci := 1) (C := R_Y) (T := F_Y) (N := 6) (v := .ref (q 4)) C.1 C.2.1 C.2.2.2.2.1 i_Y C.2.2.2.1 C.2.2.2.2.2 P.1 0 rfl rfl 4 (by decide) (C.2.2.2.2.1 _ fl_Y_19) (fun _ h => h) rfl hdg kk
theorem y_l4 (C : z_C p s m args c cc nL R_Y D cI cL) (P : z_W D A H0 H locs (y_ws q cI cL g v b)) {j : Nat} (hj : j < 48) (hdg : decode cc pc = .ok (.laload, 1)) (kk : W p l e R s m args below meth c H locs cells slots Q (F0 m (pc + 1) ls (.long (b 4 j) :: rest))) : W p l e R s m args below meth c H locs cells slots Q (F0 m pc ls (.int (nI j) :: .ref (q 4) :: rest)) := z_lld C P 4 rfl (by decide) hj hdg kk
theorem y_s4 (C : z_C p s m args c cc nL R_Y D cI cL) (P : z_W D A H0 H locs (y_ws q cI cL g v b)) {j : Nat} {x : Int64} (hj : j < 48) (hdg : decode cc pc = .ok (.lastore, 1)) (kk : ∀ (H1 : Heap) (locs1 : List Loc), z_W D A H0 H1 locs1 (y_ws q cI cL g v (x_sb b 4 j x)) → W p l e R s m args below meth c H1 locs1 cells slots Q (F0 m (pc + 1) ls (rest))) : W p l e R s m args below meth c H locs cells slots Q (F0 m pc ls (.long x :: .int (nI j) :: .ref (q 4) :: rest)) := z_lst C P 4 rfl (by decide) hj (by rw [x_sb_upd b 4 j x]; rfl) hdg kk
theorem y_g5 (C : z_C p s m args c cc nL R_Y D cI cL) (P : z_W D A H0 H locs (y_ws q cI cL g v b)) (hdg : decode cc pc = .ok (.getfield 23, 3)) (kk : W p l e R s m args below meth c H locs cells slots Q (F0 m (pc + 3) ls (.ref (q 5) :: rest))) : W p l e R s m args below meth c H locs cells slots Q (F0 m pc ls (.ref (q 0) :: rest)) :=
  va_get (D := D) (cl := classes) (ci := 1) (C := R_Y) (T := F_Y) (N := 6) (v := .ref (q 5)) C.1 C.2.1 C.2.2.2.2.1 i_Y C.2.2.2.1 C.2.2.2.2.2 P.1 0 rfl rfl 5 (by decide) (C.2.2.2.2.1 _ fl_Y_23) (fun _ h => h) rfl hdg kk
theorem y_l5 (C : z_C p s m args c cc nL R_Y D cI cL) (P : z_W D A H0 H locs (y_ws q cI cL g v b)) {j : Nat} (hj : j < 3) (hdg : decode cc pc = .ok (.laload, 1)) (kk : W p l e R s m args below meth c H locs cells slots Q (F0 m (pc + 1) ls (.long (b 5 j) :: rest))) : W p l e R s m args below meth c H locs cells slots Q (F0 m pc ls (.int (nI j) :: .ref (q 5) :: rest)) := z_lld C P 5 rfl (by decide) hj hdg kk
theorem y_s5 (C : z_C p s m args c cc nL R_Y D cI cL) (P : z_W D A H0 H locs (y_ws q cI cL g v b)) {j : Nat} {x : Int64} (hj : j < 3) (hdg : decode cc pc = .ok (.lastore, 1)) (kk : ∀ (H1 : Heap) (locs1 : List Loc), z_W D A H0 H1 locs1 (y_ws q cI cL g v (x_sb b 5 j x)) → W p l e R s m args below meth c H1 locs1 cells slots Q (F0 m (pc + 1) ls (rest))) : W p l e R s m args below meth c H locs cells slots Q (F0 m pc ls (.long x :: .int (nI j) :: .ref (q 5) :: rest)) := z_lst C P 5 rfl (by decide) hj (by rw [x_sb_upd b 5 j x]; rfl) hdg kk
end XR
end
section
/-! what the class's methods do to its arrays, as functions -/
def x_Bd (g : Nat → Nat → Nat) : Prop := ∀ k j, g k j ≤ 48
theorem x_Bd.su {g : Nat → Nat → Nat} {a b x : Nat} (h : x_Bd g) (hx : x ≤ 48) : x_Bd (x_su g a b x) := by
  intro k j
  unfold x_su
  split
  · exact hx
  · exact h k j
def x_dA (g : Nat → Nat → Nat) (r el ch : Nat) : Nat → Nat → Nat → Nat
  | 0 => g
  | o + 1 => if x_dA g r el ch o 9 (24 * r + 3 * el + o) ≤ x_dA g r el ch o 3 (3 * ch + o) then x_su (x_dA g r el ch o) 9 (24 * r + 3 * el + o) 0 else x_dA g r el ch o
def x_dS (g : Nat → Nat → Nat) (r ch : Nat) : Nat → Nat → Nat → Nat
  | 0 => g
  | o + 1 => if x_dS g r ch o 10 (3 * r + o) ≤ x_dS g r ch o 3 (3 * ch + o) then x_su (x_dS g r ch o) 10 (3 * r + o) 0 else x_dS g r ch o
def x_cV (g : Nat → Nat → Nat) (r ch : Nat) : Nat → Nat → Nat → Nat
  | 0 => g
  | o + 1 => if x_cV g r ch o 8 (3 * r + o) < x_cV g r ch o 3 (3 * ch + o) then x_su (x_cV g r ch o) 8 (3 * r + o) (x_cV g r ch o 3 (3 * ch + o)) else x_cV g r ch o
def x_dE (g : Nat → Nat → Nat) (r ch : Nat) : Nat → Nat → Nat → Nat
  | 0 => g
  | el + 1 => x_dA (x_dE g r ch el) r el ch 3
def x_sur (a ak b bk : Nat) : Nat :=
  if a = b then a else if (if b > ak then b else 0) < (if a > bk then a else 0) then (if a > bk then a else 0) else (if b > ak then b else 0)
def x_jI (g : Nat → Nat → Nat) (f t el : Nat) : Nat → Nat → Nat → Nat
  | 0 => g
  | o + 1 => x_su (x_jI g f t el o) 9 (24 * t + 3 * el + o) (x_sur (x_jI g f t el o 9 (24 * t + 3 * el + o)) (x_jI g f t el o 7 (3 * t + o)) (x_jI g f t el o 9 (24 * f + 3 * el + o)) (x_jI g f t el o 7 (3 * f + o)))
def x_jA (g : Nat → Nat → Nat) (f t : Nat) : Nat → Nat → Nat → Nat
  | 0 => g
  | el + 1 => x_jI (x_jA g f t el) f t el 3
def x_jS (g : Nat → Nat → Nat) (f t : Nat) : Nat → Nat → Nat → Nat
  | 0 => g
  | o + 1 => x_su (x_jS g f t o) 10 (3 * t + o) (x_sur (x_jS g f t o 10 (3 * t + o)) (x_jS g f t o 7 (3 * t + o)) (x_jS g f t o 10 (3 * f + o)) (x_jS g f t o 7 (3 * f + o)))
def x_mx (a b : Nat) : Nat := if b < a then a else b
def x_jK (g : Nat → Nat → Nat) (k f t o : Nat) : Nat → Nat → Nat := x_su g k (3 * t + o) (x_mx (g k (3 * f + o)) (g k (3 * t + o)))
def x_jV (g : Nat → Nat → Nat) (f t : Nat) : Nat → Nat → Nat → Nat
  | 0 => g
  | o + 1 => x_jK (x_jK (x_jV g f t o) 7 f t o) 8 f t o
theorem x_sur_le {a ak b bk : Nat} (ha : a ≤ 48) (hb : b ≤ 48) : x_sur a ak b bk ≤ 48 := by
  unfold x_sur
  repeat' split
  all_goals omega
theorem x_mx_le {a b : Nat} (ha : a ≤ 48) (hb : b ≤ 48) : x_mx a b ≤ 48 := by
  unfold x_mx
  split <;> omega
theorem x_dA_le {g : Nat → Nat → Nat} (h : x_Bd g) (r el ch : Nat) : ∀ o, x_Bd (x_dA g r el ch o)
  | 0 => h
  | o + 1 => by
    have ih := x_dA_le h r el ch o
    unfold x_dA
    split
    · exact ih.su (by omega)
    · exact ih
theorem x_dS_le {g : Nat → Nat → Nat} (h : x_Bd g) (r ch : Nat) : ∀ o, x_Bd (x_dS g r ch o)
  | 0 => h
  | o + 1 => by
    have ih := x_dS_le h r ch o
    unfold x_dS
    split
    · exact ih.su (by omega)
    · exact ih
theorem x_cV_le {g : Nat → Nat → Nat} (h : x_Bd g) (r ch : Nat) : ∀ o, x_Bd (x_cV g r ch o)
  | 0 => h
  | o + 1 => by
    have ih := x_cV_le h r ch o
    unfold x_cV
    split
    · exact ih.su (ih _ _)
    · exact ih
theorem x_dE_le {g : Nat → Nat → Nat} (h : x_Bd g) (r ch : Nat) : ∀ el, x_Bd (x_dE g r ch el)
  | 0 => h
  | el + 1 => x_dA_le (x_dE_le h r ch el) r el ch 3
theorem x_jI_le {g : Nat → Nat → Nat} (h : x_Bd g) (f t el : Nat) : ∀ o, x_Bd (x_jI g f t el o)
  | 0 => h
  | o + 1 => by
    have ih := x_jI_le h f t el o
    unfold x_jI
    exact ih.su (x_sur_le (ih _ _) (ih _ _))
theorem x_jA_le {g : Nat → Nat → Nat} (h : x_Bd g) (f t : Nat) : ∀ el, x_Bd (x_jA g f t el)
  | 0 => h
  | el + 1 => x_jI_le (x_jA_le h f t el) f t el 3
theorem x_jS_le {g : Nat → Nat → Nat} (h : x_Bd g) (f t : Nat) : ∀ o, x_Bd (x_jS g f t o)
  | 0 => h
  | o + 1 => by
    have ih := x_jS_le h f t o
    unfold x_jS
    exact ih.su (x_sur_le (ih _ _) (ih _ _))
theorem x_jK_le {g : Nat → Nat → Nat} (h : x_Bd g) (k f t o : Nat) : x_Bd (x_jK g k f t o) := h.su (x_mx_le (h _ _) (h _ _))
theorem x_jV_le {g : Nat → Nat → Nat} (h : x_Bd g) (f t : Nat) : ∀ o, x_Bd (x_jV g f t o)
  | 0 => h
  | o + 1 => x_jK_le (x_jK_le (x_jV_le h f t o) 7 f t o) 8 f t o
end
section
/-! contracts of the class's leaves -/
def x_ok (x : Int32) : Prop := ¬ x < 0 ∧ ¬ 2 < x
set_option maxHeartbeats 2000000 in
set_option maxRecDepth 20000 in
theorem c_X_isReplica_ok {l : Launch} {x : Int32} (h : x_ok x) : z_Ms l y_X_isReplica b_X_isReplica 1 (some .boolean) 0 [.int x] (nI 1) := by
  refine z_ms (own := R_X) (by decide) rfl (Nat.le_of_ble_eq_true rfl) ?_
  intro p e s m args below meth c ls C hret hlk hl
  have hx := C.1
  have hb := C.2.1
  have hl : lv_has ls 1 [(0, .int x)] := hl
  refine lv_iload_n hx hb d_X_isReplica_0 rfl (lv_at hl 0 rfl) ?_
  refine lv_if_lt (tgt := 13) hx hb d_X_isReplica_1 (by decide) (fun hz => absurd hz h.1) (fun c1 => ?_)
  refine lv_iload_n hx hb d_X_isReplica_4 rfl (lv_at hl 0 rfl) ?_
  refine lv_iconst (v := nI 2) hx hb d_X_isReplica_5 rfl ?_
  refine lv_icmp_gt (tgt := 13) hx hb d_X_isReplica_6 (by decide) (fun hz => absurd hz h.2) (fun c6 => ?_)
  refine lv_iconst (v := nI 1) hx hb d_X_isReplica_9 rfl ?_
  refine lv_goto (tgt := 14) hx hb d_X_isReplica_10 (by decide) ?_
  exact z_rr C hret (by decide) hlk d_X_isReplica_14
set_option maxHeartbeats 2000000 in
set_option maxRecDepth 20000 in
theorem c_X_isReplica_bad {l : Launch} {x : Int32} (h : ¬ x_ok x) : z_Ms l y_X_isReplica b_X_isReplica 1 (some .boolean) 0 [.int x] (nI 0) := by
  refine z_ms (own := R_X) (by decide) rfl (Nat.le_of_ble_eq_true rfl) ?_
  intro p e s m args below meth c ls C hret hlk hl
  have hx := C.1
  have hb := C.2.1
  have hl : lv_has ls 1 [(0, .int x)] := hl
  refine lv_iload_n hx hb d_X_isReplica_0 rfl (lv_at hl 0 rfl) ?_
  refine lv_if_lt (tgt := 13) hx hb d_X_isReplica_1 (by decide) (fun c1 => ?_) (fun c1 => ?_)
  · refine lv_iconst (v := nI 0) hx hb d_X_isReplica_13 rfl ?_
    exact z_rr C hret (by decide) hlk d_X_isReplica_14
  · refine lv_iload_n hx hb d_X_isReplica_4 rfl (lv_at hl 0 rfl) ?_
    refine lv_iconst (v := nI 2) hx hb d_X_isReplica_5 rfl ?_
    refine lv_icmp_gt (tgt := 13) hx hb d_X_isReplica_6 (by decide) (fun c6 => ?_) (fun c6 => ?_)
    · refine lv_iconst (v := nI 0) hx hb d_X_isReplica_13 rfl ?_
      exact z_rr C hret (by decide) hlk d_X_isReplica_14
    · exact absurd ⟨c1, c6⟩ h
set_option maxHeartbeats 2000000 in
set_option maxRecDepth 20000 in
theorem c_X_survivor {l : Launch} {a ak b bk : Nat} (ha : a ≤ 48) (hak : ak ≤ 48) (hb9 : b ≤ 48) (hbk : bk ≤ 48) : z_Ms l y_X_survivor b_X_survivor 6 (some .int) 0 [.int (nI a), .int (nI ak), .int (nI b), .int (nI bk)] (nI (x_sur a ak b bk)) := by
  refine z_ms (own := R_X) (by decide) rfl (Nat.le_of_ble_eq_true rfl) ?_
  intro p e s m args below meth c ls C hret hlk hl
  have hx := C.1
  have hb := C.2.1
  have hl : lv_has ls 6 [(0, .int (nI a)), (1, .int (nI ak)), (2, .int (nI b)), (3, .int (nI bk))] := hl
  refine lv_iload_n hx hb d_X_survivor_0 rfl (lv_at hl 0 rfl) ?_
  refine lv_iload_n hx hb d_X_survivor_1 rfl (lv_at hl 2 rfl) ?_
  refine n_ne (tgt := 7) hx hb (by omega) (by omega) d_X_survivor_2 (by decide) (fun c2 => ?_) (fun c2 => ?_)
  · refine lv_iload_n hx hb d_X_survivor_7 rfl (lv_at hl 0 rfl) ?_
    refine lv_iload_n hx hb d_X_survivor_8 rfl (lv_at hl 3 rfl) ?_
    refine n_le (tgt := 16) hx hb (by omega) (by omega) d_X_survivor_9 (by decide) (fun c9 => ?_) (fun c9 => ?_)
    · refine lv_iconst (v := nI 0) hx hb d_X_survivor_16 rfl ?_
      refine lv_istore (lv' := [(4, .int (nI (0))), (0, .int (nI (a))), (1, .int (nI (ak))), (2, .int (nI (b))), (3, .int (nI (bk)))]) hx hb d_X_survivor_17 hl (by decide) rfl (fun ls hl => ?_)
      refine lv_iload_n hx hb d_X_survivor_19 rfl (lv_at hl 3 rfl) ?_
      refine lv_iload_n hx hb d_X_survivor_20 rfl (lv_at hl 2 rfl) ?_
      refine n_le (tgt := 28) hx hb (by omega) (by omega) d_X_survivor_21 (by decide) (fun c21 => ?_) (fun c21 => ?_)
      · refine lv_iconst (v := nI 0) hx hb d_X_survivor_28 rfl ?_
        refine lv_istore (lv' := [(5, .int (nI (0))), (4, .int (nI (0))), (0, .int (nI (a))), (1, .int (nI (ak))), (2, .int (nI (b))), (3, .int (nI (bk)))]) hx hb d_X_survivor_29 hl (by decide) rfl (fun ls hl => ?_)
        refine lv_iload hx hb d_X_survivor_31 (lv_at hl 1 rfl) ?_
        refine lv_iload hx hb d_X_survivor_33 (lv_at hl 0 rfl) ?_
        refine n_le (tgt := 43) hx hb (by omega) (by omega) d_X_survivor_35 (by decide) (fun c35 => ?_) (fun hz => absurd hz (by decide))
        refine lv_iload hx hb d_X_survivor_43 (lv_at hl 0 rfl) ?_
        refine n_top (y := nI (x_sur a ak b bk)) (congrArg nI (by unfold x_sur; (repeat' split) <;> omega)) ?_
        exact z_rr C hret rfl hlk d_X_survivor_45
      · refine lv_iload_n hx hb d_X_survivor_24 rfl (lv_at hl 3 rfl) ?_
        refine lv_goto (tgt := 29) hx hb d_X_survivor_25 (by decide) ?_
        refine lv_istore (lv' := [(5, .int (nI (b))), (4, .int (nI (0))), (0, .int (nI (a))), (1, .int (nI (ak))), (2, .int (nI (b))), (3, .int (nI (bk)))]) hx hb d_X_survivor_29 hl (by decide) rfl (fun ls hl => ?_)
        refine lv_iload hx hb d_X_survivor_31 (lv_at hl 1 rfl) ?_
        refine lv_iload hx hb d_X_survivor_33 (lv_at hl 0 rfl) ?_
        refine n_le (tgt := 43) hx hb (by omega) (by omega) d_X_survivor_35 (by decide) (fun c35 => ?_) (fun c35 => ?_)
        · refine lv_iload hx hb d_X_survivor_43 (lv_at hl 0 rfl) ?_
          refine n_top (y := nI (x_sur a ak b bk)) (congrArg nI (by unfold x_sur; (repeat' split) <;> omega)) ?_
          exact z_rr C hret rfl hlk d_X_survivor_45
        · refine lv_iload hx hb d_X_survivor_38 (lv_at hl 1 rfl) ?_
          refine lv_goto (tgt := 45) hx hb d_X_survivor_40 (by decide) ?_
          refine n_top (y := nI (x_sur a ak b bk)) (congrArg nI (by unfold x_sur; (repeat' split) <;> omega)) ?_
          exact z_rr C hret rfl hlk d_X_survivor_45
    · refine lv_iload_n hx hb d_X_survivor_12 rfl (lv_at hl 0 rfl) ?_
      refine lv_goto (tgt := 17) hx hb d_X_survivor_13 (by decide) ?_
      refine lv_istore (lv' := [(4, .int (nI (a))), (0, .int (nI (a))), (1, .int (nI (ak))), (2, .int (nI (b))), (3, .int (nI (bk)))]) hx hb d_X_survivor_17 hl (by decide) rfl (fun ls hl => ?_)
      refine lv_iload_n hx hb d_X_survivor_19 rfl (lv_at hl 3 rfl) ?_
      refine lv_iload_n hx hb d_X_survivor_20 rfl (lv_at hl 2 rfl) ?_
      refine n_le (tgt := 28) hx hb (by omega) (by omega) d_X_survivor_21 (by decide) (fun c21 => ?_) (fun c21 => ?_)
      · refine lv_iconst (v := nI 0) hx hb d_X_survivor_28 rfl ?_
        refine lv_istore (lv' := [(5, .int (nI (0))), (4, .int (nI (a))), (0, .int (nI (a))), (1, .int (nI (ak))), (2, .int (nI (b))), (3, .int (nI (bk)))]) hx hb d_X_survivor_29 hl (by decide) rfl (fun ls hl => ?_)
        refine lv_iload hx hb d_X_survivor_31 (lv_at hl 1 rfl) ?_
        refine lv_iload hx hb d_X_survivor_33 (lv_at hl 0 rfl) ?_
        refine n_le (tgt := 43) hx hb (by omega) (by omega) d_X_survivor_35 (by decide) (fun c35 => ?_) (fun c35 => ?_)
        · refine lv_iload hx hb d_X_survivor_43 (lv_at hl 0 rfl) ?_
          refine n_top (y := nI (x_sur a ak b bk)) (congrArg nI (by unfold x_sur; (repeat' split) <;> omega)) ?_
          exact z_rr C hret rfl hlk d_X_survivor_45
        · refine lv_iload hx hb d_X_survivor_38 (lv_at hl 1 rfl) ?_
          refine lv_goto (tgt := 45) hx hb d_X_survivor_40 (by decide) ?_
          refine n_top (y := nI (x_sur a ak b bk)) (congrArg nI (by unfold x_sur; (repeat' split) <;> omega)) ?_
          exact z_rr C hret rfl hlk d_X_survivor_45
      · refine lv_iload_n hx hb d_X_survivor_24 rfl (lv_at hl 3 rfl) ?_
        refine lv_goto (tgt := 29) hx hb d_X_survivor_25 (by decide) ?_
        refine lv_istore (lv' := [(5, .int (nI (b))), (4, .int (nI (a))), (0, .int (nI (a))), (1, .int (nI (ak))), (2, .int (nI (b))), (3, .int (nI (bk)))]) hx hb d_X_survivor_29 hl (by decide) rfl (fun ls hl => ?_)
        refine lv_iload hx hb d_X_survivor_31 (lv_at hl 1 rfl) ?_
        refine lv_iload hx hb d_X_survivor_33 (lv_at hl 0 rfl) ?_
        refine n_le (tgt := 43) hx hb (by omega) (by omega) d_X_survivor_35 (by decide) (fun c35 => ?_) (fun c35 => ?_)
        · refine lv_iload hx hb d_X_survivor_43 (lv_at hl 0 rfl) ?_
          refine n_top (y := nI (x_sur a ak b bk)) (congrArg nI (by unfold x_sur; (repeat' split) <;> omega)) ?_
          exact z_rr C hret rfl hlk d_X_survivor_45
        · refine lv_iload hx hb d_X_survivor_38 (lv_at hl 1 rfl) ?_
          refine lv_goto (tgt := 45) hx hb d_X_survivor_40 (by decide) ?_
          refine n_top (y := nI (x_sur a ak b bk)) (congrArg nI (by unfold x_sur; (repeat' split) <;> omega)) ?_
          exact z_rr C hret rfl hlk d_X_survivor_45
  · refine lv_iload_n hx hb d_X_survivor_5 rfl (lv_at hl 0 rfl) ?_
    refine n_top (y := nI (x_sur a ak b bk)) (congrArg nI (by unfold x_sur; (repeat' split) <;> omega)) ?_
    exact z_rr C hret rfl hlk d_X_survivor_6
section CX1
variable {p : Program} {l : Launch} {e : Env} {s : State} {m : MethodId} {args : Array Value} {below : List Frame} {meth : Method} {c : Code} {Q : State → Prop} {D : va_G} {A : Nat → Prop} {H0 : Heap} {cI cL : ClassId} {q : Nat → Nat} {g : Nat → Nat → Nat} {v : Nat → Nat → Int32} {b : Nat → Nat → Int64}
set_option maxHeartbeats 2000000 in
set_option maxRecDepth 20000 in
theorem lp_X_dropAdds (C : z_C p s m args c b_X_dropAdds 6 R_X D cI cL) {r el ch : Nat} (hr : r < 3) (hel : el < 8) (hch : ch < 48) (hB : x_Bd g)
    (hend : ∀ H locs ls, z_W D A H0 H locs (x_ws q cI (x_dA g r el ch 3) v) → lv_has ls 6 [(0, .ref (q 0)), (1, .int (nI (r))), (2, .int (nI (el))), (3, .int (nI (ch))), (4, .int (nI (3)))] → W p l e (z_rm 0) s m args below meth c H locs 0 0 Q (F0 m 57 ls [])) :
    ∀ n o, o + n = 3 → ∀ H locs ls, z_W D A H0 H locs (x_ws q cI (x_dA g r el ch o) v) → lv_has ls 6 [(0, .ref (q 0)), (1, .int (nI (r))), (2, .int (nI (el))), (3, .int (nI (ch))), (4, .int (nI (o)))] → W p l e (z_rm 0) s m args below meth c H locs 0 0 Q (F0 m 3 ls []) := by
  have hx := C.1
  have hb := C.2.1
  have hf : 0 ≤ (z_rm 0).cells ∧ 0 ≤ (z_rm 0).slots := ⟨Nat.zero_le _, Nat.zero_le _⟩
  intro n
  induction n with
  | zero =>
    intro o ho H locs ls P hl
    obtain rfl : o = 3 := by omega
    refine lv_iload hx hb d_X_dropAdds_3 (lv_at hl 4 rfl) ?_
    refine lv_iconst (v := nI 3) hx hb d_X_dropAdds_5 rfl ?_
    refine n_ge (tgt := 57) hx hb (by first | omega | exact Nat.le_trans (hB _ _) (by decide)) (by first | omega | exact Nat.le_trans (hB _ _) (by decide)) d_X_dropAdds_6 (by decide) (fun c6 => ?_) (fun hz => absurd hz (by decide))
    exact hend _ _ _ P (lv_sub hl [0, 1, 2, 3, 4] rfl)
  | succ n ih =>
    intro o ho H locs ls P hl
    have hB := x_dA_le hB r el ch o
    refine lv_iload hx hb d_X_dropAdds_3 (lv_at hl 4 rfl) ?_
    refine lv_iconst (v := nI 3) hx hb d_X_dropAdds_5 rfl ?_
    refine n_ge (tgt := 57) hx hb (by first | omega | exact Nat.le_trans (hB _ _) (by decide)) (by first | omega | exact Nat.le_trans (hB _ _) (by decide)) d_X_dropAdds_6 (by decide) (fun hz => absurd hz (by omega)) (fun c6 => ?_)
    refine lv_bipush (v := nI 24) hx hb d_X_dropAdds_9 rfl ?_
    refine lv_iload_n hx hb d_X_dropAdds_11 rfl (lv_at hl 1 rfl) ?_
    refine n_imul hx hb d_X_dropAdds_12 ?_
    refine lv_iconst (v := nI 3) hx hb d_X_dropAdds_13 rfl ?_
    refine lv_iload_n hx hb d_X_dropAdds_14 rfl (lv_at hl 2 rfl) ?_
    refine n_imul hx hb d_X_dropAdds_15 ?_
    refine n_iadd hx hb d_X_dropAdds_16 ?_
    refine lv_iload hx hb d_X_dropAdds_17 (lv_at hl 4 rfl) ?_
    refine n_iadd hx hb d_X_dropAdds_19 ?_
    refine lv_istore (lv' := [(5, .int (nI (((24 * r) + (3 * el)) + o))), (0, .ref (q 0)), (1, .int (nI (r))), (2, .int (nI (el))), (3, .int (nI (ch))), (4, .int (nI (o)))]) hx hb d_X_dropAdds_20 hl (by decide) rfl (fun ls hl => ?_)
    refine lv_aload_n hx hb d_X_dropAdds_22 rfl (lv_at hl 1 rfl) ?_
    refine x_g9 C P d_X_dropAdds_23 ?_
    refine lv_iload hx hb d_X_dropAdds_26 (lv_at hl 0 rfl) ?_
    refine x_l9 C P (by omega) d_X_dropAdds_28 ?_
    refine lv_aload_n hx hb d_X_dropAdds_29 rfl (lv_at hl 1 rfl) ?_
    refine x_g3 C P d_X_dropAdds_30 ?_
    refine lv_iconst (v := nI 3) hx hb d_X_dropAdds_33 rfl ?_
    refine lv_iload_n hx hb d_X_dropAdds_34 rfl (lv_at hl 4 rfl) ?_
    refine n_imul hx hb d_X_dropAdds_35 ?_
    refine lv_iload hx hb d_X_dropAdds_36 (lv_at hl 5 rfl) ?_
    refine n_iadd hx hb d_X_dropAdds_38 ?_
    refine x_l3 C P (by omega) d_X_dropAdds_39 ?_
    refine n_gt (tgt := 51) hx hb (by first | omega | exact Nat.le_trans (hB _ _) (by decide)) (by first | omega | exact Nat.le_trans (hB _ _) (by decide)) d_X_dropAdds_40 (by decide) (fun c40 => ?_) (fun c40 => ?_)
    · refine lv_iinc (v := nI (o + 1)) (lv' := [(4, .int (nI (o + 1))), (5, .int (nI (((24 * r) + (3 * el)) + o))), (0, .ref (q 0)), (1, .int (nI (r))), (2, .int (nI (el))), (3, .int (nI (ch)))]) hx hb d_X_dropAdds_51 hl (k := 5) rfl (nI_inc1 _) (by decide) rfl (fun ls hl => ?_)
      refine lv_goto (tgt := 3) hx hb d_X_dropAdds_54 (by decide) ?_
      exact ih (o + 1) (by omega) _ _ _ (by unfold x_dA; rw [if_neg (by omega)]; exact P) (lv_sub hl [2, 3, 4, 5, 0] rfl)
    · refine lv_aload_n hx hb d_X_dropAdds_43 rfl (lv_at hl 1 rfl) ?_
      refine x_g9 C P d_X_dropAdds_44 ?_
      refine lv_iload hx hb d_X_dropAdds_47 (lv_at hl 0 rfl) ?_
      refine lv_iconst (v := nI 0) hx hb d_X_dropAdds_49 rfl ?_
      refine x_s9 C P (x := 0) (by omega) d_X_dropAdds_50 (fun H locs P => ?_)
      obtain ⟨g1_, eg1_⟩ : ∃ z, z = x_su (x_dA g r el ch o) 9 (((24 * r) + (3 * el)) + o) 0 := ⟨_, rfl⟩
      rw [← eg1_] at P
      refine lv_iinc (v := nI (o + 1)) (lv' := [(4, .int (nI (o + 1))), (5, .int (nI (((24 * r) + (3 * el)) + o))), (0, .ref (q 0)), (1, .int (nI (r))), (2, .int (nI (el))), (3, .int (nI (ch)))]) hx hb d_X_dropAdds_51 hl (k := 5) rfl (nI_inc1 _) (by decide) rfl (fun ls hl => ?_)
      refine lv_goto (tgt := 3) hx hb d_X_dropAdds_54 (by decide) ?_
      exact ih (o + 1) (by omega) _ _ _ (by unfold x_dA; rw [if_pos (by assumption), ← eg1_]; exact P) (lv_sub hl [2, 3, 4, 5, 0] rfl)
set_option maxHeartbeats 2000000 in
set_option maxRecDepth 20000 in
theorem lp_X_dropAssigns (C : z_C p s m args c b_X_dropAssigns 5 R_X D cI cL) {r ch : Nat} (hr : r < 3) (hch : ch < 48) (hB : x_Bd g)
    (hend : ∀ H locs ls, z_W D A H0 H locs (x_ws q cI (x_dS g r ch 3) v) → lv_has ls 5 [(0, .ref (q 0)), (1, .int (nI (r))), (2, .int (nI (ch))), (3, .int (nI (3)))] → W p l e (z_rm 0) s m args below meth c H locs 0 0 Q (F0 m 48 ls [])) :
    ∀ n o, o + n = 3 → ∀ H locs ls, z_W D A H0 H locs (x_ws q cI (x_dS g r ch o) v) → lv_has ls 5 [(0, .ref (q 0)), (1, .int (nI (r))), (2, .int (nI (ch))), (3, .int (nI (o)))] → W p l e (z_rm 0) s m args below meth c H locs 0 0 Q (F0 m 2 ls []) := by
  have hx := C.1
  have hb := C.2.1
  have hf : 0 ≤ (z_rm 0).cells ∧ 0 ≤ (z_rm 0).slots := ⟨Nat.zero_le _, Nat.zero_le _⟩
  intro n
  induction n with
  | zero =>
    intro o ho H locs ls P hl
    obtain rfl : o = 3 := by omega
    refine lv_iload_n hx hb d_X_dropAssigns_2 rfl (lv_at hl 3 rfl) ?_
    refine lv_iconst (v := nI 3) hx hb d_X_dropAssigns_3 rfl ?_
    refine n_ge (tgt := 48) hx hb (by first | omega | exact Nat.le_trans (hB _ _) (by decide)) (by first | omega | exact Nat.le_trans (hB _ _) (by decide)) d_X_dropAssigns_4 (by decide) (fun c4 => ?_) (fun hz => absurd hz (by decide))
    exact hend _ _ _ P (lv_sub hl [0, 1, 2, 3] rfl)
  | succ n ih =>
    intro o ho H locs ls P hl
    have hB := x_dS_le hB r ch o
    refine lv_iload_n hx hb d_X_dropAssigns_2 rfl (lv_at hl 3 rfl) ?_
    refine lv_iconst (v := nI 3) hx hb d_X_dropAssigns_3 rfl ?_
    refine n_ge (tgt := 48) hx hb (by first | omega | exact Nat.le_trans (hB _ _) (by decide)) (by first | omega | exact Nat.le_trans (hB _ _) (by decide)) d_X_dropAssigns_4 (by decide) (fun hz => absurd hz (by omega)) (fun c4 => ?_)
    refine lv_iconst (v := nI 3) hx hb d_X_dropAssigns_7 rfl ?_
    refine lv_iload_n hx hb d_X_dropAssigns_8 rfl (lv_at hl 1 rfl) ?_
    refine n_imul hx hb d_X_dropAssigns_9 ?_
    refine lv_iload_n hx hb d_X_dropAssigns_10 rfl (lv_at hl 3 rfl) ?_
    refine n_iadd hx hb d_X_dropAssigns_11 ?_
    refine lv_istore (lv' := [(4, .int (nI ((3 * r) + o))), (0, .ref (q 0)), (1, .int (nI (r))), (2, .int (nI (ch))), (3, .int (nI (o)))]) hx hb d_X_dropAssigns_12 hl (by decide) rfl (fun ls hl => ?_)
    refine lv_aload_n hx hb d_X_dropAssigns_14 rfl (lv_at hl 1 rfl) ?_
    refine x_g10 C P d_X_dropAssigns_15 ?_
    refine lv_iload hx hb d_X_dropAssigns_18 (lv_at hl 0 rfl) ?_
    refine x_l10 C P (by omega) d_X_dropAssigns_20 ?_
    refine lv_aload_n hx hb d_X_dropAssigns_21 rfl (lv_at hl 1 rfl) ?_
    refine x_g3 C P d_X_dropAssigns_22 ?_
    refine lv_iconst (v := nI 3) hx hb d_X_dropAssigns_25 rfl ?_
    refine lv_iload_n hx hb d_X_dropAssigns_26 rfl (lv_at hl 3 rfl) ?_
    refine n_imul hx hb d_X_dropAssigns_27 ?_
    refine lv_iload_n hx hb d_X_dropAssigns_28 rfl (lv_at hl 4 rfl) ?_
    refine n_iadd hx hb d_X_dropAssigns_29 ?_
    refine x_l3 C P (by omega) d_X_dropAssigns_30 ?_
    refine n_gt (tgt := 42) hx hb (by first | omega | exact Nat.le_trans (hB _ _) (by decide)) (by first | omega | exact Nat.le_trans (hB _ _) (by decide)) d_X_dropAssigns_31 (by decide) (fun c31 => ?_) (fun c31 => ?_)
    · refine lv_iinc (v := nI (o + 1)) (lv' := [(3, .int (nI (o + 1))), (4, .int (nI ((3 * r) + o))), (0, .ref (q 0)), (1, .int (nI (r))), (2, .int (nI (ch)))]) hx hb d_X_dropAssigns_42 hl (k := 4) rfl (nI_inc1 _) (by decide) rfl (fun ls hl => ?_)
      refine lv_goto (tgt := 2) hx hb d_X_dropAssigns_45 (by decide) ?_
      exact ih (o + 1) (by omega) _ _ _ (by unfold x_dS; rw [if_neg (by omega)]; exact P) (lv_sub hl [2, 3, 4, 0] rfl)
    · refine lv_aload_n hx hb d_X_dropAssigns_34 rfl (lv_at hl 1 rfl) ?_
      refine x_g10 C P d_X_dropAssigns_35 ?_
      refine lv_iload hx hb d_X_dropAssigns_38 (lv_at hl 0 rfl) ?_
      refine lv_iconst (v := nI 0) hx hb d_X_dropAssigns_40 rfl ?_
      refine x_s10 C P (x := 0) (by omega) d_X_dropAssigns_41 (fun H locs P => ?_)
      obtain ⟨g1_, eg1_⟩ : ∃ z, z = x_su (x_dS g r ch o) 10 ((3 * r) + o) 0 := ⟨_, rfl⟩
      rw [← eg1_] at P
      refine lv_iinc (v := nI (o + 1)) (lv' := [(3, .int (nI (o + 1))), (4, .int (nI ((3 * r) + o))), (0, .ref (q 0)), (1, .int (nI (r))), (2, .int (nI (ch)))]) hx hb d_X_dropAssigns_42 hl (k := 4) rfl (nI_inc1 _) (by decide) rfl (fun ls hl => ?_)
      refine lv_goto (tgt := 2) hx hb d_X_dropAssigns_45 (by decide) ?_
      exact ih (o + 1) (by omega) _ _ _ (by unfold x_dS; rw [if_pos (by assumption), ← eg1_]; exact P) (lv_sub hl [2, 3, 4, 0] rfl)
set_option maxHeartbeats 2000000 in
set_option maxRecDepth 20000 in
theorem lp_X_cover (C : z_C p s m args c b_X_cover 5 R_X D cI cL) {r ch : Nat} (hr : r < 3) (hch : ch < 48) (hB : x_Bd g)
    (hend : ∀ H locs ls, z_W D A H0 H locs (x_ws q cI (x_cV g r ch 3) v) → lv_has ls 5 [(0, .ref (q 0)), (1, .int (nI (r))), (2, .int (nI (ch))), (3, .int (nI (3)))] → W p l e (z_rm 0) s m args below meth c H locs 0 0 Q (F0 m 57 ls [])) :
    ∀ n o, o + n = 3 → ∀ H locs ls, z_W D A H0 H locs (x_ws q cI (x_cV g r ch o) v) → lv_has ls 5 [(0, .ref (q 0)), (1, .int (nI (r))), (2, .int (nI (ch))), (3, .int (nI (o)))] → W p l e (z_rm 0) s m args below meth c H locs 0 0 Q (F0 m 2 ls []) := by
  have hx := C.1
  have hb := C.2.1
  have hf : 0 ≤ (z_rm 0).cells ∧ 0 ≤ (z_rm 0).slots := ⟨Nat.zero_le _, Nat.zero_le _⟩
  intro n
  induction n with
  | zero =>
    intro o ho H locs ls P hl
    obtain rfl : o = 3 := by omega
    refine lv_iload_n hx hb d_X_cover_2 rfl (lv_at hl 3 rfl) ?_
    refine lv_iconst (v := nI 3) hx hb d_X_cover_3 rfl ?_
    refine n_ge (tgt := 57) hx hb (by first | omega | exact Nat.le_trans (hB _ _) (by decide)) (by first | omega | exact Nat.le_trans (hB _ _) (by decide)) d_X_cover_4 (by decide) (fun c4 => ?_) (fun hz => absurd hz (by decide))
    exact hend _ _ _ P (lv_sub hl [0, 1, 2, 3] rfl)
  | succ n ih =>
    intro o ho H locs ls P hl
    have hB := x_cV_le hB r ch o
    refine lv_iload_n hx hb d_X_cover_2 rfl (lv_at hl 3 rfl) ?_
    refine lv_iconst (v := nI 3) hx hb d_X_cover_3 rfl ?_
    refine n_ge (tgt := 57) hx hb (by first | omega | exact Nat.le_trans (hB _ _) (by decide)) (by first | omega | exact Nat.le_trans (hB _ _) (by decide)) d_X_cover_4 (by decide) (fun hz => absurd hz (by omega)) (fun c4 => ?_)
    refine lv_iconst (v := nI 3) hx hb d_X_cover_7 rfl ?_
    refine lv_iload_n hx hb d_X_cover_8 rfl (lv_at hl 1 rfl) ?_
    refine n_imul hx hb d_X_cover_9 ?_
    refine lv_iload_n hx hb d_X_cover_10 rfl (lv_at hl 3 rfl) ?_
    refine n_iadd hx hb d_X_cover_11 ?_
    refine lv_istore (lv' := [(4, .int (nI ((3 * r) + o))), (0, .ref (q 0)), (1, .int (nI (r))), (2, .int (nI (ch))), (3, .int (nI (o)))]) hx hb d_X_cover_12 hl (by decide) rfl (fun ls hl => ?_)
    refine lv_aload_n hx hb d_X_cover_14 rfl (lv_at hl 1 rfl) ?_
    refine x_g8 C P d_X_cover_15 ?_
    refine lv_iload hx hb d_X_cover_18 (lv_at hl 0 rfl) ?_
    refine x_l8 C P (by omega) d_X_cover_20 ?_
    refine lv_aload_n hx hb d_X_cover_21 rfl (lv_at hl 1 rfl) ?_
    refine x_g3 C P d_X_cover_22 ?_
    refine lv_iconst (v := nI 3) hx hb d_X_cover_25 rfl ?_
    refine lv_iload_n hx hb d_X_cover_26 rfl (lv_at hl 3 rfl) ?_
    refine n_imul hx hb d_X_cover_27 ?_
    refine lv_iload_n hx hb d_X_cover_28 rfl (lv_at hl 4 rfl) ?_
    refine n_iadd hx hb d_X_cover_29 ?_
    refine x_l3 C P (by omega) d_X_cover_30 ?_
    refine n_ge (tgt := 51) hx hb (by first | omega | exact Nat.le_trans (hB _ _) (by decide)) (by first | omega | exact Nat.le_trans (hB _ _) (by decide)) d_X_cover_31 (by decide) (fun c31 => ?_) (fun c31 => ?_)
    · refine lv_iinc (v := nI (o + 1)) (lv' := [(3, .int (nI (o + 1))), (4, .int (nI ((3 * r) + o))), (0, .ref (q 0)), (1, .int (nI (r))), (2, .int (nI (ch)))]) hx hb d_X_cover_51 hl (k := 4) rfl (nI_inc1 _) (by decide) rfl (fun ls hl => ?_)
      refine lv_goto (tgt := 2) hx hb d_X_cover_54 (by decide) ?_
      exact ih (o + 1) (by omega) _ _ _ (by unfold x_cV; rw [if_neg (by omega)]; exact P) (lv_sub hl [2, 3, 4, 0] rfl)
    · refine lv_aload_n hx hb d_X_cover_34 rfl (lv_at hl 1 rfl) ?_
      refine x_g8 C P d_X_cover_35 ?_
      refine lv_iload hx hb d_X_cover_38 (lv_at hl 0 rfl) ?_
      refine lv_aload_n hx hb d_X_cover_40 rfl (lv_at hl 1 rfl) ?_
      refine x_g3 C P d_X_cover_41 ?_
      refine lv_iconst (v := nI 3) hx hb d_X_cover_44 rfl ?_
      refine lv_iload_n hx hb d_X_cover_45 rfl (lv_at hl 3 rfl) ?_
      refine n_imul hx hb d_X_cover_46 ?_
      refine lv_iload_n hx hb d_X_cover_47 rfl (lv_at hl 4 rfl) ?_
      refine n_iadd hx hb d_X_cover_48 ?_
      refine x_l3 C P (by omega) d_X_cover_49 ?_
      refine x_s8 C P (x := (x_cV g r ch o) 3 ((3 * ch) + o)) (by omega) d_X_cover_50 (fun H locs P => ?_)
      obtain ⟨g1_, eg1_⟩ : ∃ z, z = x_su (x_cV g r ch o) 8 ((3 * r) + o) ((x_cV g r ch o) 3 ((3 * ch) + o)) := ⟨_, rfl⟩
      rw [← eg1_] at P
      refine lv_iinc (v := nI (o + 1)) (lv' := [(3, .int (nI (o + 1))), (4, .int (nI ((3 * r) + o))), (0, .ref (q 0)), (1, .int (nI (r))), (2, .int (nI (ch)))]) hx hb d_X_cover_51 hl (k := 4) rfl (nI_inc1 _) (by decide) rfl (fun ls hl => ?_)
      refine lv_goto (tgt := 2) hx hb d_X_cover_54 (by decide) ?_
      exact ih (o + 1) (by omega) _ _ _ (by unfold x_cV; rw [if_pos (by assumption), ← eg1_]; exact P) (lv_sub hl [2, 3, 4, 0] rfl)
theorem L_X_survivor : z_LS R_X 83 y_X_survivor b_X_survivor 6 (some .int) 4 := ⟨ml_X_83, sm_X_survivor, in_X, k_X_survivor, by decide +kernel⟩
set_option maxHeartbeats 2000000 in
set_option maxRecDepth 20000 in
theorem lp_X_joinAssigns (C : z_C p s m args c b_X_joinAssigns 6 R_X D cI cL) {f t : Nat} (hft : f < 3) (htt : t < 3) (hB : x_Bd g)
    (hend : ∀ H locs ls, z_W D A H0 H locs (x_ws q cI (x_jS g f t 3) v) → lv_has ls 6 [(0, .ref (q 0)), (1, .int (nI (f))), (2, .int (nI (t))), (3, .int (nI (3)))] → W p l e (z_rm 1) s m args below meth c H locs 0 0 Q (F0 m 74 ls [])) :
    ∀ n o, o + n = 3 → ∀ H locs ls, z_W D A H0 H locs (x_ws q cI (x_jS g f t o) v) → lv_has ls 6 [(0, .ref (q 0)), (1, .int (nI (f))), (2, .int (nI (t))), (3, .int (nI (o)))] → W p l e (z_rm 1) s m args below meth c H locs 0 0 Q (F0 m 2 ls []) := by
  have hx := C.1
  have hb := C.2.1
  have hf : 0 ≤ (z_rm 1).cells ∧ 0 ≤ (z_rm 1).slots := ⟨Nat.zero_le _, Nat.zero_le _⟩
  intro n
  induction n with
  | zero =>
    intro o ho H locs ls P hl
    obtain rfl : o = 3 := by omega
    refine lv_iload_n hx hb d_X_joinAssigns_2 rfl (lv_at hl 3 rfl) ?_
    refine lv_iconst (v := nI 3) hx hb d_X_joinAssigns_3 rfl ?_
    refine n_ge (tgt := 74) hx hb (by first | omega | exact Nat.le_trans (hB _ _) (by decide)) (by first | omega | exact Nat.le_trans (hB _ _) (by decide)) d_X_joinAssigns_4 (by decide) (fun c4 => ?_) (fun hz => absurd hz (by decide))
    exact hend _ _ _ P (lv_sub hl [0, 1, 2, 3] rfl)
  | succ n ih =>
    intro o ho H locs ls P hl
    have hB := x_jS_le hB f t o
    refine lv_iload_n hx hb d_X_joinAssigns_2 rfl (lv_at hl 3 rfl) ?_
    refine lv_iconst (v := nI 3) hx hb d_X_joinAssigns_3 rfl ?_
    refine n_ge (tgt := 74) hx hb (by first | omega | exact Nat.le_trans (hB _ _) (by decide)) (by first | omega | exact Nat.le_trans (hB _ _) (by decide)) d_X_joinAssigns_4 (by decide) (fun hz => absurd hz (by omega)) (fun c4 => ?_)
    refine lv_aload_n hx hb d_X_joinAssigns_7 rfl (lv_at hl 0 rfl) ?_
    refine x_g10 C P d_X_joinAssigns_8 ?_
    refine lv_iconst (v := nI 3) hx hb d_X_joinAssigns_11 rfl ?_
    refine lv_iload_n hx hb d_X_joinAssigns_12 rfl (lv_at hl 2 rfl) ?_
    refine n_imul hx hb d_X_joinAssigns_13 ?_
    refine lv_iload_n hx hb d_X_joinAssigns_14 rfl (lv_at hl 3 rfl) ?_
    refine n_iadd hx hb d_X_joinAssigns_15 ?_
    refine x_l10 C P (by omega) d_X_joinAssigns_16 ?_
    refine lv_istore (lv' := [(4, .int (nI ((x_jS g f t o) 10 ((3 * t) + o)))), (0, .ref (q 0)), (1, .int (nI (f))), (2, .int (nI (t))), (3, .int (nI (o)))]) hx hb d_X_joinAssigns_17 hl (by decide) rfl (fun ls hl => ?_)
    refine lv_aload_n hx hb d_X_joinAssigns_19 rfl (lv_at hl 1 rfl) ?_
    refine x_g10 C P d_X_joinAssigns_20 ?_
    refine lv_iconst (v := nI 3) hx hb d_X_joinAssigns_23 rfl ?_
    refine lv_iload_n hx hb d_X_joinAssigns_24 rfl (lv_at hl 2 rfl) ?_
    refine n_imul hx hb d_X_joinAssigns_25 ?_
    refine lv_iload_n hx hb d_X_joinAssigns_26 rfl (lv_at hl 4 rfl) ?_
    refine n_iadd hx hb d_X_joinAssigns_27 ?_
    refine x_l10 C P (by omega) d_X_joinAssigns_28 ?_
    refine lv_istore (lv' := [(5, .int (nI ((x_jS g f t o) 10 ((3 * f) + o)))), (4, .int (nI ((x_jS g f t o) 10 ((3 * t) + o)))), (0, .ref (q 0)), (1, .int (nI (f))), (2, .int (nI (t))), (3, .int (nI (o)))]) hx hb d_X_joinAssigns_29 hl (by decide) rfl (fun ls hl => ?_)
    refine lv_aload_n hx hb d_X_joinAssigns_31 rfl (lv_at hl 2 rfl) ?_
    refine x_g10 C P d_X_joinAssigns_32 ?_
    refine lv_iconst (v := nI 3) hx hb d_X_joinAssigns_35 rfl ?_
    refine lv_iload_n hx hb d_X_joinAssigns_36 rfl (lv_at hl 4 rfl) ?_
    refine n_imul hx hb d_X_joinAssigns_37 ?_
    refine lv_iload_n hx hb d_X_joinAssigns_38 rfl (lv_at hl 5 rfl) ?_
    refine n_iadd hx hb d_X_joinAssigns_39 ?_
    refine lv_iload hx hb d_X_joinAssigns_40 (lv_at hl 1 rfl) ?_
    refine lv_aload_n hx hb d_X_joinAssigns_42 rfl (lv_at hl 2 rfl) ?_
    refine x_g7 C P d_X_joinAssigns_43 ?_
    refine lv_iconst (v := nI 3) hx hb d_X_joinAssigns_46 rfl ?_
    refine lv_iload_n hx hb d_X_joinAssigns_47 rfl (lv_at hl 4 rfl) ?_
    refine n_imul hx hb d_X_joinAssigns_48 ?_
    refine lv_iload_n hx hb d_X_joinAssigns_49 rfl (lv_at hl 5 rfl) ?_
    refine n_iadd hx hb d_X_joinAssigns_50 ?_
    refine x_l7 C P (by omega) d_X_joinAssigns_51 ?_
    refine lv_iload hx hb d_X_joinAssigns_52 (lv_at hl 0 rfl) ?_
    refine lv_aload_n hx hb d_X_joinAssigns_54 rfl (lv_at hl 2 rfl) ?_
    refine x_g7 C P d_X_joinAssigns_55 ?_
    refine lv_iconst (v := nI 3) hx hb d_X_joinAssigns_58 rfl ?_
    refine lv_iload_n hx hb d_X_joinAssigns_59 rfl (lv_at hl 3 rfl) ?_
    refine n_imul hx hb d_X_joinAssigns_60 ?_
    refine lv_iload_n hx hb d_X_joinAssigns_61 rfl (lv_at hl 5 rfl) ?_
    refine n_iadd hx hb d_X_joinAssigns_62 ?_
    refine x_l7 C P (by omega) d_X_joinAssigns_63 ?_
    refine z_calls C.U L_X_survivor (c_X_survivor (hB _ _) (hB _ _) (hB _ _) (hB _ _)) ⟨by decide, by decide⟩ rfl hl.1 (Nat.le_of_ble_eq_true rfl) hf d_X_joinAssigns_64 rfl ?_
    refine x_s10 C P (x := x_sur ((x_jS g f t o) 10 ((3 * t) + o)) ((x_jS g f t o) 7 ((3 * t) + o)) ((x_jS g f t o) 10 ((3 * f) + o)) ((x_jS g f t o) 7 ((3 * f) + o))) (by omega) d_X_joinAssigns_67 (fun H locs P => ?_)
    obtain ⟨g1_, eg1_⟩ : ∃ z, z = x_su (x_jS g f t o) 10 ((3 * t) + o) (x_sur ((x_jS g f t o) 10 ((3 * t) + o)) ((x_jS g f t o) 7 ((3 * t) + o)) ((x_jS g f t o) 10 ((3 * f) + o)) ((x_jS g f t o) 7 ((3 * f) + o))) := ⟨_, rfl⟩
    rw [← eg1_] at P
    refine lv_iinc (v := nI (o + 1)) (lv' := [(3, .int (nI (o + 1))), (5, .int (nI ((x_jS g f t o) 10 ((3 * f) + o)))), (4, .int (nI ((x_jS g f t o) 10 ((3 * t) + o)))), (0, .ref (q 0)), (1, .int (nI (f))), (2, .int (nI (t)))]) hx hb d_X_joinAssigns_68 hl (k := 5) rfl (nI_inc1 _) (by decide) rfl (fun ls hl => ?_)
    refine lv_goto (tgt := 2) hx hb d_X_joinAssigns_71 (by decide) ?_
    exact ih (o + 1) (by omega) _ _ _ (by unfold x_jS; rw [← eg1_]; exact P) (lv_sub hl [3, 4, 5, 0] rfl)
set_option maxHeartbeats 2000000 in
set_option maxRecDepth 20000 in
theorem lp_X_joinAdds_in (C : z_C p s m args c b_X_joinAdds 7 R_X D cI cL) {f t : Nat} (hft : f < 3) (htt : t < 3) {el : Nat} (hel : el < 8) (hB : x_Bd g)
    (hend : ∀ H locs ls, z_W D A H0 H locs (x_ws q cI (x_jI g f t el 3) v) → lv_has ls 7 [(0, .ref (q 0)), (1, .int (nI (f))), (2, .int (nI (t))), (3, .int (nI (el))), (4, .int (nI (3)))] → W p l e (z_rm 1) s m args below meth c H locs 0 0 Q (F0 m 104 ls [])) :
    ∀ n o, o + n = 3 → ∀ H locs ls, z_W D A H0 H locs (x_ws q cI (x_jI g f t el o) v) → lv_has ls 7 [(0, .ref (q 0)), (1, .int (nI (f))), (2, .int (nI (t))), (3, .int (nI (el))), (4, .int (nI (o)))] → W p l e (z_rm 1) s m args below meth c H locs 0 0 Q (F0 m 11 ls []) := by
  have hx := C.1
  have hb := C.2.1
  have hf : 0 ≤ (z_rm 1).cells ∧ 0 ≤ (z_rm 1).slots := ⟨Nat.zero_le _, Nat.zero_le _⟩
  intro n
  induction n with
  | zero =>
    intro o ho H locs ls P hl
    obtain rfl : o = 3 := by omega
    refine lv_iload hx hb d_X_joinAdds_11 (lv_at hl 4 rfl) ?_
    refine lv_iconst (v := nI 3) hx hb d_X_joinAdds_13 rfl ?_
    refine n_ge (tgt := 104) hx hb (by first | omega | exact Nat.le_trans (hB _ _) (by decide)) (by first | omega | exact Nat.le_trans (hB _ _) (by decide)) d_X_joinAdds_14 (by decide) (fun c14 => ?_) (fun hz => absurd hz (by decide))
    exact hend _ _ _ P (lv_sub hl [0, 1, 2, 3, 4] rfl)
  | succ n ih =>
    intro o ho H locs ls P hl
    have hB := x_jI_le hB f t el o
    refine lv_iload hx hb d_X_joinAdds_11 (lv_at hl 4 rfl) ?_
    refine lv_iconst (v := nI 3) hx hb d_X_joinAdds_13 rfl ?_
    refine n_ge (tgt := 104) hx hb (by first | omega | exact Nat.le_trans (hB _ _) (by decide)) (by first | omega | exact Nat.le_trans (hB _ _) (by decide)) d_X_joinAdds_14 (by decide) (fun hz => absurd hz (by omega)) (fun c14 => ?_)
    refine lv_aload_n hx hb d_X_joinAdds_17 rfl (lv_at hl 0 rfl) ?_
    refine x_g9 C P d_X_joinAdds_18 ?_
    refine lv_bipush (v := nI 24) hx hb d_X_joinAdds_21 rfl ?_
    refine lv_iload_n hx hb d_X_joinAdds_23 rfl (lv_at hl 2 rfl) ?_
    refine n_imul hx hb d_X_joinAdds_24 ?_
    refine lv_iconst (v := nI 3) hx hb d_X_joinAdds_25 rfl ?_
    refine lv_iload_n hx hb d_X_joinAdds_26 rfl (lv_at hl 3 rfl) ?_
    refine n_imul hx hb d_X_joinAdds_27 ?_
    refine n_iadd hx hb d_X_joinAdds_28 ?_
    refine lv_iload hx hb d_X_joinAdds_29 (lv_at hl 4 rfl) ?_
    refine n_iadd hx hb d_X_joinAdds_31 ?_
    refine x_l9 C P (by omega) d_X_joinAdds_32 ?_
    refine lv_istore (lv' := [(5, .int (nI ((x_jI g f t el o) 9 (((24 * t) + (3 * el)) + o)))), (0, .ref (q 0)), (1, .int (nI (f))), (2, .int (nI (t))), (3, .int (nI (el))), (4, .int (nI (o)))]) hx hb d_X_joinAdds_33 hl (by decide) rfl (fun ls hl => ?_)
    refine lv_aload_n hx hb d_X_joinAdds_35 rfl (lv_at hl 1 rfl) ?_
    refine x_g9 C P d_X_joinAdds_36 ?_
    refine lv_bipush (v := nI 24) hx hb d_X_joinAdds_39 rfl ?_
    refine lv_iload_n hx hb d_X_joinAdds_41 rfl (lv_at hl 2 rfl) ?_
    refine n_imul hx hb d_X_joinAdds_42 ?_
    refine lv_iconst (v := nI 3) hx hb d_X_joinAdds_43 rfl ?_
    refine lv_iload_n hx hb d_X_joinAdds_44 rfl (lv_at hl 4 rfl) ?_
    refine n_imul hx hb d_X_joinAdds_45 ?_
    refine n_iadd hx hb d_X_joinAdds_46 ?_
    refine lv_iload hx hb d_X_joinAdds_47 (lv_at hl 5 rfl) ?_
    refine n_iadd hx hb d_X_joinAdds_49 ?_
    refine x_l9 C P (by omega) d_X_joinAdds_50 ?_
    refine lv_istore (lv' := [(6, .int (nI ((x_jI g f t el o) 9 (((24 * f) + (3 * el)) + o)))), (5, .int (nI ((x_jI g f t el o) 9 (((24 * t) + (3 * el)) + o)))), (0, .ref (q 0)), (1, .int (nI (f))), (2, .int (nI (t))), (3, .int (nI (el))), (4, .int (nI (o)))]) hx hb d_X_joinAdds_51 hl (by decide) rfl (fun ls hl => ?_)
    refine lv_aload_n hx hb d_X_joinAdds_53 rfl (lv_at hl 2 rfl) ?_
    refine x_g9 C P d_X_joinAdds_54 ?_
    refine lv_bipush (v := nI 24) hx hb d_X_joinAdds_57 rfl ?_
    refine lv_iload_n hx hb d_X_joinAdds_59 rfl (lv_at hl 4 rfl) ?_
    refine n_imul hx hb d_X_joinAdds_60 ?_
    refine lv_iconst (v := nI 3) hx hb d_X_joinAdds_61 rfl ?_
    refine lv_iload_n hx hb d_X_joinAdds_62 rfl (lv_at hl 5 rfl) ?_
    refine n_imul hx hb d_X_joinAdds_63 ?_
    refine n_iadd hx hb d_X_joinAdds_64 ?_
    refine lv_iload hx hb d_X_joinAdds_65 (lv_at hl 6 rfl) ?_
    refine n_iadd hx hb d_X_joinAdds_67 ?_
    refine lv_iload hx hb d_X_joinAdds_68 (lv_at hl 1 rfl) ?_
    refine lv_aload_n hx hb d_X_joinAdds_70 rfl (lv_at hl 2 rfl) ?_
    refine x_g7 C P d_X_joinAdds_71 ?_
    refine lv_iconst (v := nI 3) hx hb d_X_joinAdds_74 rfl ?_
    refine lv_iload_n hx hb d_X_joinAdds_75 rfl (lv_at hl 4 rfl) ?_
    refine n_imul hx hb d_X_joinAdds_76 ?_
    refine lv_iload hx hb d_X_joinAdds_77 (lv_at hl 6 rfl) ?_
    refine n_iadd hx hb d_X_joinAdds_79 ?_
    refine x_l7 C P (by omega) d_X_joinAdds_80 ?_
    refine lv_iload hx hb d_X_joinAdds_81 (lv_at hl 0 rfl) ?_
    refine lv_aload_n hx hb d_X_joinAdds_83 rfl (lv_at hl 2 rfl) ?_
    refine x_g7 C P d_X_joinAdds_84 ?_
    refine lv_iconst (v := nI 3) hx hb d_X_joinAdds_87 rfl ?_
    refine lv_iload_n hx hb d_X_joinAdds_88 rfl (lv_at hl 3 rfl) ?_
    refine n_imul hx hb d_X_joinAdds_89 ?_
    refine lv_iload hx hb d_X_joinAdds_90 (lv_at hl 6 rfl) ?_
    refine n_iadd hx hb d_X_joinAdds_92 ?_
    refine x_l7 C P (by omega) d_X_joinAdds_93 ?_
    refine z_calls C.U L_X_survivor (c_X_survivor (hB _ _) (hB _ _) (hB _ _) (hB _ _)) ⟨by decide, by decide⟩ rfl hl.1 (Nat.le_of_ble_eq_true rfl) hf d_X_joinAdds_94 rfl ?_
    refine x_s9 C P (x := x_sur ((x_jI g f t el o) 9 (((24 * t) + (3 * el)) + o)) ((x_jI g f t el o) 7 ((3 * t) + o)) ((x_jI g f t el o) 9 (((24 * f) + (3 * el)) + o)) ((x_jI g f t el o) 7 ((3 * f) + o))) (by omega) d_X_joinAdds_97 (fun H locs P => ?_)
    obtain ⟨g1_, eg1_⟩ : ∃ z, z = x_su (x_jI g f t el o) 9 (((24 * t) + (3 * el)) + o) (x_sur ((x_jI g f t el o) 9 (((24 * t) + (3 * el)) + o)) ((x_jI g f t el o) 7 ((3 * t) + o)) ((x_jI g f t el o) 9 (((24 * f) + (3 * el)) + o)) ((x_jI g f t el o) 7 ((3 * f) + o))) := ⟨_, rfl⟩
    rw [← eg1_] at P
    refine lv_iinc (v := nI (o + 1)) (lv' := [(4, .int (nI (o + 1))), (6, .int (nI ((x_jI g f t el o) 9 (((24 * f) + (3 * el)) + o)))), (5, .int (nI ((x_jI g f t el o) 9 (((24 * t) + (3 * el)) + o)))), (0, .ref (q 0)), (1, .int (nI (f))), (2, .int (nI (t))), (3, .int (nI (el)))]) hx hb d_X_joinAdds_98 hl (k := 6) rfl (nI_inc1 _) (by decide) rfl (fun ls hl => ?_)
    refine lv_goto (tgt := 11) hx hb d_X_joinAdds_101 (by decide) ?_
    exact ih (o + 1) (by omega) _ _ _ (by unfold x_jI; rw [← eg1_]; exact P) (lv_sub hl [3, 4, 5, 6, 0] rfl)
set_option maxHeartbeats 2000000 in
set_option maxRecDepth 20000 in
theorem lp_X_joinVectors (C : z_C p s m args c b_X_joinVectors 6 R_X D cI cL) {f t : Nat} (hft : f < 3) (htt : t < 3) (hB : x_Bd g)
    (hend : ∀ H locs ls, z_W D A H0 H locs (x_ws q cI (x_jV g f t 3) v) → lv_has ls 6 [(0, .ref (q 0)), (1, .int (nI (f))), (2, .int (nI (t))), (3, .int (nI (3)))] → W p l e (z_rm 0) s m args below meth c H locs 0 0 Q (F0 m 109 ls [])) :
    ∀ n o, o + n = 3 → ∀ H locs ls, z_W D A H0 H locs (x_ws q cI (x_jV g f t o) v) → lv_has ls 6 [(0, .ref (q 0)), (1, .int (nI (f))), (2, .int (nI (t))), (3, .int (nI (o)))] → W p l e (z_rm 0) s m args below meth c H locs 0 0 Q (F0 m 2 ls []) := by
  have hx := C.1
  have hb := C.2.1
  intro n
  induction n with
  | zero =>
    intro o ho H locs ls P hl
    obtain rfl : o = 3 := by omega
    refine lv_iload_n hx hb d_X_joinVectors_2 rfl (lv_at hl 3 rfl) ?_
    refine lv_iconst (v := nI 3) hx hb d_X_joinVectors_3 rfl ?_
    refine n_ge (tgt := 109) hx hb (by first | omega | exact Nat.le_trans (hB _ _) (by decide)) (by first | omega | exact Nat.le_trans (hB _ _) (by decide)) d_X_joinVectors_4 (by decide) (fun c4 => ?_) (fun hz => absurd hz (by decide))
    exact hend _ _ _ P (lv_sub hl [0, 1, 2, 3] rfl)
  | succ n ih =>
    intro o ho H locs ls P hl
    have hB := x_jV_le hB f t o
    have second : ∀ g1 : Nat → Nat → Nat, x_Bd g1 → x_jK g1 8 f t o = x_jV g f t (o + 1) → ∀ H locs ls, z_W D A H0 H locs (x_ws q cI g1 v) → lv_has ls 6 [(5, .int (nI (3 * t + o))), (4, .int (nI (3 * f + o))), (0, .ref (q 0)), (1, .int (nI f)), (2, .int (nI t)), (3, .int (nI o))] → W p l e (z_rm 0) s m args below meth c H locs 0 0 Q (F0 m 62 ls []) := by
      intro g1 hB he H locs ls P hl
      refine lv_aload_n hx hb d_X_joinVectors_62 rfl (lv_at hl 2 rfl) ?_
      refine x_g8 C P d_X_joinVectors_63 ?_
      refine lv_iload hx hb d_X_joinVectors_66 (lv_at hl 0 rfl) ?_
      refine lv_aload_n hx hb d_X_joinVectors_68 rfl (lv_at hl 2 rfl) ?_
      refine x_g8 C P d_X_joinVectors_69 ?_
      refine lv_iload hx hb d_X_joinVectors_72 (lv_at hl 1 rfl) ?_
      refine x_l8 C P (by omega) d_X_joinVectors_74 ?_
      refine lv_aload_n hx hb d_X_joinVectors_75 rfl (lv_at hl 2 rfl) ?_
      refine x_g8 C P d_X_joinVectors_76 ?_
      refine lv_iload hx hb d_X_joinVectors_79 (lv_at hl 0 rfl) ?_
      refine x_l8 C P (by omega) d_X_joinVectors_81 ?_
      refine n_le (tgt := 95) hx hb (by first | omega | exact Nat.le_trans (hB _ _) (by decide)) (by first | omega | exact Nat.le_trans (hB _ _) (by decide)) d_X_joinVectors_82 (by decide) (fun c82 => ?_) (fun c82 => ?_)
      · refine lv_aload_n hx hb d_X_joinVectors_95 rfl (lv_at hl 2 rfl) ?_
        refine x_g8 C P d_X_joinVectors_96 ?_
        refine lv_iload hx hb d_X_joinVectors_99 (lv_at hl 0 rfl) ?_
        refine x_l8 C P (by omega) d_X_joinVectors_101 ?_
        refine n_top (y := nI (x_mx (g1 8 (3 * f + o)) (g1 8 (3 * t + o)))) (congrArg nI (by unfold x_mx; first | rw [if_pos (by omega)] | rw [if_neg (by omega)])) ?_
        refine x_s8 C P (by omega) d_X_joinVectors_102 (fun H locs P => ?_)
        refine lv_iinc (v := nI (o + 1)) (lv' := [(3, .int (nI (o + 1))), (5, .int (nI (3 * t + o))), (4, .int (nI (3 * f + o))), (0, .ref (q 0)), (1, .int (nI (f))), (2, .int (nI (t)))]) hx hb d_X_joinVectors_103 hl (k := 5) rfl (nI_inc1 _) (by decide) rfl (fun ls hl => ?_)
        refine lv_goto (tgt := 2) hx hb d_X_joinVectors_106 (by decide) ?_
        exact ih (o + 1) (by omega) _ _ _ (by rw [← he]; exact P) (lv_sub hl [3, 4, 5, 0] rfl)
      · refine lv_aload_n hx hb d_X_joinVectors_85 rfl (lv_at hl 2 rfl) ?_
        refine x_g8 C P d_X_joinVectors_86 ?_
        refine lv_iload hx hb d_X_joinVectors_89 (lv_at hl 1 rfl) ?_
        refine x_l8 C P (by omega) d_X_joinVectors_91 ?_
        refine lv_goto (tgt := 102) hx hb d_X_joinVectors_92 (by decide) ?_
        refine n_top (y := nI (x_mx (g1 8 (3 * f + o)) (g1 8 (3 * t + o)))) (congrArg nI (by unfold x_mx; first | rw [if_pos (by omega)] | rw [if_neg (by omega)])) ?_
        refine x_s8 C P (by omega) d_X_joinVectors_102 (fun H locs P => ?_)
        refine lv_iinc (v := nI (o + 1)) (lv' := [(3, .int (nI (o + 1))), (5, .int (nI (3 * t + o))), (4, .int (nI (3 * f + o))), (0, .ref (q 0)), (1, .int (nI (f))), (2, .int (nI (t)))]) hx hb d_X_joinVectors_103 hl (k := 5) rfl (nI_inc1 _) (by decide) rfl (fun ls hl => ?_)
        refine lv_goto (tgt := 2) hx hb d_X_joinVectors_106 (by decide) ?_
        exact ih (o + 1) (by omega) _ _ _ (by rw [← he]; exact P) (lv_sub hl [3, 4, 5, 0] rfl)
    refine lv_iload_n hx hb d_X_joinVectors_2 rfl (lv_at hl 3 rfl) ?_
    refine lv_iconst (v := nI 3) hx hb d_X_joinVectors_3 rfl ?_
    refine n_ge (tgt := 109) hx hb (by first | omega | exact Nat.le_trans (hB _ _) (by decide)) (by first | omega | exact Nat.le_trans (hB _ _) (by decide)) d_X_joinVectors_4 (by decide) (fun hz => absurd hz (by omega)) (fun c4 => ?_)
    refine lv_iconst (v := nI 3) hx hb d_X_joinVectors_7 rfl ?_
    refine lv_iload_n hx hb d_X_joinVectors_8 rfl (lv_at hl 1 rfl) ?_
    refine n_imul hx hb d_X_joinVectors_9 ?_
    refine lv_iload_n hx hb d_X_joinVectors_10 rfl (lv_at hl 3 rfl) ?_
    refine n_iadd hx hb d_X_joinVectors_11 ?_
    refine lv_istore (lv' := [(4, .int (nI ((3 * f) + o))), (0, .ref (q 0)), (1, .int (nI (f))), (2, .int (nI (t))), (3, .int (nI (o)))]) hx hb d_X_joinVectors_12 hl (by decide) rfl (fun ls hl => ?_)
    refine lv_iconst (v := nI 3) hx hb d_X_joinVectors_14 rfl ?_
    refine lv_iload_n hx hb d_X_joinVectors_15 rfl (lv_at hl 3 rfl) ?_
    refine n_imul hx hb d_X_joinVectors_16 ?_
    refine lv_iload_n hx hb d_X_joinVectors_17 rfl (lv_at hl 4 rfl) ?_
    refine n_iadd hx hb d_X_joinVectors_18 ?_
    refine lv_istore (lv' := [(5, .int (nI ((3 * t) + o))), (4, .int (nI ((3 * f) + o))), (0, .ref (q 0)), (1, .int (nI (f))), (2, .int (nI (t))), (3, .int (nI (o)))]) hx hb d_X_joinVectors_19 hl (by decide) rfl (fun ls hl => ?_)
    refine lv_aload_n hx hb d_X_joinVectors_21 rfl (lv_at hl 2 rfl) ?_
    refine x_g7 C P d_X_joinVectors_22 ?_
    refine lv_iload hx hb d_X_joinVectors_25 (lv_at hl 0 rfl) ?_
    refine lv_aload_n hx hb d_X_joinVectors_27 rfl (lv_at hl 2 rfl) ?_
    refine x_g7 C P d_X_joinVectors_28 ?_
    refine lv_iload hx hb d_X_joinVectors_31 (lv_at hl 1 rfl) ?_
    refine x_l7 C P (by omega) d_X_joinVectors_33 ?_
    refine lv_aload_n hx hb d_X_joinVectors_34 rfl (lv_at hl 2 rfl) ?_
    refine x_g7 C P d_X_joinVectors_35 ?_
    refine lv_iload hx hb d_X_joinVectors_38 (lv_at hl 0 rfl) ?_
    refine x_l7 C P (by omega) d_X_joinVectors_40 ?_
    refine n_le (tgt := 54) hx hb (by first | omega | exact Nat.le_trans (hB _ _) (by decide)) (by first | omega | exact Nat.le_trans (hB _ _) (by decide)) d_X_joinVectors_41 (by decide) (fun c41 => ?_) (fun c41 => ?_)
    · refine lv_aload_n hx hb d_X_joinVectors_54 rfl (lv_at hl 2 rfl) ?_
      refine x_g7 C P d_X_joinVectors_55 ?_
      refine lv_iload hx hb d_X_joinVectors_58 (lv_at hl 0 rfl) ?_
      refine x_l7 C P (by omega) d_X_joinVectors_60 ?_
      refine n_top (y := nI (x_mx ((x_jV g f t o) 7 (3 * f + o)) ((x_jV g f t o) 7 (3 * t + o)))) (congrArg nI (by unfold x_mx; first | rw [if_pos (by omega)] | rw [if_neg (by omega)])) ?_
      refine x_s7 C P (by omega) d_X_joinVectors_61 (fun H locs P => ?_)
      exact second _ (x_jK_le hB 7 f t o) rfl _ _ _ P (lv_sub hl [0, 1, 2, 3, 4, 5] rfl)
    · refine lv_aload_n hx hb d_X_joinVectors_44 rfl (lv_at hl 2 rfl) ?_
      refine x_g7 C P d_X_joinVectors_45 ?_
      refine lv_iload hx hb d_X_joinVectors_48 (lv_at hl 1 rfl) ?_
      refine x_l7 C P (by omega) d_X_joinVectors_50 ?_
      refine lv_goto (tgt := 61) hx hb d_X_joinVectors_51 (by decide) ?_
      refine n_top (y := nI (x_mx ((x_jV g f t o) 7 (3 * f + o)) ((x_jV g f t o) 7 (3 * t + o)))) (congrArg nI (by unfold x_mx; first | rw [if_pos (by omega)] | rw [if_neg (by omega)])) ?_
      refine x_s7 C P (by omega) d_X_joinVectors_61 (fun H locs P => ?_)
      exact second _ (x_jK_le hB 7 f t o) rfl _ _ _ P (lv_sub hl [0, 1, 2, 3, 4, 5] rfl)
end CX1
set_option maxHeartbeats 2000000 in
set_option maxRecDepth 20000 in
theorem c_X_dropAdds {l : Launch} {D : va_G} {cI cL : ClassId} {q : Nat → Nat} {g : Nat → Nat → Nat} {v : Nat → Nat → Int32} {r el ch : Nat} (hr : r < 3) (hel : el < 8) (hch : ch < 48) (hB : x_Bd g) : z_Mv l y_X_dropAdds b_X_dropAdds 6 0 D cI cL (x_ws q cI g v) [.ref (q 0), .int (nI (r)), .int (nI (el)), .int (nI (ch))] (fun _ : Unit => True) (fun _ => x_ws q cI (x_dA g r el ch 3) v) := by
  refine z_mv (own := R_X) (by decide) rfl (Nat.le_of_ble_eq_true rfl) ?_
  intro p e s m args below meth c A ls C P hret hlk hl
  have hx := C.1
  have hb := C.2.1
  have hl : lv_has ls 6 [(0, .ref (q 0)), (1, .int (nI (r))), (2, .int (nI (el))), (3, .int (nI (ch)))] := hl
  refine lv_iconst (v := nI 0) hx hb d_X_dropAdds_0 rfl ?_
  refine lv_istore (lv' := [(4, .int (nI (0))), (0, .ref (q 0)), (1, .int (nI (r))), (2, .int (nI (el))), (3, .int (nI (ch)))]) hx hb d_X_dropAdds_1 hl (by decide) rfl (fun ls hl => ?_)
  exact lp_X_dropAdds C hr hel hch hB (fun H locs ls P hl => z_rv C () trivial P hret hlk d_X_dropAdds_57) 3 0 rfl _ _ _ P (lv_sub hl [1, 2, 3, 4, 0] rfl)
set_option maxHeartbeats 2000000 in
set_option maxRecDepth 20000 in
theorem c_X_dropAssigns {l : Launch} {D : va_G} {cI cL : ClassId} {q : Nat → Nat} {g : Nat → Nat → Nat} {v : Nat → Nat → Int32} {r ch : Nat} (hr : r < 3) (hch : ch < 48) (hB : x_Bd g) : z_Mv l y_X_dropAssigns b_X_dropAssigns 5 0 D cI cL (x_ws q cI g v) [.ref (q 0), .int (nI (r)), .int (nI (ch))] (fun _ : Unit => True) (fun _ => x_ws q cI (x_dS g r ch 3) v) := by
  refine z_mv (own := R_X) (by decide) rfl (Nat.le_of_ble_eq_true rfl) ?_
  intro p e s m args below meth c A ls C P hret hlk hl
  have hx := C.1
  have hb := C.2.1
  have hl : lv_has ls 5 [(0, .ref (q 0)), (1, .int (nI (r))), (2, .int (nI (ch)))] := hl
  refine lv_iconst (v := nI 0) hx hb d_X_dropAssigns_0 rfl ?_
  refine lv_istore_n (lv' := [(3, .int (nI (0))), (0, .ref (q 0)), (1, .int (nI (r))), (2, .int (nI (ch)))]) hx hb d_X_dropAssigns_1 rfl hl (by decide) rfl (fun ls hl => ?_)
  exact lp_X_dropAssigns C hr hch hB (fun H locs ls P hl => z_rv C () trivial P hret hlk d_X_dropAssigns_48) 3 0 rfl _ _ _ P (lv_sub hl [1, 2, 3, 0] rfl)
set_option maxHeartbeats 2000000 in
set_option maxRecDepth 20000 in
theorem c_X_cover {l : Launch} {D : va_G} {cI cL : ClassId} {q : Nat → Nat} {g : Nat → Nat → Nat} {v : Nat → Nat → Int32} {r ch : Nat} (hr : r < 3) (hch : ch < 48) (hB : x_Bd g) : z_Mv l y_X_cover b_X_cover 5 0 D cI cL (x_ws q cI g v) [.ref (q 0), .int (nI (r)), .int (nI (ch))] (fun _ : Unit => True) (fun _ => x_ws q cI (x_cV g r ch 3) v) := by
  refine z_mv (own := R_X) (by decide) rfl (Nat.le_of_ble_eq_true rfl) ?_
  intro p e s m args below meth c A ls C P hret hlk hl
  have hx := C.1
  have hb := C.2.1
  have hl : lv_has ls 5 [(0, .ref (q 0)), (1, .int (nI (r))), (2, .int (nI (ch)))] := hl
  refine lv_iconst (v := nI 0) hx hb d_X_cover_0 rfl ?_
  refine lv_istore_n (lv' := [(3, .int (nI (0))), (0, .ref (q 0)), (1, .int (nI (r))), (2, .int (nI (ch)))]) hx hb d_X_cover_1 rfl hl (by decide) rfl (fun ls hl => ?_)
  exact lp_X_cover C hr hch hB (fun H locs ls P hl => z_rv C () trivial P hret hlk d_X_cover_57) 3 0 rfl _ _ _ P (lv_sub hl [1, 2, 3, 0] rfl)
set_option maxHeartbeats 2000000 in
set_option maxRecDepth 20000 in
theorem c_X_joinAssigns {l : Launch} {D : va_G} {cI cL : ClassId} {q : Nat → Nat} {g : Nat → Nat → Nat} {v : Nat → Nat → Int32} {f t : Nat} (hft : f < 3) (htt : t < 3) (hB : x_Bd g) : z_Mv l y_X_joinAssigns b_X_joinAssigns 6 1 D cI cL (x_ws q cI g v) [.ref (q 0), .int (nI (f)), .int (nI (t))] (fun _ : Unit => True) (fun _ => x_ws q cI (x_jS g f t 3) v) := by
  refine z_mv (own := R_X) (by decide) rfl (Nat.le_of_ble_eq_true rfl) ?_
  intro p e s m args below meth c A ls C P hret hlk hl
  have hx := C.1
  have hb := C.2.1
  have hl : lv_has ls 6 [(0, .ref (q 0)), (1, .int (nI (f))), (2, .int (nI (t)))] := hl
  refine lv_iconst (v := nI 0) hx hb d_X_joinAssigns_0 rfl ?_
  refine lv_istore_n (lv' := [(3, .int (nI (0))), (0, .ref (q 0)), (1, .int (nI (f))), (2, .int (nI (t)))]) hx hb d_X_joinAssigns_1 rfl hl (by decide) rfl (fun ls hl => ?_)
  exact lp_X_joinAssigns C hft htt hB (fun H locs ls P hl => z_rv C () trivial P hret hlk d_X_joinAssigns_74) 3 0 rfl _ _ _ P (lv_sub hl [1, 2, 3, 0] rfl)
set_option maxHeartbeats 2000000 in
set_option maxRecDepth 20000 in
theorem c_X_joinVectors {l : Launch} {D : va_G} {cI cL : ClassId} {q : Nat → Nat} {g : Nat → Nat → Nat} {v : Nat → Nat → Int32} {f t : Nat} (hft : f < 3) (htt : t < 3) (hB : x_Bd g) : z_Mv l y_X_joinVectors b_X_joinVectors 6 0 D cI cL (x_ws q cI g v) [.ref (q 0), .int (nI (f)), .int (nI (t))] (fun _ : Unit => True) (fun _ => x_ws q cI (x_jV g f t 3) v) := by
  refine z_mv (own := R_X) (by decide) rfl (Nat.le_of_ble_eq_true rfl) ?_
  intro p e s m args below meth c A ls C P hret hlk hl
  have hx := C.1
  have hb := C.2.1
  have hl : lv_has ls 6 [(0, .ref (q 0)), (1, .int (nI (f))), (2, .int (nI (t)))] := hl
  refine lv_iconst (v := nI 0) hx hb d_X_joinVectors_0 rfl ?_
  refine lv_istore_n (lv' := [(3, .int (nI (0))), (0, .ref (q 0)), (1, .int (nI (f))), (2, .int (nI (t)))]) hx hb d_X_joinVectors_1 rfl hl (by decide) rfl (fun ls hl => ?_)
  exact lp_X_joinVectors C hft htt hB (fun H locs ls P hl => z_rv C () trivial P hret hlk d_X_joinVectors_109) 3 0 rfl _ _ _ P (lv_sub hl [1, 2, 3, 0] rfl)
end
section
/-! the class's other methods, as functions -/
theorem x_ok_nI {r : Nat} (h : r < 3) : x_ok (nI r) := ⟨nI_pos (nI_small (by omega)), nI_nlt (a := 2) (b := r) (by omega) (by decide) |> fun z w => z w⟩
theorem x_ok_of {x : Int32} (h : x_ok x) : ∃ r, r < 3 ∧ x = nI r := by
  obtain ⟨j, h1, h2⟩ := nI_of2 (M := 2) (n := 2) (by decide) h.1 (Int32.not_lt.mp h.2)
  exact ⟨j, by omega, h2⟩
def x_ap0 (g : Nat → Nat → Nat) (el r ch o nu : Nat) : Nat → Nat → Nat :=
  if g 1 ch = 0 then x_su g 9 (24 * r + 3 * el + o) nu else if g 1 ch = 1 then x_dA g r el ch 3 else if g 1 ch = 2 then x_su (x_dS g r ch 3) 10 (3 * r + o) nu else if g 1 ch = 4 then x_cV (x_dS (x_dE g r ch 8) r ch 3) r ch 3 else g
def x_ap (g : Nat → Nat → Nat) (el r ch o nu : Nat) : Nat → Nat → Nat := x_su (x_ap0 g el r ch o nu) 7 (3 * r + o) nu
def x_mS (g : Nat → Nat → Nat) (r n : Nat) : Nat → Nat → Nat → Nat
  | 0 => g
  | o + 1 => x_su (x_mS g r n o) 3 (3 * n + o) (x_mS g r n o 7 (3 * r + o))
def x_m0 (g : Nat → Nat → Nat) (sn : Nat) : Nat → Nat → Nat := x_su (x_su g 0 0 (g 0 0 + 1)) 1 (g 0 0) sn
def x_m1 (g : Nat → Nat → Nat) (r sn : Nat) : Nat → Nat → Nat := x_mS (x_m0 g sn) r (g 0 0) 3
def x_m2 (g : Nat → Nat → Nat) (r sn : Nat) : Nat → Nat → Nat := x_su (x_su (x_m1 g r sn) 4 r (g 4 r + 1)) 5 (49 * r + (g 4 r + 1)) (g 0 0)
def x_mk (g : Nat → Nat → Nat) (el r sn : Nat) : Nat → Nat → Nat := x_ap (x_m2 g r sn) el r (g 0 0) r (g 4 r + 1)
def x_mkv (g : Nat → Nat → Nat) (v : Nat → Nat → Int32) (r sn : Nat) (a : Int32) : Nat → Nat → Int32 := x_sv (x_sv v 2 (g 0 0) a) 6 (49 * r + (g 4 r + 1)) (x_sv v 2 (g 0 0) a 6 (49 * r + (g 4 r + 1) - 1) + (if sn = 3 then a else nI 0))
theorem x_mS_ne {g : Nat → Nat → Nat} {r n k j : Nat} (hk : k ≠ 3) : ∀ o, x_mS g r n o k j = g k j
  | 0 => rfl
  | o + 1 => by
    unfold x_mS
    rw [x_su_ne (by omega)]
    exact x_mS_ne hk o
theorem x_mS_le {g : Nat → Nat → Nat} (h : x_Bd g) (r n : Nat) : ∀ o, x_Bd (x_mS g r n o)
  | 0 => h
  | o + 1 => by
    have ih := x_mS_le h r n o
    unfold x_mS
    exact ih.su (ih _ _)
theorem x_m0_le {g : Nat → Nat → Nat} {sn : Nat} (h : x_Bd g) (hm : g 0 0 < 48) (hs : sn ≤ 4) : x_Bd (x_m0 g sn) := (h.su hm).su (by omega)
theorem x_m2_le {g : Nat → Nat → Nat} {r sn : Nat} (h : x_Bd g) (hm : g 0 0 < 48) (hs : sn ≤ 4) (h4 : g 4 r < 48) : x_Bd (x_m2 g r sn) := ((x_mS_le (x_m0_le h hm hs) r _ 3).su h4).su (by omega)
theorem x_m1_4 {g : Nat → Nat → Nat} {r sn : Nat} : x_m1 g r sn 4 r = g 4 r := by
  unfold x_m1 x_m0
  rw [x_mS_ne (by omega), x_su_ne (by omega), x_su_ne (by omega)]
theorem x_m2_1 {g : Nat → Nat → Nat} {r sn : Nat} : x_m2 g r sn 1 (g 0 0) = sn := by
  unfold x_m2 x_m1 x_m0
  rw [x_su_ne (by omega), x_su_ne (by omega), x_mS_ne (by omega), x_su_eq]
theorem x_mkv_2 {g : Nat → Nat → Nat} {v : Nat → Nat → Int32} {r sn : Nat} {a : Int32} : x_mkv g v r sn a 2 (g 0 0) = a := by
  unfold x_mkv
  rw [x_sv_ne (by omega), x_sv_eq]
theorem x_ap0_le {g : Nat → Nat → Nat} (h : x_Bd g) {el r ch o nu : Nat} (hn : nu ≤ 48) : x_Bd (x_ap0 g el r ch o nu) := by
  unfold x_ap0
  split
  · exact h.su hn
  split
  · exact x_dA_le h _ _ _ _
  split
  · exact (x_dS_le h _ _ _).su hn
  split
  · exact x_cV_le (x_dS_le (x_dE_le h _ _ _) _ _ _) _ _ _
  · exact h
theorem x_ap_le {g : Nat → Nat → Nat} (h : x_Bd g) {el r ch o nu : Nat} (hn : nu ≤ 48) : x_Bd (x_ap g el r ch o nu) := (x_ap0_le h hn).su hn
def x_hs (g : Nat → Nat → Nat) (r el : Nat) : Nat := if 0 < g 9 (24 * r + 3 * el) ∨ 0 < g 9 (24 * r + 3 * el + 1) ∨ 0 < g 9 (24 * r + 3 * el + 2) then 1 else 0
theorem x_hs_1 {g : Nat → Nat → Nat} {r el o : Nat} (ho : o < 3) (h : 0 < g 9 (24 * r + 3 * el + o)) : x_hs g r el = 1 := by
  unfold x_hs
  rcases (show o = 0 ∨ o = 1 ∨ o = 2 by omega) with rfl | rfl | rfl
  · exact if_pos (Or.inl h)
  · rw [if_pos (Or.inr (Or.inl h))]
  · rw [if_pos (Or.inr (Or.inr h))]
theorem x_hs_0 {g : Nat → Nat → Nat} {r el : Nat} (h : ∀ o, o < 3 → g 9 (24 * r + 3 * el + o) = 0) : x_hs g r el = 0 := by
  unfold x_hs
  have h0 := h 0 (by omega)
  have h1 := h 1 (by omega)
  have h2 := h 2 (by omega)
  rw [if_neg]
  simp only [Nat.add_zero] at h0
  omega
def x_vl (g : Nat → Nat → Nat) (r : Nat) : Nat → Nat
  | 0 => 0
  | o + 1 => x_vl g r o + if 0 < g 10 (3 * r + o) then 1 else 0
theorem x_vl_le (g : Nat → Nat → Nat) (r : Nat) : ∀ o, x_vl g r o ≤ o
  | 0 => Nat.le_refl _
  | o + 1 => by
    have := x_vl_le g r o
    unfold x_vl
    split <;> omega
def x_vf (g : Nat → Nat → Nat) (v : Nat → Nat → Int32) (r o : Nat) : Int32 := v 2 (g 5 (49 * o + g 10 (3 * r + o)))
def x_plc (g : Nat → Nat → Nat) (v : Nat → Nat → Int32) (r o i : Nat) : Prop := i ≠ o ∧ 0 < g 10 (3 * r + i) ∧ (x_vf g v r i < x_vf g v r o ∨ x_vf g v r i = x_vf g v r o ∧ i < o)
noncomputable def bI (P : Prop) : Nat := @ite Nat P (Classical.propDecidable P) 1 0
theorem bI_t {P : Prop} (h : P) : bI P = 1 := by unfold bI; rw [if_pos h]
theorem bI_f {P : Prop} (h : ¬ P) : bI P = 0 := by unfold bI; rw [if_neg h]
theorem bI_le (P : Prop) : bI P ≤ 1 := by
  by_cases h : P
  · rw [bI_t h]; omega
  · rw [bI_f h]; omega
theorem bI_iff {P P' : Prop} (h : P ↔ P') : bI P = bI P' := by rw [propext h]
noncomputable def x_pl (g : Nat → Nat → Nat) (v : Nat → Nat → Int32) (r o : Nat) : Nat → Nat
  | 0 => 0
  | i + 1 => x_pl g v r o i + bI (x_plc g v r o i)
theorem x_pl_le (g : Nat → Nat → Nat) (v : Nat → Nat → Int32) (r o : Nat) : ∀ i, x_pl g v r o i ≤ i
  | 0 => Nat.le_refl _
  | i + 1 => by
    have := x_pl_le g v r o i
    have := bI_le (x_plc g v r o i)
    unfold x_pl
    omega
def x_vc (g : Nat → Nat → Nat) (v : Nat → Nat → Int32) (r : Nat) (pl : Int32) (o : Nat) : Prop := 0 < g 10 (3 * r + o) ∧ nI (x_pl g v r o 3) = pl
/-- what value answers: the value of the first origin of that place -/
def x_vv (g : Nat → Nat → Nat) (v : Nat → Nat → Int32) (r : Nat) (pl x : Int32) : Prop := (∃ o, o < 3 ∧ (∀ i, i < o → ¬ x_vc g v r pl i) ∧ x_vc g v r pl o ∧ x = x_vf g v r o) ∨ ((∀ o, o < 3 → ¬ x_vc g v r pl o) ∧ x = 0)
def x_tt (g : Nat → Nat → Nat) (v : Nat → Nat → Int32) (r : Nat) : Nat → Int32
  | 0 => 0
  | o + 1 => x_tt g v r o + (v 6 (49 * o + g 7 (3 * r + o)) - v 6 (49 * o + g 8 (3 * r + o)))
theorem x_vv_hit {g : Nat → Nat → Nat} {v : Nat → Nat → Int32} {r : Nat} {pl x : Int32} (h : x_vv g v r pl x) {o : Nat} (ho : o < 3) (hn : ∀ i, i < o → ¬ x_vc g v r pl i) (hc : x_vc g v r pl o) : x_vf g v r o = x := by
  rcases h with ⟨o', h1, h2, h3, rfl⟩ | ⟨h1, -⟩
  · rcases Nat.lt_trichotomy o o' with q | q | q
    · exact absurd hc (h2 o q)
    · rw [q]
    · exact absurd h3 (hn o' q)
  · exact absurd hc (h1 o ho)
theorem x_vv_none {g : Nat → Nat → Nat} {v : Nat → Nat → Int32} {r : Nat} {pl x : Int32} (h : x_vv g v r pl x) (hn : ∀ i, i < 3 → ¬ x_vc g v r pl i) : nI 0 = x := by
  rcases h with ⟨o', h1, h2, h3, rfl⟩ | ⟨-, h1⟩
  · exact absurd h3 (hn o' h1)
  · rw [h1]; rfl
end
section
/-! contracts of the class's other methods -/
theorem L_X_joinAdds : z_L R_X R_X 52 y_X_joinAdds b_X_joinAdds 7 none 2 := ⟨ml_X_52, im_X_joinAdds, se_X_joinAdds, in_X, k_X_joinAdds, by decide +kernel⟩
theorem L_X_joinAssigns : z_L R_X R_X 56 y_X_joinAssigns b_X_joinAssigns 6 none 2 := ⟨ml_X_56, im_X_joinAssigns, se_X_joinAssigns, in_X, k_X_joinAssigns, by decide +kernel⟩
theorem L_X_joinVectors : z_L R_X R_X 59 y_X_joinVectors b_X_joinVectors 6 none 2 := ⟨ml_X_59, im_X_joinVectors, se_X_joinVectors, in_X, k_X_joinVectors, by decide +kernel⟩
theorem L_X_dropAdds : z_L R_X R_X 73 y_X_dropAdds b_X_dropAdds 6 none 3 := ⟨ml_X_73, im_X_dropAdds, se_X_dropAdds, in_X, k_X_dropAdds, by decide +kernel⟩
theorem L_X_dropAssigns : z_L R_X R_X 77 y_X_dropAssigns b_X_dropAssigns 5 none 2 := ⟨ml_X_77, im_X_dropAssigns, se_X_dropAssigns, in_X, k_X_dropAssigns, by decide +kernel⟩
theorem L_X_cover : z_L R_X R_X 80 y_X_cover b_X_cover 5 none 2 := ⟨ml_X_80, im_X_cover, se_X_cover, in_X, k_X_cover, by decide +kernel⟩
theorem L_X_apply : z_L R_X R_X 48 y_X_apply b_X_apply 7 none 4 := ⟨ml_X_48, im_X_apply, se_X_apply, in_X, k_X_apply, by decide +kernel⟩
theorem L_X_make : z_L R_X R_X 40 y_X_make b_X_make 6 (some .int) 3 := ⟨ml_X_40, im_X_make, se_X_make, in_X, k_X_make, by decide +kernel⟩
theorem L_X_placeOfValue : z_L R_X R_X 62 y_X_placeOfValue b_X_placeOfValue 7 (some .int) 2 := ⟨ml_X_62, im_X_placeOfValue, se_X_placeOfValue, in_X, k_X_placeOfValue, by decide +kernel⟩
theorem L_X_valueFrom : z_L R_X R_X 66 y_X_valueFrom b_X_valueFrom 4 (some .int) 2 := ⟨ml_X_66, im_X_valueFrom, se_X_valueFrom, in_X, k_X_valueFrom, by decide +kernel⟩
theorem L_X_isReplica : z_LS R_X 44 y_X_isReplica b_X_isReplica 1 (some .boolean) 1 := ⟨ml_X_44, sm_X_isReplica, in_X, k_X_isReplica, by decide +kernel⟩
section CX2
variable {p : Program} {l : Launch} {e : Env} {s : State} {m : MethodId} {args : Array Value} {below : List Frame} {meth : Method} {c : Code} {Q : State → Prop} {D : va_G} {A : Nat → Prop} {H0 : Heap} {cI cL : ClassId} {q : Nat → Nat} {g : Nat → Nat → Nat} {v : Nat → Nat → Int32} {b : Nat → Nat → Int64}
set_option maxHeartbeats 2000000 in
set_option maxRecDepth 20000 in
theorem lp_X_joinAdds (C : z_C p s m args c b_X_joinAdds 7 R_X D cI cL) {f t : Nat} (hft : f < 3) (htt : t < 3) (hB : x_Bd g)
    (hend : ∀ H locs ls, z_W D A H0 H locs (x_ws q cI (x_jA g f t 8) v) → lv_has ls 7 [(0, .ref (q 0)), (1, .int (nI (f))), (2, .int (nI (t))), (3, .int (nI (8)))] → W p l e (z_rm 1) s m args below meth c H locs 0 0 Q (F0 m 110 ls [])) :
    ∀ n el, el + n = 8 → ∀ H locs ls, z_W D A H0 H locs (x_ws q cI (x_jA g f t el) v) → lv_has ls 7 [(0, .ref (q 0)), (1, .int (nI (f))), (2, .int (nI (t))), (3, .int (nI (el)))] → W p l e (z_rm 1) s m args below meth c H locs 0 0 Q (F0 m 2 ls []) := by
  have hx := C.1
  have hb := C.2.1
  intro n
  induction n with
  | zero =>
    intro el ho H locs ls P hl
    obtain rfl : el = 8 := by omega
    refine lv_iload_n hx hb d_X_joinAdds_2 rfl (lv_at hl 3 rfl) ?_
    refine lv_bipush (v := nI 8) hx hb d_X_joinAdds_3 rfl ?_
    refine n_ge (tgt := 110) hx hb (by first | omega | exact Nat.le_trans (hB _ _) (by decide)) (by first | omega | exact Nat.le_trans (hB _ _) (by decide)) d_X_joinAdds_5 (by decide) (fun c5 => ?_) (fun hz => absurd hz (by decide))
    exact hend _ _ _ P (lv_sub hl [0, 1, 2, 3] rfl)
  | succ n ih =>
    intro el ho H locs ls P hl
    have hB := x_jA_le hB f t el
    refine lv_iload_n hx hb d_X_joinAdds_2 rfl (lv_at hl 3 rfl) ?_
    refine lv_bipush (v := nI 8) hx hb d_X_joinAdds_3 rfl ?_
    refine n_ge (tgt := 110) hx hb (by first | omega | exact Nat.le_trans (hB _ _) (by decide)) (by first | omega | exact Nat.le_trans (hB _ _) (by decide)) d_X_joinAdds_5 (by decide) (fun hz => absurd hz (by omega)) (fun c5 => ?_)
    refine lv_iconst (v := nI 0) hx hb d_X_joinAdds_8 rfl ?_
    refine lv_istore (lv' := [(4, .int (nI (0))), (0, .ref (q 0)), (1, .int (nI (f))), (2, .int (nI (t))), (3, .int (nI (el)))]) hx hb d_X_joinAdds_9 hl (by decide) rfl (fun ls hl => ?_)
    refine lp_X_joinAdds_in C hft htt (el := el) (by omega) hB (fun H locs ls P hl => ?_) 3 0 rfl _ _ _ P (lv_sub hl [1, 2, 3, 4, 0] rfl)
    refine lv_iinc (v := nI (el + 1)) (lv' := [(3, .int (nI (el + 1))), (0, .ref (q 0)), (1, .int (nI (f))), (2, .int (nI (t))), (4, .int (nI (3)))]) hx hb d_X_joinAdds_104 hl (k := 3) rfl (nI_inc1 _) (by decide) rfl (fun ls hl => ?_)
    refine lv_goto (tgt := 2) hx hb d_X_joinAdds_107 (by decide) ?_
    exact ih (el + 1) (by omega) _ _ _ P (lv_sub hl [1, 2, 3, 0] rfl)
set_option maxHeartbeats 2000000 in
set_option maxRecDepth 20000 in
theorem lp_X_apply (C : z_C p s m args c b_X_apply 7 R_X D cI cL) {r ch o nu : Nat} (hr : r < 3) (hch : ch < 48) (hB : x_Bd g)
    (hend : ∀ H locs ls, z_W D A H0 H locs (x_ws q cI (x_dE g r ch 8) v) → lv_has ls 7 [(0, .ref (q 0)), (1, .int (nI (r))), (2, .int (nI (ch))), (3, .int (nI (o))), (4, .int (nI (nu))), (6, .int (nI (8)))] → W p l e (z_rm 1) s m args below meth c H locs 0 0 Q (F0 m 116 ls [])) :
    ∀ n i, i + n = 8 → ∀ H locs ls, z_W D A H0 H locs (x_ws q cI (x_dE g r ch i) v) → lv_has ls 7 [(0, .ref (q 0)), (1, .int (nI (r))), (2, .int (nI (ch))), (3, .int (nI (o))), (4, .int (nI (nu))), (6, .int (nI (i)))] → W p l e (z_rm 1) s m args below meth c H locs 0 0 Q (F0 m 95 ls []) := by
  have hx := C.1
  have hb := C.2.1
  have hf : 0 ≤ (z_rm 1).cells ∧ 0 ≤ (z_rm 1).slots := ⟨Nat.zero_le _, Nat.zero_le _⟩
  intro n
  induction n with
  | zero =>
    intro i ho H locs ls P hl
    obtain rfl : i = 8 := by omega
    refine lv_iload hx hb d_X_apply_95 (lv_at hl 5 rfl) ?_
    refine lv_bipush (v := nI 8) hx hb d_X_apply_97 rfl ?_
    refine n_ge (tgt := 116) hx hb (by first | omega | exact Nat.le_trans (hB _ _) (by decide)) (by first | omega | exact Nat.le_trans (hB _ _) (by decide)) d_X_apply_99 (by decide) (fun c99 => ?_) (fun hz => absurd hz (by decide))
    exact hend _ _ _ P (lv_sub hl [0, 1, 2, 3, 4, 5] rfl)
  | succ n ih =>
    intro i ho H locs ls P hl
    have hB := x_dE_le hB r ch i
    refine lv_iload hx hb d_X_apply_95 (lv_at hl 5 rfl) ?_
    refine lv_bipush (v := nI 8) hx hb d_X_apply_97 rfl ?_
    refine n_ge (tgt := 116) hx hb (by first | omega | exact Nat.le_trans (hB _ _) (by decide)) (by first | omega | exact Nat.le_trans (hB _ _) (by decide)) d_X_apply_99 (by decide) (fun hz => absurd hz (by omega)) (fun c99 => ?_)
    refine lv_aload_n hx hb d_X_apply_102 rfl (lv_at hl 0 rfl) ?_
    refine lv_iload_n hx hb d_X_apply_103 rfl (lv_at hl 1 rfl) ?_
    refine lv_iload hx hb d_X_apply_104 (lv_at hl 5 rfl) ?_
    refine lv_iload_n hx hb d_X_apply_106 rfl (lv_at hl 2 rfl) ?_
    refine z_callv C P L_X_dropAdds rfl rfl (c_X_dropAdds hr (by omega) hch hB) ⟨by decide, by decide⟩ rfl hl.1 (Nat.le_of_ble_eq_true rfl) hf d_X_apply_107 rfl (fun _ H locs _ P => ?_)
    refine lv_iinc (v := nI (i + 1)) (lv' := [(6, .int (nI (i + 1))), (0, .ref (q 0)), (1, .int (nI (r))), (2, .int (nI (ch))), (3, .int (nI (o))), (4, .int (nI (nu)))]) hx hb d_X_apply_110 hl (k := 5) rfl (nI_inc1 _) (by decide) rfl (fun ls hl => ?_)
    refine lv_goto (tgt := 95) hx hb d_X_apply_113 (by decide) ?_
    exact ih (i + 1) (by omega) _ _ _ P (lv_sub hl [1, 2, 3, 4, 5, 0] rfl)
end CX2
set_option maxHeartbeats 2000000 in
set_option maxRecDepth 20000 in
theorem c_X_joinAdds {l : Launch} {D : va_G} {cI cL : ClassId} {q : Nat → Nat} {g : Nat → Nat → Nat} {v : Nat → Nat → Int32} {f t : Nat} (hft : f < 3) (htt : t < 3) (hB : x_Bd g) : z_Mv l y_X_joinAdds b_X_joinAdds 7 1 D cI cL (x_ws q cI g v) [.ref (q 0), .int (nI (f)), .int (nI (t))] (fun _ : Unit => True) (fun _ => x_ws q cI (x_jA g f t 8) v) := by
  refine z_mv (own := R_X) (by decide) rfl (Nat.le_of_ble_eq_true rfl) ?_
  intro p e s m args below meth c A ls C P hret hlk hl
  have hx := C.1
  have hb := C.2.1
  have hl : lv_has ls 7 [(0, .ref (q 0)), (1, .int (nI (f))), (2, .int (nI (t)))] := hl
  refine lv_iconst (v := nI 0) hx hb d_X_joinAdds_0 rfl ?_
  refine lv_istore_n (lv' := [(3, .int (nI (0))), (0, .ref (q 0)), (1, .int (nI (f))), (2, .int (nI (t)))]) hx hb d_X_joinAdds_1 rfl hl (by decide) rfl (fun ls hl => ?_)
  exact lp_X_joinAdds C hft htt hB (fun H locs ls P hl => z_rv C () trivial P hret hlk d_X_joinAdds_110) 8 0 rfl _ _ _ P (lv_sub hl [1, 2, 3, 0] rfl)
set_option maxHeartbeats 2000000 in
set_option maxRecDepth 20000 in
theorem c_X_apply {l : Launch} {D : va_G} {cI cL : ClassId} {q : Nat → Nat} {g : Nat → Nat → Nat} {v : Nat → Nat → Int32} {r ch o nu el : Nat} (hr : r < 3) (hch : ch < 48) (ho : o < 3) (hnu : nu ≤ 48) (hel : g 1 ch = 0 ∨ g 1 ch = 1 → el < 8 ∧ v 2 ch = nI el) (hB : x_Bd g) : z_Mv l y_X_apply b_X_apply 7 1 D cI cL (x_ws q cI g v) [.ref (q 0), .int (nI (r)), .int (nI (ch)), .int (nI (o)), .int (nI (nu))] (fun _ : Unit => True) (fun _ => x_ws q cI (x_ap g el r ch o nu) v) := by
  refine z_mv (own := R_X) (by decide) rfl (Nat.le_of_ble_eq_true rfl) ?_
  intro p e s m args below meth c A ls C P hret hlk hl
  have hx := C.1
  have hb := C.2.1
  have hl : lv_has ls 7 [(0, .ref (q 0)), (1, .int (nI (r))), (2, .int (nI (ch))), (3, .int (nI (o))), (4, .int (nI (nu)))] := hl
  have hf : 0 ≤ (z_rm 1).cells ∧ 0 ≤ (z_rm 1).slots := ⟨Nat.zero_le _, Nat.zero_le _⟩
  have tail : ∀ g1 : Nat → Nat → Nat, g1 = x_ap0 g el r ch o nu → ∀ H locs ls, z_W D A s.heap H locs (x_ws q cI g1 v) → lv_has ls 7 [(0, .ref (q 0)), (1, .int (nI (r))), (2, .int (nI (ch))), (3, .int (nI (o))), (4, .int (nI (nu)))] → W p l e (z_rm 1) s m args below meth c H locs 0 0 (MQ below (z_Qv D cI cL (fun _ : Unit => True) (fun _ => x_ws q cI (x_ap g el r ch o nu) v) A) args s 0 0 A) (F0 m 128 ls []) := by
    intro g1 he H locs ls P hl
    refine lv_aload_n hx hb d_X_apply_128 rfl (lv_at hl 0 rfl) ?_
    refine x_g7 C P d_X_apply_129 ?_
    refine lv_iconst (v := nI 3) hx hb d_X_apply_132 rfl ?_
    refine lv_iload_n hx hb d_X_apply_133 rfl (lv_at hl 1 rfl) ?_
    refine n_imul hx hb d_X_apply_134 ?_
    refine lv_iload_n hx hb d_X_apply_135 rfl (lv_at hl 3 rfl) ?_
    refine n_iadd hx hb d_X_apply_136 ?_
    refine lv_iload hx hb d_X_apply_137 (lv_at hl 4 rfl) ?_
    refine x_s7 C P (x := nu) (by omega) d_X_apply_139 (fun H locs P => ?_)
    obtain ⟨g1_, eg1_⟩ : ∃ z, z = x_su g1 7 ((3 * r) + o) nu := ⟨_, rfl⟩
    rw [← eg1_] at P
    exact z_rv C () trivial (by unfold x_ap; rw [← he, ← eg1_]; exact P) hret hlk d_X_apply_140
  refine lv_aload_n hx hb d_X_apply_0 rfl (lv_at hl 0 rfl) ?_
  refine x_g1 C P d_X_apply_1 ?_
  refine lv_iload_n hx hb d_X_apply_4 rfl (lv_at hl 2 rfl) ?_
  refine x_l1 C P (by omega) d_X_apply_5 ?_
  refine lv_istore (lv' := [(5, .int (nI (g 1 ch))), (0, .ref (q 0)), (1, .int (nI (r))), (2, .int (nI (ch))), (3, .int (nI (o))), (4, .int (nI (nu)))]) hx hb d_X_apply_6 hl (by decide) rfl (fun ls hl => ?_)
  refine lv_iload hx hb d_X_apply_8 (lv_at hl 0 rfl) ?_
  refine n_ifne (tgt := 38) hx hb (by first | omega | exact Nat.le_trans (hB _ _) (by decide)) d_X_apply_10 (by decide) (fun c10 => ?_) (fun c10 => ?_)
  · refine lv_iload hx hb d_X_apply_38 (lv_at hl 0 rfl) ?_
    refine lv_iconst (v := nI 1) hx hb d_X_apply_40 rfl ?_
    refine n_ne (tgt := 59) hx hb (by first | omega | exact Nat.le_trans (hB _ _) (by decide)) (by first | omega | exact Nat.le_trans (hB _ _) (by decide)) d_X_apply_41 (by decide) (fun c41 => ?_) (fun c41 => ?_)
    · refine lv_iload hx hb d_X_apply_59 (lv_at hl 0 rfl) ?_
      refine lv_iconst (v := nI 2) hx hb d_X_apply_61 rfl ?_
      refine n_ne (tgt := 86) hx hb (by first | omega | exact Nat.le_trans (hB _ _) (by decide)) (by first | omega | exact Nat.le_trans (hB _ _) (by decide)) d_X_apply_62 (by decide) (fun c62 => ?_) (fun c62 => ?_)
      · refine lv_iload hx hb d_X_apply_86 (lv_at hl 0 rfl) ?_
        refine lv_iconst (v := nI 4) hx hb d_X_apply_88 rfl ?_
        refine n_ne (tgt := 128) hx hb (by first | omega | exact Nat.le_trans (hB _ _) (by decide)) (by first | omega | exact Nat.le_trans (hB _ _) (by decide)) d_X_apply_89 (by decide) (fun c89 => ?_) (fun c89 => ?_)
        · exact tail _ (by unfold x_ap0; rw [if_neg c10, if_neg c41, if_neg c62, if_neg c89]) _ _ _ P (lv_sub hl [1, 2, 3, 4, 5] rfl)
        · refine lv_iconst (v := nI 0) hx hb d_X_apply_92 rfl ?_
          refine lv_istore (lv' := [(6, .int (nI (0))), (5, .int (nI (g 1 ch))), (0, .ref (q 0)), (1, .int (nI (r))), (2, .int (nI (ch))), (3, .int (nI (o))), (4, .int (nI (nu)))]) hx hb d_X_apply_93 hl (by decide) rfl (fun ls hl => ?_)
          refine lp_X_apply C hr hch hB (fun H locs ls P hl => ?_) 8 0 rfl _ _ _ P (lv_sub hl [2, 3, 4, 5, 6, 0] rfl)
          have P : z_W D A _ H locs (x_ws q cI (x_dE g r ch 8) v) := P
          obtain ⟨g1_, eg1_⟩ : ∃ z, z = x_dE g r ch 8 := ⟨_, rfl⟩
          rw [← eg1_] at P
          refine lv_aload_n hx hb d_X_apply_116 rfl (lv_at hl 0 rfl) ?_
          refine lv_iload_n hx hb d_X_apply_117 rfl (lv_at hl 1 rfl) ?_
          refine lv_iload_n hx hb d_X_apply_118 rfl (lv_at hl 2 rfl) ?_
          refine z_callv C P L_X_dropAssigns rfl rfl (c_X_dropAssigns hr hch (by rw [eg1_]; exact x_dE_le hB _ _ _)) ⟨by decide, by decide⟩ rfl hl.1 (Nat.le_of_ble_eq_true rfl) hf d_X_apply_119 rfl (fun _ H locs _ P => ?_)
          have P : z_W D A _ H locs (x_ws q cI (x_dS g1_ r ch 3) v) := P
          obtain ⟨g2_, eg2_⟩ : ∃ z, z = x_dS g1_ r ch 3 := ⟨_, rfl⟩
          rw [← eg2_] at P
          refine lv_aload_n hx hb d_X_apply_122 rfl (lv_at hl 0 rfl) ?_
          refine lv_iload_n hx hb d_X_apply_123 rfl (lv_at hl 1 rfl) ?_
          refine lv_iload_n hx hb d_X_apply_124 rfl (lv_at hl 2 rfl) ?_
          refine z_callv C P L_X_cover rfl rfl (c_X_cover hr hch (by rw [eg2_, eg1_]; exact x_dS_le (x_dE_le hB _ _ _) _ _ _)) ⟨by decide, by decide⟩ rfl hl.1 (Nat.le_of_ble_eq_true rfl) hf d_X_apply_125 rfl (fun _ H locs _ P => ?_)
          have P : z_W D A _ H locs (x_ws q cI (x_cV g2_ r ch 3) v) := P
          obtain ⟨g3_, eg3_⟩ : ∃ z, z = x_cV g2_ r ch 3 := ⟨_, rfl⟩
          rw [← eg3_] at P
          exact tail _ (by rw [eg3_]; rw [eg2_]; rw [eg1_]; unfold x_ap0; rw [if_neg c10, if_neg c41, if_neg c62, if_pos c89]) _ _ _ P (lv_sub hl [0, 1, 2, 3, 4] rfl)
      · refine lv_aload_n hx hb d_X_apply_65 rfl (lv_at hl 1 rfl) ?_
        refine lv_iload_n hx hb d_X_apply_66 rfl (lv_at hl 2 rfl) ?_
        refine lv_iload_n hx hb d_X_apply_67 rfl (lv_at hl 3 rfl) ?_
        refine z_callv C P L_X_dropAssigns rfl rfl (c_X_dropAssigns hr hch hB) ⟨by decide, by decide⟩ rfl hl.1 (Nat.le_of_ble_eq_true rfl) hf d_X_apply_68 rfl (fun _ H locs _ P => ?_)
        have P : z_W D A _ H locs (x_ws q cI (x_dS g r ch 3) v) := P
        obtain ⟨g1_, eg1_⟩ : ∃ z, z = x_dS g r ch 3 := ⟨_, rfl⟩
        rw [← eg1_] at P
        refine lv_aload_n hx hb d_X_apply_71 rfl (lv_at hl 1 rfl) ?_
        refine x_g10 C P d_X_apply_72 ?_
        refine lv_iconst (v := nI 3) hx hb d_X_apply_75 rfl ?_
        refine lv_iload_n hx hb d_X_apply_76 rfl (lv_at hl 2 rfl) ?_
        refine n_imul hx hb d_X_apply_77 ?_
        refine lv_iload_n hx hb d_X_apply_78 rfl (lv_at hl 4 rfl) ?_
        refine n_iadd hx hb d_X_apply_79 ?_
        refine lv_iload hx hb d_X_apply_80 (lv_at hl 5 rfl) ?_
        refine x_s10 C P (x := nu) (by omega) d_X_apply_82 (fun H locs P => ?_)
        obtain ⟨g2_, eg2_⟩ : ∃ z, z = x_su g1_ 10 ((3 * r) + o) nu := ⟨_, rfl⟩
        rw [← eg2_] at P
        refine lv_goto (tgt := 128) hx hb d_X_apply_83 (by decide) ?_
        exact tail _ (by rw [eg2_]; rw [eg1_]; unfold x_ap0; rw [if_neg c10, if_neg c41, if_pos c62]) _ _ _ P (lv_sub hl [1, 2, 3, 4, 5] rfl)
    · refine lv_aload_n hx hb d_X_apply_44 rfl (lv_at hl 1 rfl) ?_
      refine lv_iload_n hx hb d_X_apply_45 rfl (lv_at hl 2 rfl) ?_
      refine lv_aload_n hx hb d_X_apply_46 rfl (lv_at hl 1 rfl) ?_
      refine x_g2 C P d_X_apply_47 ?_
      refine lv_iload_n hx hb d_X_apply_50 rfl (lv_at hl 3 rfl) ?_
      refine x_l2 C P (by omega) d_X_apply_51 ?_
      refine n_top (hel (Or.inr c41)).2 ?_
      have hel8 := (hel (Or.inr c41)).1
      refine lv_iload_n hx hb d_X_apply_52 rfl (lv_at hl 3 rfl) ?_
      refine z_callv C P L_X_dropAdds rfl rfl (c_X_dropAdds hr hel8 hch hB) ⟨by decide, by decide⟩ rfl hl.1 (Nat.le_of_ble_eq_true rfl) hf d_X_apply_53 rfl (fun _ H locs _ P => ?_)
      have P : z_W D A _ H locs (x_ws q cI (x_dA g r el ch 3) v) := P
      obtain ⟨g1_, eg1_⟩ : ∃ z, z = x_dA g r el ch 3 := ⟨_, rfl⟩
      rw [← eg1_] at P
      refine lv_goto (tgt := 128) hx hb d_X_apply_56 (by decide) ?_
      exact tail _ (by rw [eg1_]; unfold x_ap0; rw [if_neg c10, if_pos c41]) _ _ _ P (lv_sub hl [1, 2, 3, 4, 5] rfl)
  · refine lv_aload_n hx hb d_X_apply_13 rfl (lv_at hl 1 rfl) ?_
    refine x_g9 C P d_X_apply_14 ?_
    refine lv_bipush (v := nI 24) hx hb d_X_apply_17 rfl ?_
    refine lv_iload_n hx hb d_X_apply_19 rfl (lv_at hl 2 rfl) ?_
    refine n_imul hx hb d_X_apply_20 ?_
    refine lv_iconst (v := nI 3) hx hb d_X_apply_21 rfl ?_
    refine lv_aload_n hx hb d_X_apply_22 rfl (lv_at hl 1 rfl) ?_
    refine x_g2 C P d_X_apply_23 ?_
    refine lv_iload_n hx hb d_X_apply_26 rfl (lv_at hl 3 rfl) ?_
    refine x_l2 C P (by omega) d_X_apply_27 ?_
    refine n_top (hel (Or.inl c10)).2 ?_
    have hel8 := (hel (Or.inl c10)).1
    refine n_imul hx hb d_X_apply_28 ?_
    refine n_iadd hx hb d_X_apply_29 ?_
    refine lv_iload_n hx hb d_X_apply_30 rfl (lv_at hl 4 rfl) ?_
    refine n_iadd hx hb d_X_apply_31 ?_
    refine lv_iload hx hb d_X_apply_32 (lv_at hl 5 rfl) ?_
    refine x_s9 C P (x := nu) (by omega) d_X_apply_34 (fun H locs P => ?_)
    obtain ⟨g1_, eg1_⟩ : ∃ z, z = x_su g 9 (((24 * r) + (3 * el)) + o) nu := ⟨_, rfl⟩
    rw [← eg1_] at P
    refine lv_goto (tgt := 128) hx hb d_X_apply_35 (by decide) ?_
    exact tail _ (by rw [eg1_]; unfold x_ap0; rw [if_pos c10]) _ _ _ P (lv_sub hl [1, 2, 3, 4, 5] rfl)
set_option maxHeartbeats 2000000 in
set_option maxRecDepth 20000 in
theorem c_X_make_bad {l : Launch} {D : va_G} {cI cL : ClassId} {q : Nat → Nat} {g : Nat → Nat → Nat} {v : Nat → Nat → Int32} {x y a : Int32} (h : ¬ x_ok x ∨ ¬ g 0 0 < 48) (hB : x_Bd g) : z_Mi l y_X_make b_X_make 6 2 D cI cL (x_ws q cI g v) [.ref (q 0), .int (x), .int (y), .int (a)] (fun (x : Int32) (u : Unit) => x = -1) (fun u => x_ws q cI g v) := by
  refine z_mi (own := R_X) (by decide) rfl (Nat.le_of_ble_eq_true rfl) ?_
  intro p e s m args below meth c A ls C P hret hlk hl
  have hx := C.1
  have hb := C.2.1
  have hf : 0 ≤ (z_rm 2).cells ∧ 0 ≤ (z_rm 2).slots := ⟨Nat.zero_le _, Nat.zero_le _⟩
  have hl : lv_has ls 6 [(0, .ref (q 0)), (1, .int (x)), (2, .int (y)), (3, .int (a))] := hl
  by_cases hx1 : x_ok x
  · refine lv_iload_n hx hb d_X_make_0 rfl (lv_at hl 1 rfl) ?_
    refine z_calls C.U L_X_isReplica (c_X_isReplica_ok hx1) ⟨by decide, by decide⟩ rfl hl.1 (Nat.le_of_ble_eq_true rfl) hf d_X_make_1 rfl ?_
    refine n_ifeq (tgt := 16) hx hb (by first | omega | exact Nat.le_trans (hB _ _) (by decide)) d_X_make_4 (by decide) (fun hz => absurd hz (by decide)) (fun c4 => ?_)
    refine lv_aload_n hx hb d_X_make_7 rfl (lv_at hl 0 rfl) ?_
    refine x_g0 C P d_X_make_8 ?_
    refine lv_bipush (v := nI 48) hx hb d_X_make_11 rfl ?_
    refine n_lt (tgt := 18) hx hb (by first | omega | exact Nat.le_trans (hB _ _) (by decide)) (by first | omega | exact Nat.le_trans (hB _ _) (by decide)) d_X_make_13 (by decide) (fun hz => absurd hz (fun hz => h.elim (fun z => z hx1) (fun z => z hz))) (fun c13 => ?_)
    refine lv_iconst (v := (-1)) hx hb d_X_make_16 rfl ?_
    exact z_ri C _ () rfl P hret hlk d_X_make_17
  · refine lv_iload_n hx hb d_X_make_0 rfl (lv_at hl 1 rfl) ?_
    refine z_calls C.U L_X_isReplica (c_X_isReplica_bad hx1) ⟨by decide, by decide⟩ rfl hl.1 (Nat.le_of_ble_eq_true rfl) hf d_X_make_1 rfl ?_
    refine n_ifeq (tgt := 16) hx hb (by first | omega | exact Nat.le_trans (hB _ _) (by decide)) d_X_make_4 (by decide) (fun c4 => ?_) (fun hz => absurd hz (by decide))
    refine lv_iconst (v := (-1)) hx hb d_X_make_16 rfl ?_
    exact z_ri C _ () rfl P hret hlk d_X_make_17
set_option maxHeartbeats 2000000 in
set_option maxRecDepth 20000 in
theorem c_X_make {l : Launch} {D : va_G} {cI cL : ClassId} {q : Nat → Nat} {g : Nat → Nat → Nat} {v : Nat → Nat → Int32} {r sn el : Nat} {a : Int32} (hr : r < 3) (hsn : sn ≤ 4) (hm : g 0 0 < 48) (h4 : g 4 r < 48) (hel : sn = 0 ∨ sn = 1 → el < 8 ∧ a = nI el) (hB : x_Bd g) : z_Mi l y_X_make b_X_make 6 2 D cI cL (x_ws q cI g v) [.ref (q 0), .int (nI (r)), .int (nI (sn)), .int (a)] (fun (x : Int32) (u : Unit) => x = nI (x_mk g el r sn 0 0)) (fun u => x_ws q cI (x_mk g el r sn) (x_mkv g v r sn a)) := by
  refine z_mi (own := R_X) (by decide) rfl (Nat.le_of_ble_eq_true rfl) ?_
  intro p e s m args below meth c A ls C P hret hlk hl
  have hx := C.1
  have hb := C.2.1
  have hf : 0 ≤ (z_rm 2).cells ∧ 0 ≤ (z_rm 2).slots := ⟨Nat.zero_le _, Nat.zero_le _⟩
  have hl : lv_has ls 6 [(0, .ref (q 0)), (1, .int (nI (r))), (2, .int (nI (sn))), (3, .int (a))] := hl
  have hB0 := x_m0_le hB hm hsn
  have loop : (∀ H locs ls, z_W D A s.heap H locs (x_ws q cI (x_m1 g r sn) (x_sv v 2 (g 0 0) a)) → lv_has ls 6 [(0, .ref (q 0)), (1, .int (nI (r))), (2, .int (nI (sn))), (3, .int (a)), (4, .int (nI (g 0 0))), (5, .int (nI (3)))] → W p l e (z_rm 2) s m args below meth c H locs 0 0 (MQ below (z_Qi D cI cL (fun (x : Int32) (u : Unit) => x = nI (x_mk g el r sn 0 0)) (fun _ => x_ws q cI (x_mk g el r sn) (x_mkv g v r sn a)) A) args s 0 0 A) (F0 m 88 ls [])) → ∀ n o, o + n = 3 → ∀ H locs ls, z_W D A s.heap H locs (x_ws q cI (x_mS (x_m0 g sn) r (g 0 0) o) (x_sv v 2 (g 0 0) a)) → lv_has ls 6 [(0, .ref (q 0)), (1, .int (nI (r))), (2, .int (nI (sn))), (3, .int (a)), (4, .int (nI (g 0 0))), (5, .int (nI (o)))] → W p l e (z_rm 2) s m args below meth c H locs 0 0 (MQ below (z_Qi D cI cL (fun (x : Int32) (u : Unit) => x = nI (x_mk g el r sn 0 0)) (fun _ => x_ws q cI (x_mk g el r sn) (x_mkv g v r sn a)) A) args s 0 0 A) (F0 m 53 ls []) := by
    intro hend n
    induction n with
    | zero =>
      intro o ho H locs ls P hl
      obtain rfl : o = 3 := by omega
      refine lv_iload hx hb d_X_make_53 (lv_at hl 5 rfl) ?_
      refine lv_iconst (v := nI 3) hx hb d_X_make_55 rfl ?_
      refine n_ge (tgt := 88) hx hb (by first | omega | exact Nat.le_trans (hB _ _) (by decide)) (by first | omega | exact Nat.le_trans (hB _ _) (by decide)) d_X_make_56 (by decide) (fun c56 => ?_) (fun hz => absurd hz (by decide))
      exact hend _ _ _ P (lv_sub hl [0, 1, 2, 3, 4, 5] rfl)
    | succ n ih =>
      intro o ho H locs ls P hl
      have hB := x_mS_le hB0 r (g 0 0) o
      refine lv_iload hx hb d_X_make_53 (lv_at hl 5 rfl) ?_
      refine lv_iconst (v := nI 3) hx hb d_X_make_55 rfl ?_
      refine n_ge (tgt := 88) hx hb (by first | omega | exact Nat.le_trans (hB _ _) (by decide)) (by first | omega | exact Nat.le_trans (hB _ _) (by decide)) d_X_make_56 (by decide) (fun hz => absurd hz (by omega)) (fun c56 => ?_)
      refine lv_aload_n hx hb d_X_make_59 rfl (lv_at hl 0 rfl) ?_
      refine x_g3 C P d_X_make_60 ?_
      refine lv_iconst (v := nI 3) hx hb d_X_make_63 rfl ?_
      refine lv_iload hx hb d_X_make_64 (lv_at hl 4 rfl) ?_
      refine n_imul hx hb d_X_make_66 ?_
      refine lv_iload hx hb d_X_make_67 (lv_at hl 5 rfl) ?_
      refine n_iadd hx hb d_X_make_69 ?_
      refine lv_aload_n hx hb d_X_make_70 rfl (lv_at hl 0 rfl) ?_
      refine x_g7 C P d_X_make_71 ?_
      refine lv_iconst (v := nI 3) hx hb d_X_make_74 rfl ?_
      refine lv_iload_n hx hb d_X_make_75 rfl (lv_at hl 1 rfl) ?_
      refine n_imul hx hb d_X_make_76 ?_
      refine lv_iload hx hb d_X_make_77 (lv_at hl 5 rfl) ?_
      refine n_iadd hx hb d_X_make_79 ?_
      refine x_l7 C P (by omega) d_X_make_80 ?_
      refine x_s3 C P (x := (x_mS (x_m0 g sn) r (g 0 0) o) 7 ((3 * r) + o)) (by omega) d_X_make_81 (fun H locs P => ?_)
      obtain ⟨g1_, eg1_⟩ : ∃ z, z = x_su (x_mS (x_m0 g sn) r (g 0 0) o) 3 ((3 * (g 0 0)) + o) ((x_mS (x_m0 g sn) r (g 0 0) o) 7 ((3 * r) + o)) := ⟨_, rfl⟩
      rw [← eg1_] at P
      refine lv_iinc (v := nI (o + 1)) (lv' := [(5, .int (nI (o + 1))), (0, .ref (q 0)), (1, .int (nI (r))), (2, .int (nI (sn))), (3, .int (a)), (4, .int (nI (g 0 0)))]) hx hb d_X_make_82 hl (k := 5) rfl (nI_inc1 _) (by decide) rfl (fun ls hl => ?_)
      refine lv_goto (tgt := 53) hx hb d_X_make_85 (by decide) ?_
      exact ih (o + 1) (by omega) _ _ _ (by unfold x_mS; rw [← eg1_]; exact P) (lv_sub hl [1, 2, 3, 4, 5, 0] rfl)
  refine lv_iload_n hx hb d_X_make_0 rfl (lv_at hl 1 rfl) ?_
  refine z_calls C.U L_X_isReplica (c_X_isReplica_ok (x_ok_nI hr)) ⟨by decide, by decide⟩ rfl hl.1 (Nat.le_of_ble_eq_true rfl) hf d_X_make_1 rfl ?_
  refine n_ifeq (tgt := 16) hx hb (by first | omega | exact Nat.le_trans (hB _ _) (by decide)) d_X_make_4 (by decide) (fun hz => absurd hz (by decide)) (fun c4 => ?_)
  refine lv_aload_n hx hb d_X_make_7 rfl (lv_at hl 0 rfl) ?_
  refine x_g0 C P d_X_make_8 ?_
  refine lv_bipush (v := nI 48) hx hb d_X_make_11 rfl ?_
  refine n_lt (tgt := 18) hx hb (by first | omega | exact Nat.le_trans (hB _ _) (by decide)) (by first | omega | exact Nat.le_trans (hB _ _) (by decide)) d_X_make_13 (by decide) (fun c13 => ?_) (fun hz => absurd hz (by omega))
  refine lv_aload_n hx hb d_X_make_18 rfl (lv_at hl 0 rfl) ?_
  refine x_g0 C P d_X_make_19 ?_
  refine lv_istore (lv' := [(4, .int (nI (g 0 0))), (0, .ref (q 0)), (1, .int (nI (r))), (2, .int (nI (sn))), (3, .int (a))]) hx hb d_X_make_22 hl (by decide) rfl (fun ls hl => ?_)
  refine lv_aload_n hx hb d_X_make_24 rfl (lv_at hl 1 rfl) ?_
  refine lv_dup hx hb d_X_make_25 rfl ?_
  refine x_g0 C P d_X_make_26 ?_
  refine lv_iconst (v := nI 1) hx hb d_X_make_29 rfl ?_
  refine n_iadd hx hb d_X_make_30 ?_
  refine x_p0 C P (x := (g 0 0) + 1) d_X_make_31 (fun H locs P => ?_)
  obtain ⟨g1_, eg1_⟩ : ∃ z, z = x_su g 0 0 ((g 0 0) + 1) := ⟨_, rfl⟩
  rw [← eg1_] at P
  refine lv_aload_n hx hb d_X_make_34 rfl (lv_at hl 1 rfl) ?_
  refine x_g1 C P d_X_make_35 ?_
  refine lv_iload hx hb d_X_make_38 (lv_at hl 0 rfl) ?_
  refine lv_iload_n hx hb d_X_make_40 rfl (lv_at hl 3 rfl) ?_
  refine x_s1 C P (x := sn) (by omega) d_X_make_41 (fun H locs P => ?_)
  obtain ⟨g2_, eg2_⟩ : ∃ z, z = x_su g1_ 1 (g 0 0) sn := ⟨_, rfl⟩
  rw [← eg2_] at P
  refine lv_aload_n hx hb d_X_make_42 rfl (lv_at hl 1 rfl) ?_
  refine x_g2 C P d_X_make_43 ?_
  refine lv_iload hx hb d_X_make_46 (lv_at hl 0 rfl) ?_
  refine lv_iload_n hx hb d_X_make_48 rfl (lv_at hl 4 rfl) ?_
  refine x_s2 C P (x := a) (by omega) d_X_make_49 (fun H locs P => ?_)
  obtain ⟨v3_, ev3_⟩ : ∃ z, z = x_sv v 2 (g 0 0) a := ⟨_, rfl⟩
  rw [← ev3_] at P
  refine lv_iconst (v := nI 0) hx hb d_X_make_50 rfl ?_
  refine lv_istore (lv' := [(5, .int (nI (0))), (4, .int (nI (g 0 0))), (0, .ref (q 0)), (1, .int (nI (r))), (2, .int (nI (sn))), (3, .int (a))]) hx hb d_X_make_51 hl (by decide) rfl (fun ls hl => ?_)
  subst eg1_ eg2_ ev3_
  refine loop (fun H locs ls P hl => ?_) 3 0 rfl _ _ _ P (lv_sub hl [2, 3, 4, 5, 1, 0] rfl)
  refine lv_aload_n hx hb d_X_make_88 rfl (lv_at hl 0 rfl) ?_
  refine x_g4 C P d_X_make_89 ?_
  refine lv_iload_n hx hb d_X_make_92 rfl (lv_at hl 1 rfl) ?_
  refine x_l4 C P (by omega) d_X_make_93 ?_
  refine lv_iconst (v := nI 1) hx hb d_X_make_94 rfl ?_
  refine n_iadd hx hb d_X_make_95 ?_
  refine n_top (y := nI (g 4 r + 1)) (by rw [x_m1_4]) ?_
  refine lv_istore (lv' := [(5, .int (nI (g 4 r + 1))), (0, .ref (q 0)), (1, .int (nI (r))), (2, .int (nI (sn))), (3, .int (a)), (4, .int (nI (g 0 0)))]) hx hb d_X_make_96 hl (by decide) rfl (fun ls hl => ?_)
  refine lv_aload_n hx hb d_X_make_98 rfl (lv_at hl 1 rfl) ?_
  refine x_g4 C P d_X_make_99 ?_
  refine lv_iload_n hx hb d_X_make_102 rfl (lv_at hl 2 rfl) ?_
  refine lv_iload hx hb d_X_make_103 (lv_at hl 0 rfl) ?_
  refine x_s4 C P (x := g 4 r + 1) (by omega) d_X_make_105 (fun H locs P => ?_)
  obtain ⟨g11_, eg11_⟩ : ∃ z, z = x_su (x_m1 g r sn) 4 r (g 4 r + 1) := ⟨_, rfl⟩
  rw [← eg11_] at P
  refine lv_aload_n hx hb d_X_make_106 rfl (lv_at hl 1 rfl) ?_
  refine x_g5 C P d_X_make_107 ?_
  refine lv_bipush (v := nI 49) hx hb d_X_make_110 rfl ?_
  refine lv_iload_n hx hb d_X_make_112 rfl (lv_at hl 2 rfl) ?_
  refine n_imul hx hb d_X_make_113 ?_
  refine lv_iload hx hb d_X_make_114 (lv_at hl 0 rfl) ?_
  refine n_iadd hx hb d_X_make_116 ?_
  refine lv_iload hx hb d_X_make_117 (lv_at hl 5 rfl) ?_
  refine x_s5 C P (x := g 0 0) (by omega) d_X_make_119 (fun H locs P => ?_)
  obtain ⟨g12_, eg12_⟩ : ∃ z, z = x_su g11_ 5 ((49 * r) + (g 4 r + 1)) (g 0 0) := ⟨_, rfl⟩
  rw [← eg12_] at P
  refine lv_aload_n hx hb d_X_make_120 rfl (lv_at hl 1 rfl) ?_
  refine x_g6 C P d_X_make_121 ?_
  refine lv_bipush (v := nI 49) hx hb d_X_make_124 rfl ?_
  refine lv_iload_n hx hb d_X_make_126 rfl (lv_at hl 2 rfl) ?_
  refine n_imul hx hb d_X_make_127 ?_
  refine lv_iload hx hb d_X_make_128 (lv_at hl 0 rfl) ?_
  refine n_iadd hx hb d_X_make_130 ?_
  refine lv_aload_n hx hb d_X_make_131 rfl (lv_at hl 1 rfl) ?_
  refine x_g6 C P d_X_make_132 ?_
  refine lv_bipush (v := nI 49) hx hb d_X_make_135 rfl ?_
  refine lv_iload_n hx hb d_X_make_137 rfl (lv_at hl 2 rfl) ?_
  refine n_imul hx hb d_X_make_138 ?_
  refine lv_iload hx hb d_X_make_139 (lv_at hl 0 rfl) ?_
  refine n_iadd hx hb d_X_make_141 ?_
  refine lv_iconst (v := nI 1) hx hb d_X_make_142 rfl ?_
  refine n_isub hx hb (by omega) d_X_make_143 ?_
  refine x_l6 C P (by omega) d_X_make_144 ?_
  refine lv_iload_n hx hb d_X_make_145 rfl (lv_at hl 3 rfl) ?_
  refine lv_iconst (v := nI 3) hx hb d_X_make_146 rfl ?_
  refine n_ne (tgt := 154) hx hb (by first | omega | exact Nat.le_trans (hB _ _) (by decide)) (by first | omega | exact Nat.le_trans (hB _ _) (by decide)) d_X_make_147 (by decide) (fun c147 => ?_) (fun c147 => ?_)
  · refine lv_iconst (v := nI 0) hx hb d_X_make_154 rfl ?_
    refine lv_iadd hx hb d_X_make_155 ?_
    refine x_s6 C P (x := ((x_sv v 2 (g 0 0) a) 6 (((49 * r) + (g 4 r + 1)) - 1)) + (nI 0)) (by omega) d_X_make_156 (fun H locs P => ?_)
    obtain ⟨v13_, ev13_⟩ : ∃ z, z = x_sv (x_sv v 2 (g 0 0) a) 6 ((49 * r) + (g 4 r + 1)) (((x_sv v 2 (g 0 0) a) 6 (((49 * r) + (g 4 r + 1)) - 1)) + (nI 0)) := ⟨_, rfl⟩
    rw [← ev13_] at P
    refine lv_aload_n hx hb d_X_make_157 rfl (lv_at hl 1 rfl) ?_
    refine lv_iload_n hx hb d_X_make_158 rfl (lv_at hl 2 rfl) ?_
    refine lv_iload hx hb d_X_make_159 (lv_at hl 5 rfl) ?_
    refine lv_iload_n hx hb d_X_make_161 rfl (lv_at hl 2 rfl) ?_
    refine lv_iload hx hb d_X_make_162 (lv_at hl 0 rfl) ?_
    have P : z_W D A s.heap H locs (x_ws q cI (x_m2 g r sn) (x_mkv g v r sn a)) := by
      have ev : v13_ = x_mkv g v r sn a := by rw [ev13_]; unfold x_mkv; rw [if_neg c147]
      rw [ev] at P
      subst eg12_ eg11_
      exact P
    refine z_callv C P L_X_apply rfl rfl (c_X_apply (el := el) hr hm hr (by omega) (by rw [x_m2_1, x_mkv_2]; exact hel) (x_m2_le hB hm hsn h4)) ⟨by decide, by decide⟩ rfl hl.1 (Nat.le_of_ble_eq_true rfl) hf d_X_make_164 rfl (fun _ H locs _ P => ?_)
    have P : z_W D A _ H locs (x_ws q cI (x_mk g el r sn) (x_mkv g v r sn a)) := P
    refine lv_aload_n hx hb d_X_make_167 rfl (lv_at hl 1 rfl) ?_
    refine x_g0 C P d_X_make_168 ?_
    exact z_ri C _ () rfl P hret hlk d_X_make_171
  · refine lv_iload_n hx hb d_X_make_150 rfl (lv_at hl 4 rfl) ?_
    refine lv_goto (tgt := 155) hx hb d_X_make_151 (by decide) ?_
    refine lv_iadd hx hb d_X_make_155 ?_
    refine x_s6 C P (x := ((x_sv v 2 (g 0 0) a) 6 (((49 * r) + (g 4 r + 1)) - 1)) + a) (by omega) d_X_make_156 (fun H locs P => ?_)
    obtain ⟨v13_, ev13_⟩ : ∃ z, z = x_sv (x_sv v 2 (g 0 0) a) 6 ((49 * r) + (g 4 r + 1)) (((x_sv v 2 (g 0 0) a) 6 (((49 * r) + (g 4 r + 1)) - 1)) + a) := ⟨_, rfl⟩
    rw [← ev13_] at P
    refine lv_aload_n hx hb d_X_make_157 rfl (lv_at hl 1 rfl) ?_
    refine lv_iload_n hx hb d_X_make_158 rfl (lv_at hl 2 rfl) ?_
    refine lv_iload hx hb d_X_make_159 (lv_at hl 5 rfl) ?_
    refine lv_iload_n hx hb d_X_make_161 rfl (lv_at hl 2 rfl) ?_
    refine lv_iload hx hb d_X_make_162 (lv_at hl 0 rfl) ?_
    have P : z_W D A s.heap H locs (x_ws q cI (x_m2 g r sn) (x_mkv g v r sn a)) := by
      have ev : v13_ = x_mkv g v r sn a := by rw [ev13_]; unfold x_mkv; rw [if_pos c147]
      rw [ev] at P
      subst eg12_ eg11_
      exact P
    refine z_callv C P L_X_apply rfl rfl (c_X_apply (el := el) hr hm hr (by omega) (by rw [x_m2_1, x_mkv_2]; exact hel) (x_m2_le hB hm hsn h4)) ⟨by decide, by decide⟩ rfl hl.1 (Nat.le_of_ble_eq_true rfl) hf d_X_make_164 rfl (fun _ H locs _ P => ?_)
    have P : z_W D A _ H locs (x_ws q cI (x_mk g el r sn) (x_mkv g v r sn a)) := P
    refine lv_aload_n hx hb d_X_make_167 rfl (lv_at hl 1 rfl) ?_
    refine x_g0 C P d_X_make_168 ?_
    exact z_ri C _ () rfl P hret hlk d_X_make_171
set_option maxHeartbeats 2000000 in
set_option maxRecDepth 20000 in
theorem c_X_add_bad {l : Launch} {D : va_G} {cI cL : ClassId} {q : Nat → Nat} {g : Nat → Nat → Nat} {v : Nat → Nat → Int32} {x y : Int32} (h : ¬ x_ok x ∨ ¬ g 0 0 < 48) (hB : x_Bd g) : z_Mi l y_X_add b_X_add 3 3 D cI cL (x_ws q cI g v) [.ref (q 0), .int (x), .int (y)] (fun (x : Int32) (u : Unit) => x = -1) (fun u => x_ws q cI g v) := by
  refine z_mi (own := R_X) (by decide) rfl (Nat.le_of_ble_eq_true rfl) ?_
  intro p e s m args below meth c A ls C P hret hlk hl
  have hx := C.1
  have hb := C.2.1
  have hf : 0 ≤ (z_rm 3).cells ∧ 0 ≤ (z_rm 3).slots := ⟨Nat.zero_le _, Nat.zero_le _⟩
  have hl : lv_has ls 3 [(0, .ref (q 0)), (1, .int (x)), (2, .int (y))] := hl
  refine lv_aload_n hx hb d_X_add_0 rfl (lv_at hl 0 rfl) ?_
  refine lv_iload_n hx hb d_X_add_1 rfl (lv_at hl 1 rfl) ?_
  refine lv_iconst (v := nI 0) hx hb d_X_add_2 rfl ?_
  refine lv_iload_n hx hb d_X_add_3 rfl (lv_at hl 2 rfl) ?_
  refine lv_bipush (v := nI 7) hx hb d_X_add_4 rfl ?_
  refine lv_iand hx hb d_X_add_6 ?_
  refine z_calli C P L_X_make rfl rfl (c_X_make_bad h hB) ⟨by decide, by decide⟩ rfl hl.1 (Nat.le_of_ble_eq_true rfl) hf d_X_add_7 rfl (fun x9 _ H locs hx9 P => ?_)
  exact z_ri C _ () hx9 P hret hlk d_X_add_10
set_option maxHeartbeats 2000000 in
set_option maxRecDepth 20000 in
theorem c_X_add {l : Launch} {D : va_G} {cI cL : ClassId} {q : Nat → Nat} {g : Nat → Nat → Nat} {v : Nat → Nat → Int32} {r el : Nat} {y : Int32} (hr : r < 3) (hm : g 0 0 < 48) (h4 : g 4 r < 48) (hel : el < 8) (hy : y &&& nI 7 = nI el) (hB : x_Bd g) : z_Mi l y_X_add b_X_add 3 3 D cI cL (x_ws q cI g v) [.ref (q 0), .int (nI (r)), .int (y)] (fun (x : Int32) (u : Unit) => x = nI (x_mk g el r 0 0 0)) (fun u => x_ws q cI (x_mk g el r 0) (x_mkv g v r 0 (y &&& nI 7))) := by
  refine z_mi (own := R_X) (by decide) rfl (Nat.le_of_ble_eq_true rfl) ?_
  intro p e s m args below meth c A ls C P hret hlk hl
  have hx := C.1
  have hb := C.2.1
  have hf : 0 ≤ (z_rm 3).cells ∧ 0 ≤ (z_rm 3).slots := ⟨Nat.zero_le _, Nat.zero_le _⟩
  have hl : lv_has ls 3 [(0, .ref (q 0)), (1, .int (nI (r))), (2, .int (y))] := hl
  refine lv_aload_n hx hb d_X_add_0 rfl (lv_at hl 0 rfl) ?_
  refine lv_iload_n hx hb d_X_add_1 rfl (lv_at hl 1 rfl) ?_
  refine lv_iconst (v := nI 0) hx hb d_X_add_2 rfl ?_
  refine lv_iload_n hx hb d_X_add_3 rfl (lv_at hl 2 rfl) ?_
  refine lv_bipush (v := nI 7) hx hb d_X_add_4 rfl ?_
  refine lv_iand hx hb d_X_add_6 ?_
  refine z_calli C P L_X_make rfl rfl (c_X_make (sn := 0) (el := el) hr (by decide) hm h4 (fun _ => ⟨hel, hy⟩) hB) ⟨by decide, by decide⟩ rfl hl.1 (Nat.le_of_ble_eq_true rfl) hf d_X_add_7 rfl (fun x9 _ H locs hx9 P => ?_)
  exact z_ri C _ () hx9 P hret hlk d_X_add_10
set_option maxHeartbeats 2000000 in
set_option maxRecDepth 20000 in
theorem c_X_remove_bad {l : Launch} {D : va_G} {cI cL : ClassId} {q : Nat → Nat} {g : Nat → Nat → Nat} {v : Nat → Nat → Int32} {x y : Int32} (h : ¬ x_ok x ∨ ¬ g 0 0 < 48) (hB : x_Bd g) : z_Mi l y_X_remove b_X_remove 3 3 D cI cL (x_ws q cI g v) [.ref (q 0), .int (x), .int (y)] (fun (x : Int32) (u : Unit) => x = -1) (fun u => x_ws q cI g v) := by
  refine z_mi (own := R_X) (by decide) rfl (Nat.le_of_ble_eq_true rfl) ?_
  intro p e s m args below meth c A ls C P hret hlk hl
  have hx := C.1
  have hb := C.2.1
  have hf : 0 ≤ (z_rm 3).cells ∧ 0 ≤ (z_rm 3).slots := ⟨Nat.zero_le _, Nat.zero_le _⟩
  have hl : lv_has ls 3 [(0, .ref (q 0)), (1, .int (x)), (2, .int (y))] := hl
  refine lv_aload_n hx hb d_X_remove_0 rfl (lv_at hl 0 rfl) ?_
  refine lv_iload_n hx hb d_X_remove_1 rfl (lv_at hl 1 rfl) ?_
  refine lv_iconst (v := nI 1) hx hb d_X_remove_2 rfl ?_
  refine lv_iload_n hx hb d_X_remove_3 rfl (lv_at hl 2 rfl) ?_
  refine lv_bipush (v := nI 7) hx hb d_X_remove_4 rfl ?_
  refine lv_iand hx hb d_X_remove_6 ?_
  refine z_calli C P L_X_make rfl rfl (c_X_make_bad h hB) ⟨by decide, by decide⟩ rfl hl.1 (Nat.le_of_ble_eq_true rfl) hf d_X_remove_7 rfl (fun x9 _ H locs hx9 P => ?_)
  exact z_ri C _ () hx9 P hret hlk d_X_remove_10
set_option maxHeartbeats 2000000 in
set_option maxRecDepth 20000 in
theorem c_X_remove {l : Launch} {D : va_G} {cI cL : ClassId} {q : Nat → Nat} {g : Nat → Nat → Nat} {v : Nat → Nat → Int32} {r el : Nat} {y : Int32} (hr : r < 3) (hm : g 0 0 < 48) (h4 : g 4 r < 48) (hel : el < 8) (hy : y &&& nI 7 = nI el) (hB : x_Bd g) : z_Mi l y_X_remove b_X_remove 3 3 D cI cL (x_ws q cI g v) [.ref (q 0), .int (nI (r)), .int (y)] (fun (x : Int32) (u : Unit) => x = nI (x_mk g el r 1 0 0)) (fun u => x_ws q cI (x_mk g el r 1) (x_mkv g v r 1 (y &&& nI 7))) := by
  refine z_mi (own := R_X) (by decide) rfl (Nat.le_of_ble_eq_true rfl) ?_
  intro p e s m args below meth c A ls C P hret hlk hl
  have hx := C.1
  have hb := C.2.1
  have hf : 0 ≤ (z_rm 3).cells ∧ 0 ≤ (z_rm 3).slots := ⟨Nat.zero_le _, Nat.zero_le _⟩
  have hl : lv_has ls 3 [(0, .ref (q 0)), (1, .int (nI (r))), (2, .int (y))] := hl
  refine lv_aload_n hx hb d_X_remove_0 rfl (lv_at hl 0 rfl) ?_
  refine lv_iload_n hx hb d_X_remove_1 rfl (lv_at hl 1 rfl) ?_
  refine lv_iconst (v := nI 1) hx hb d_X_remove_2 rfl ?_
  refine lv_iload_n hx hb d_X_remove_3 rfl (lv_at hl 2 rfl) ?_
  refine lv_bipush (v := nI 7) hx hb d_X_remove_4 rfl ?_
  refine lv_iand hx hb d_X_remove_6 ?_
  refine z_calli C P L_X_make rfl rfl (c_X_make (sn := 1) (el := el) hr (by decide) hm h4 (fun _ => ⟨hel, hy⟩) hB) ⟨by decide, by decide⟩ rfl hl.1 (Nat.le_of_ble_eq_true rfl) hf d_X_remove_7 rfl (fun x9 _ H locs hx9 P => ?_)
  exact z_ri C _ () hx9 P hret hlk d_X_remove_10
set_option maxHeartbeats 2000000 in
set_option maxRecDepth 20000 in
theorem c_X_assign_bad {l : Launch} {D : va_G} {cI cL : ClassId} {q : Nat → Nat} {g : Nat → Nat → Nat} {v : Nat → Nat → Int32} {x y : Int32} (h : ¬ x_ok x ∨ ¬ g 0 0 < 48) (hB : x_Bd g) : z_Mi l y_X_assign b_X_assign 3 3 D cI cL (x_ws q cI g v) [.ref (q 0), .int (x), .int (y)] (fun (x : Int32) (u : Unit) => x = -1) (fun u => x_ws q cI g v) := by
  refine z_mi (own := R_X) (by decide) rfl (Nat.le_of_ble_eq_true rfl) ?_
  intro p e s m args below meth c A ls C P hret hlk hl
  have hx := C.1
  have hb := C.2.1
  have hf : 0 ≤ (z_rm 3).cells ∧ 0 ≤ (z_rm 3).slots := ⟨Nat.zero_le _, Nat.zero_le _⟩
  have hl : lv_has ls 3 [(0, .ref (q 0)), (1, .int (x)), (2, .int (y))] := hl
  refine lv_aload_n hx hb d_X_assign_0 rfl (lv_at hl 0 rfl) ?_
  refine lv_iload_n hx hb d_X_assign_1 rfl (lv_at hl 1 rfl) ?_
  refine lv_iconst (v := nI 2) hx hb d_X_assign_2 rfl ?_
  refine lv_iload_n hx hb d_X_assign_3 rfl (lv_at hl 2 rfl) ?_
  refine z_calli C P L_X_make rfl rfl (c_X_make_bad h hB) ⟨by decide, by decide⟩ rfl hl.1 (Nat.le_of_ble_eq_true rfl) hf d_X_assign_4 rfl (fun x9 _ H locs hx9 P => ?_)
  exact z_ri C _ () hx9 P hret hlk d_X_assign_7
set_option maxHeartbeats 2000000 in
set_option maxRecDepth 20000 in
theorem c_X_assign {l : Launch} {D : va_G} {cI cL : ClassId} {q : Nat → Nat} {g : Nat → Nat → Nat} {v : Nat → Nat → Int32} {r : Nat} {y : Int32} (hr : r < 3) (hm : g 0 0 < 48) (h4 : g 4 r < 48) (hB : x_Bd g) : z_Mi l y_X_assign b_X_assign 3 3 D cI cL (x_ws q cI g v) [.ref (q 0), .int (nI (r)), .int (y)] (fun (x : Int32) (u : Unit) => x = nI (x_mk g 0 r 2 0 0)) (fun u => x_ws q cI (x_mk g 0 r 2) (x_mkv g v r 2 y)) := by
  refine z_mi (own := R_X) (by decide) rfl (Nat.le_of_ble_eq_true rfl) ?_
  intro p e s m args below meth c A ls C P hret hlk hl
  have hx := C.1
  have hb := C.2.1
  have hf : 0 ≤ (z_rm 3).cells ∧ 0 ≤ (z_rm 3).slots := ⟨Nat.zero_le _, Nat.zero_le _⟩
  have hl : lv_has ls 3 [(0, .ref (q 0)), (1, .int (nI (r))), (2, .int (y))] := hl
  refine lv_aload_n hx hb d_X_assign_0 rfl (lv_at hl 0 rfl) ?_
  refine lv_iload_n hx hb d_X_assign_1 rfl (lv_at hl 1 rfl) ?_
  refine lv_iconst (v := nI 2) hx hb d_X_assign_2 rfl ?_
  refine lv_iload_n hx hb d_X_assign_3 rfl (lv_at hl 2 rfl) ?_
  refine z_calli C P L_X_make rfl rfl (c_X_make (sn := 2) (el := 0) hr (by decide) hm h4 (fun hz => absurd hz (by decide)) hB) ⟨by decide, by decide⟩ rfl hl.1 (Nat.le_of_ble_eq_true rfl) hf d_X_assign_4 rfl (fun x9 _ H locs hx9 P => ?_)
  exact z_ri C _ () hx9 P hret hlk d_X_assign_7
set_option maxHeartbeats 2000000 in
set_option maxRecDepth 20000 in
theorem c_X_count_bad {l : Launch} {D : va_G} {cI cL : ClassId} {q : Nat → Nat} {g : Nat → Nat → Nat} {v : Nat → Nat → Int32} {x y : Int32} (h : ¬ x_ok x ∨ ¬ g 0 0 < 48) (hB : x_Bd g) : z_Mi l y_X_count b_X_count 3 3 D cI cL (x_ws q cI g v) [.ref (q 0), .int (x), .int (y)] (fun (x : Int32) (u : Unit) => x = -1) (fun u => x_ws q cI g v) := by
  refine z_mi (own := R_X) (by decide) rfl (Nat.le_of_ble_eq_true rfl) ?_
  intro p e s m args below meth c A ls C P hret hlk hl
  have hx := C.1
  have hb := C.2.1
  have hf : 0 ≤ (z_rm 3).cells ∧ 0 ≤ (z_rm 3).slots := ⟨Nat.zero_le _, Nat.zero_le _⟩
  have hl : lv_has ls 3 [(0, .ref (q 0)), (1, .int (x)), (2, .int (y))] := hl
  refine lv_aload_n hx hb d_X_count_0 rfl (lv_at hl 0 rfl) ?_
  refine lv_iload_n hx hb d_X_count_1 rfl (lv_at hl 1 rfl) ?_
  refine lv_iconst (v := nI 3) hx hb d_X_count_2 rfl ?_
  refine lv_iload_n hx hb d_X_count_3 rfl (lv_at hl 2 rfl) ?_
  refine z_calli C P L_X_make rfl rfl (c_X_make_bad h hB) ⟨by decide, by decide⟩ rfl hl.1 (Nat.le_of_ble_eq_true rfl) hf d_X_count_4 rfl (fun x9 _ H locs hx9 P => ?_)
  exact z_ri C _ () hx9 P hret hlk d_X_count_7
set_option maxHeartbeats 2000000 in
set_option maxRecDepth 20000 in
theorem c_X_count {l : Launch} {D : va_G} {cI cL : ClassId} {q : Nat → Nat} {g : Nat → Nat → Nat} {v : Nat → Nat → Int32} {r : Nat} {y : Int32} (hr : r < 3) (hm : g 0 0 < 48) (h4 : g 4 r < 48) (hB : x_Bd g) : z_Mi l y_X_count b_X_count 3 3 D cI cL (x_ws q cI g v) [.ref (q 0), .int (nI (r)), .int (y)] (fun (x : Int32) (u : Unit) => x = nI (x_mk g 0 r 3 0 0)) (fun u => x_ws q cI (x_mk g 0 r 3) (x_mkv g v r 3 y)) := by
  refine z_mi (own := R_X) (by decide) rfl (Nat.le_of_ble_eq_true rfl) ?_
  intro p e s m args below meth c A ls C P hret hlk hl
  have hx := C.1
  have hb := C.2.1
  have hf : 0 ≤ (z_rm 3).cells ∧ 0 ≤ (z_rm 3).slots := ⟨Nat.zero_le _, Nat.zero_le _⟩
  have hl : lv_has ls 3 [(0, .ref (q 0)), (1, .int (nI (r))), (2, .int (y))] := hl
  refine lv_aload_n hx hb d_X_count_0 rfl (lv_at hl 0 rfl) ?_
  refine lv_iload_n hx hb d_X_count_1 rfl (lv_at hl 1 rfl) ?_
  refine lv_iconst (v := nI 3) hx hb d_X_count_2 rfl ?_
  refine lv_iload_n hx hb d_X_count_3 rfl (lv_at hl 2 rfl) ?_
  refine z_calli C P L_X_make rfl rfl (c_X_make (sn := 3) (el := 0) hr (by decide) hm h4 (fun hz => absurd hz (by decide)) hB) ⟨by decide, by decide⟩ rfl hl.1 (Nat.le_of_ble_eq_true rfl) hf d_X_count_4 rfl (fun x9 _ H locs hx9 P => ?_)
  exact z_ri C _ () hx9 P hret hlk d_X_count_7
set_option maxHeartbeats 2000000 in
set_option maxRecDepth 20000 in
theorem c_X_reset_bad {l : Launch} {D : va_G} {cI cL : ClassId} {q : Nat → Nat} {g : Nat → Nat → Nat} {v : Nat → Nat → Int32} {x : Int32} (h : ¬ x_ok x ∨ ¬ g 0 0 < 48) (hB : x_Bd g) : z_Mi l y_X_reset b_X_reset 2 3 D cI cL (x_ws q cI g v) [.ref (q 0), .int (x)] (fun (x : Int32) (u : Unit) => x = -1) (fun u => x_ws q cI g v) := by
  refine z_mi (own := R_X) (by decide) rfl (Nat.le_of_ble_eq_true rfl) ?_
  intro p e s m args below meth c A ls C P hret hlk hl
  have hx := C.1
  have hb := C.2.1
  have hf : 0 ≤ (z_rm 3).cells ∧ 0 ≤ (z_rm 3).slots := ⟨Nat.zero_le _, Nat.zero_le _⟩
  have hl : lv_has ls 2 [(0, .ref (q 0)), (1, .int (x))] := hl
  refine lv_aload_n hx hb d_X_reset_0 rfl (lv_at hl 0 rfl) ?_
  refine lv_iload_n hx hb d_X_reset_1 rfl (lv_at hl 1 rfl) ?_
  refine lv_iconst (v := nI 4) hx hb d_X_reset_2 rfl ?_
  refine lv_iconst (v := nI 0) hx hb d_X_reset_3 rfl ?_
  refine z_calli C P L_X_make rfl rfl (c_X_make_bad h hB) ⟨by decide, by decide⟩ rfl hl.1 (Nat.le_of_ble_eq_true rfl) hf d_X_reset_4 rfl (fun x9 _ H locs hx9 P => ?_)
  exact z_ri C _ () hx9 P hret hlk d_X_reset_7
set_option maxHeartbeats 2000000 in
set_option maxRecDepth 20000 in
theorem c_X_reset {l : Launch} {D : va_G} {cI cL : ClassId} {q : Nat → Nat} {g : Nat → Nat → Nat} {v : Nat → Nat → Int32} {r : Nat} (hr : r < 3) (hm : g 0 0 < 48) (h4 : g 4 r < 48) (hB : x_Bd g) : z_Mi l y_X_reset b_X_reset 2 3 D cI cL (x_ws q cI g v) [.ref (q 0), .int (nI (r))] (fun (x : Int32) (u : Unit) => x = nI (x_mk g 0 r 4 0 0)) (fun u => x_ws q cI (x_mk g 0 r 4) (x_mkv g v r 4 (nI 0))) := by
  refine z_mi (own := R_X) (by decide) rfl (Nat.le_of_ble_eq_true rfl) ?_
  intro p e s m args below meth c A ls C P hret hlk hl
  have hx := C.1
  have hb := C.2.1
  have hf : 0 ≤ (z_rm 3).cells ∧ 0 ≤ (z_rm 3).slots := ⟨Nat.zero_le _, Nat.zero_le _⟩
  have hl : lv_has ls 2 [(0, .ref (q 0)), (1, .int (nI (r)))] := hl
  refine lv_aload_n hx hb d_X_reset_0 rfl (lv_at hl 0 rfl) ?_
  refine lv_iload_n hx hb d_X_reset_1 rfl (lv_at hl 1 rfl) ?_
  refine lv_iconst (v := nI 4) hx hb d_X_reset_2 rfl ?_
  refine lv_iconst (v := nI 0) hx hb d_X_reset_3 rfl ?_
  refine z_calli C P L_X_make rfl rfl (c_X_make (sn := 4) (el := 0) hr (by decide) hm h4 (fun hz => absurd hz (by decide)) hB) ⟨by decide, by decide⟩ rfl hl.1 (Nat.le_of_ble_eq_true rfl) hf d_X_reset_4 rfl (fun x9 _ H locs hx9 P => ?_)
  exact z_ri C _ () hx9 P hret hlk d_X_reset_7
end
section
/-! contracts of the class's asking methods, deliver and sync -/
set_option maxHeartbeats 2000000 in
set_option maxRecDepth 20000 in
theorem c_X_sync_bad {l : Launch} {D : va_G} {cI cL : ClassId} {q : Nat → Nat} {g : Nat → Nat → Nat} {v : Nat → Nat → Int32} {x y : Int32} (h : ¬ (x_ok x ∧ x_ok y)) (hB : x_Bd g) : z_Mi l y_X_sync b_X_sync 3 2 D cI cL (x_ws q cI g v) [.ref (q 0), .int (x), .int (y)] (fun (x : Int32) (u : Unit) => x = -1) (fun u => x_ws q cI g v) := by
  refine z_mi (own := R_X) (by decide) rfl (Nat.le_of_ble_eq_true rfl) ?_
  intro p e s m args below meth c A ls C P hret hlk hl
  have hx := C.1
  have hb := C.2.1
  have hf : 0 ≤ (z_rm 2).cells ∧ 0 ≤ (z_rm 2).slots := ⟨Nat.zero_le _, Nat.zero_le _⟩
  have hl : lv_has ls 3 [(0, .ref (q 0)), (1, .int (x)), (2, .int (y))] := hl
  by_cases hx1 : x_ok x
  · refine lv_iload_n hx hb d_X_sync_0 rfl (lv_at hl 1 rfl) ?_
    refine z_calls C.U L_X_isReplica (c_X_isReplica_ok hx1) ⟨by decide, by decide⟩ rfl hl.1 (Nat.le_of_ble_eq_true rfl) hf d_X_sync_1 rfl ?_
    refine n_ifeq (tgt := 14) hx hb (by first | omega | exact Nat.le_trans (hB _ _) (by decide)) d_X_sync_4 (by decide) (fun hz => absurd hz (by decide)) (fun c4 => ?_)
    refine lv_iload_n hx hb d_X_sync_7 rfl (lv_at hl 2 rfl) ?_
    refine z_calls C.U L_X_isReplica (c_X_isReplica_bad (fun hz => h ⟨hx1, hz⟩)) ⟨by decide, by decide⟩ rfl hl.1 (Nat.le_of_ble_eq_true rfl) hf d_X_sync_8 rfl ?_
    refine n_ifne (tgt := 16) hx hb (by first | omega | exact Nat.le_trans (hB _ _) (by decide)) d_X_sync_11 (by decide) (fun hz => absurd hz (by decide)) (fun c11 => ?_)
    refine lv_iconst (v := (-1)) hx hb d_X_sync_14 rfl ?_
    exact z_ri C _ () rfl P hret hlk d_X_sync_15
  · refine lv_iload_n hx hb d_X_sync_0 rfl (lv_at hl 1 rfl) ?_
    refine z_calls C.U L_X_isReplica (c_X_isReplica_bad hx1) ⟨by decide, by decide⟩ rfl hl.1 (Nat.le_of_ble_eq_true rfl) hf d_X_sync_1 rfl ?_
    refine n_ifeq (tgt := 14) hx hb (by first | omega | exact Nat.le_trans (hB _ _) (by decide)) d_X_sync_4 (by decide) (fun c4 => ?_) (fun hz => absurd hz (by decide))
    refine lv_iconst (v := (-1)) hx hb d_X_sync_14 rfl ?_
    exact z_ri C _ () rfl P hret hlk d_X_sync_15
set_option maxHeartbeats 2000000 in
set_option maxRecDepth 20000 in
theorem c_X_deliver_bad {l : Launch} {D : va_G} {cI cL : ClassId} {q : Nat → Nat} {g : Nat → Nat → Nat} {v : Nat → Nat → Int32} {x y : Int32} (h : ¬ (x_ok x ∧ x_ok y)) (hB : x_Bd g) : z_Mi l y_X_deliver b_X_deliver 6 2 D cI cL (x_ws q cI g v) [.ref (q 0), .int (x), .int (y)] (fun (x : Int32) (u : Unit) => x = -1) (fun u => x_ws q cI g v) := by
  refine z_mi (own := R_X) (by decide) rfl (Nat.le_of_ble_eq_true rfl) ?_
  intro p e s m args below meth c A ls C P hret hlk hl
  have hx := C.1
  have hb := C.2.1
  have hf : 0 ≤ (z_rm 2).cells ∧ 0 ≤ (z_rm 2).slots := ⟨Nat.zero_le _, Nat.zero_le _⟩
  have hl : lv_has ls 6 [(0, .ref (q 0)), (1, .int (x)), (2, .int (y))] := hl
  by_cases hx1 : x_ok x
  · refine lv_iload_n hx hb d_X_deliver_0 rfl (lv_at hl 1 rfl) ?_
    refine z_calls C.U L_X_isReplica (c_X_isReplica_ok hx1) ⟨by decide, by decide⟩ rfl hl.1 (Nat.le_of_ble_eq_true rfl) hf d_X_deliver_1 rfl ?_
    refine n_ifeq (tgt := 14) hx hb (by first | omega | exact Nat.le_trans (hB _ _) (by decide)) d_X_deliver_4 (by decide) (fun hz => absurd hz (by decide)) (fun c4 => ?_)
    refine lv_iload_n hx hb d_X_deliver_7 rfl (lv_at hl 2 rfl) ?_
    refine z_calls C.U L_X_isReplica (c_X_isReplica_bad (fun hz => h ⟨hx1, hz⟩)) ⟨by decide, by decide⟩ rfl hl.1 (Nat.le_of_ble_eq_true rfl) hf d_X_deliver_8 rfl ?_
    refine n_ifne (tgt := 16) hx hb (by first | omega | exact Nat.le_trans (hB _ _) (by decide)) d_X_deliver_11 (by decide) (fun hz => absurd hz (by decide)) (fun c11 => ?_)
    refine lv_iconst (v := (-1)) hx hb d_X_deliver_14 rfl ?_
    exact z_ri C _ () rfl P hret hlk d_X_deliver_15
  · refine lv_iload_n hx hb d_X_deliver_0 rfl (lv_at hl 1 rfl) ?_
    refine z_calls C.U L_X_isReplica (c_X_isReplica_bad hx1) ⟨by decide, by decide⟩ rfl hl.1 (Nat.le_of_ble_eq_true rfl) hf d_X_deliver_1 rfl ?_
    refine n_ifeq (tgt := 14) hx hb (by first | omega | exact Nat.le_trans (hB _ _) (by decide)) d_X_deliver_4 (by decide) (fun c4 => ?_) (fun hz => absurd hz (by decide))
    refine lv_iconst (v := (-1)) hx hb d_X_deliver_14 rfl ?_
    exact z_ri C _ () rfl P hret hlk d_X_deliver_15
set_option maxHeartbeats 2000000 in
set_option maxRecDepth 20000 in
theorem c_X_sync_same {l : Launch} {D : va_G} {cI cL : ClassId} {q : Nat → Nat} {g : Nat → Nat → Nat} {v : Nat → Nat → Int32} {f : Nat} (hft : f < 3) (hB : x_Bd g) : z_Mi l y_X_sync b_X_sync 3 2 D cI cL (x_ws q cI g v) [.ref (q 0), .int (nI (f)), .int (nI (f))] (fun (x : Int32) (u : Unit) => x = nI 0) (fun u => x_ws q cI g v) := by
  refine z_mi (own := R_X) (by decide) rfl (Nat.le_of_ble_eq_true rfl) ?_
  intro p e s m args below meth c A ls C P hret hlk hl
  have hx := C.1
  have hb := C.2.1
  have hf : 0 ≤ (z_rm 2).cells ∧ 0 ≤ (z_rm 2).slots := ⟨Nat.zero_le _, Nat.zero_le _⟩
  have hl : lv_has ls 3 [(0, .ref (q 0)), (1, .int (nI (f))), (2, .int (nI (f)))] := hl
  refine lv_iload_n hx hb d_X_sync_0 rfl (lv_at hl 1 rfl) ?_
  refine z_calls C.U L_X_isReplica (c_X_isReplica_ok (x_ok_nI hft)) ⟨by decide, by decide⟩ rfl hl.1 (Nat.le_of_ble_eq_true rfl) hf d_X_sync_1 rfl ?_
  refine n_ifeq (tgt := 14) hx hb (by first | omega | exact Nat.le_trans (hB _ _) (by decide)) d_X_sync_4 (by decide) (fun hz => absurd hz (by decide)) (fun c4 => ?_)
  refine lv_iload_n hx hb d_X_sync_7 rfl (lv_at hl 2 rfl) ?_
  refine z_calls C.U L_X_isReplica (c_X_isReplica_ok (x_ok_nI hft)) ⟨by decide, by decide⟩ rfl hl.1 (Nat.le_of_ble_eq_true rfl) hf d_X_sync_8 rfl ?_
  refine n_ifne (tgt := 16) hx hb (by first | omega | exact Nat.le_trans (hB _ _) (by decide)) d_X_sync_11 (by decide) (fun c11 => ?_) (fun hz => absurd hz (by decide))
  refine lv_iload_n hx hb d_X_sync_16 rfl (lv_at hl 1 rfl) ?_
  refine lv_iload_n hx hb d_X_sync_17 rfl (lv_at hl 2 rfl) ?_
  refine n_eq (tgt := 39) hx hb (by first | omega | exact Nat.le_trans (hB _ _) (by decide)) (by first | omega | exact Nat.le_trans (hB _ _) (by decide)) d_X_sync_18 (by decide) (fun c18 => ?_) (fun hz => absurd hz (by simp))
  refine lv_iconst (v := nI 0) hx hb d_X_sync_39 rfl ?_
  exact z_ri C _ () rfl P hret hlk d_X_sync_40
set_option maxHeartbeats 2000000 in
set_option maxRecDepth 20000 in
theorem c_X_sync {l : Launch} {D : va_G} {cI cL : ClassId} {q : Nat → Nat} {g : Nat → Nat → Nat} {v : Nat → Nat → Int32} {f t : Nat} (hft : f < 3) (htt : t < 3) (hne : f ≠ t) (hB : x_Bd g) : z_Mi l y_X_sync b_X_sync 3 2 D cI cL (x_ws q cI g v) [.ref (q 0), .int (nI (f)), .int (nI (t))] (fun (x : Int32) (u : Unit) => x = nI 0) (fun u => x_ws q cI (x_jV (x_jS (x_jA g f t 8) f t 3) f t 3) v) := by
  refine z_mi (own := R_X) (by decide) rfl (Nat.le_of_ble_eq_true rfl) ?_
  intro p e s m args below meth c A ls C P hret hlk hl
  have hx := C.1
  have hb := C.2.1
  have hf : 0 ≤ (z_rm 2).cells ∧ 0 ≤ (z_rm 2).slots := ⟨Nat.zero_le _, Nat.zero_le _⟩
  have hl : lv_has ls 3 [(0, .ref (q 0)), (1, .int (nI (f))), (2, .int (nI (t)))] := hl
  refine lv_iload_n hx hb d_X_sync_0 rfl (lv_at hl 1 rfl) ?_
  refine z_calls C.U L_X_isReplica (c_X_isReplica_ok (x_ok_nI hft)) ⟨by decide, by decide⟩ rfl hl.1 (Nat.le_of_ble_eq_true rfl) hf d_X_sync_1 rfl ?_
  refine n_ifeq (tgt := 14) hx hb (by first | omega | exact Nat.le_trans (hB _ _) (by decide)) d_X_sync_4 (by decide) (fun hz => absurd hz (by decide)) (fun c4 => ?_)
  refine lv_iload_n hx hb d_X_sync_7 rfl (lv_at hl 2 rfl) ?_
  refine z_calls C.U L_X_isReplica (c_X_isReplica_ok (x_ok_nI htt)) ⟨by decide, by decide⟩ rfl hl.1 (Nat.le_of_ble_eq_true rfl) hf d_X_sync_8 rfl ?_
  refine n_ifne (tgt := 16) hx hb (by first | omega | exact Nat.le_trans (hB _ _) (by decide)) d_X_sync_11 (by decide) (fun c11 => ?_) (fun hz => absurd hz (by decide))
  refine lv_iload_n hx hb d_X_sync_16 rfl (lv_at hl 1 rfl) ?_
  refine lv_iload_n hx hb d_X_sync_17 rfl (lv_at hl 2 rfl) ?_
  refine n_eq (tgt := 39) hx hb (by first | omega | exact Nat.le_trans (hB _ _) (by decide)) (by first | omega | exact Nat.le_trans (hB _ _) (by decide)) d_X_sync_18 (by decide) (fun hz => absurd hz (by omega)) (fun c18 => ?_)
  refine lv_aload_n hx hb d_X_sync_21 rfl (lv_at hl 0 rfl) ?_
  refine lv_iload_n hx hb d_X_sync_22 rfl (lv_at hl 1 rfl) ?_
  refine lv_iload_n hx hb d_X_sync_23 rfl (lv_at hl 2 rfl) ?_
  refine z_callv C P L_X_joinAdds rfl rfl (c_X_joinAdds hft htt hB) ⟨by decide, by decide⟩ rfl hl.1 (Nat.le_of_ble_eq_true rfl) hf d_X_sync_24 rfl (fun _ H locs _ P => ?_)
  have P : z_W D A _ H locs (x_ws q cI (x_jA g f t 8) v) := P
  obtain ⟨g1_, eg1_⟩ : ∃ z, z = x_jA g f t 8 := ⟨_, rfl⟩
  rw [← eg1_] at P
  refine lv_aload_n hx hb d_X_sync_27 rfl (lv_at hl 0 rfl) ?_
  refine lv_iload_n hx hb d_X_sync_28 rfl (lv_at hl 1 rfl) ?_
  refine lv_iload_n hx hb d_X_sync_29 rfl (lv_at hl 2 rfl) ?_
  refine z_callv C P L_X_joinAssigns rfl rfl (c_X_joinAssigns hft htt (by rw [eg1_]; exact x_jA_le hB _ _ _)) ⟨by decide, by decide⟩ rfl hl.1 (Nat.le_of_ble_eq_true rfl) hf d_X_sync_30 rfl (fun _ H locs _ P => ?_)
  have P : z_W D A _ H locs (x_ws q cI (x_jS g1_ f t 3) v) := P
  obtain ⟨g2_, eg2_⟩ : ∃ z, z = x_jS g1_ f t 3 := ⟨_, rfl⟩
  rw [← eg2_] at P
  refine lv_aload_n hx hb d_X_sync_33 rfl (lv_at hl 0 rfl) ?_
  refine lv_iload_n hx hb d_X_sync_34 rfl (lv_at hl 1 rfl) ?_
  refine lv_iload_n hx hb d_X_sync_35 rfl (lv_at hl 2 rfl) ?_
  refine z_callv C P L_X_joinVectors rfl rfl (c_X_joinVectors hft htt (by rw [eg2_, eg1_]; exact x_jS_le (x_jA_le hB _ _ _) _ _ _)) ⟨by decide, by decide⟩ rfl hl.1 (Nat.le_of_ble_eq_true rfl) hf d_X_sync_36 rfl (fun _ H locs _ P => ?_)
  have P : z_W D A _ H locs (x_ws q cI (x_jV g2_ f t 3) v) := P
  obtain ⟨g3_, eg3_⟩ : ∃ z, z = x_jV g2_ f t 3 := ⟨_, rfl⟩
  rw [← eg3_] at P
  refine lv_iconst (v := nI 0) hx hb d_X_sync_39 rfl ?_
  subst eg3_ eg2_ eg1_
  exact z_ri C _ () rfl P hret hlk d_X_sync_40
def x_dlv (g : Nat → Nat → Nat) (el f t : Nat) (x : Int32) (u : Nat → Nat → Nat) : Prop := ((g 4 f ≤ g 7 (3 * t + f) ∧ x = -1 ∧ u = g) ∨ (g 7 (3 * t + f) < g 4 f ∧ (∃ o, o < 3 ∧ g 7 (3 * t + o) < g 3 (3 * g 5 (49 * f + (g 7 (3 * t + f) + 1)) + o)) ∧ x = -2 ∧ u = g) ∨ (g 7 (3 * t + f) < g 4 f ∧ (∀ o, o < 3 → g 3 (3 * g 5 (49 * f + (g 7 (3 * t + f) + 1)) + o) ≤ g 7 (3 * t + o)) ∧ x = nI 0 ∧ u = x_ap g el t (g 5 (49 * f + (g 7 (3 * t + f) + 1))) f (g 7 (3 * t + f) + 1)))
set_option maxHeartbeats 2000000 in
set_option maxRecDepth 20000 in
theorem c_X_deliver {l : Launch} {D : va_G} {cI cL : ClassId} {q : Nat → Nat} {g : Nat → Nat → Nat} {v : Nat → Nat → Int32} {f t : Nat} (hft : f < 3) (htt : t < 3) {el : Nat} (h5 : ∀ j, g 5 j < 48) (h4 : g 4 f ≤ 48) (hel : g 7 (3 * t + f) < g 4 f → g 1 (g 5 (49 * f + (g 7 (3 * t + f) + 1))) = 0 ∨ g 1 (g 5 (49 * f + (g 7 (3 * t + f) + 1))) = 1 → el < 8 ∧ v 2 (g 5 (49 * f + (g 7 (3 * t + f) + 1))) = nI el) (hB : x_Bd g) : z_Mi l y_X_deliver b_X_deliver 6 2 D cI cL (x_ws q cI g v) [.ref (q 0), .int (nI (f)), .int (nI (t))] (fun (x : Int32) (u : Nat → Nat → Nat) => x_dlv g el f t x u) (fun u => x_ws q cI u v) := by
  refine z_mi (own := R_X) (by decide) rfl (Nat.le_of_ble_eq_true rfl) ?_
  intro p e s m args below meth c A ls C P hret hlk hl
  have hx := C.1
  have hb := C.2.1
  have hf : 0 ≤ (z_rm 2).cells ∧ 0 ≤ (z_rm 2).slots := ⟨Nat.zero_le _, Nat.zero_le _⟩
  have hl : lv_has ls 6 [(0, .ref (q 0)), (1, .int (nI (f))), (2, .int (nI (t)))] := hl
  have h5c := h5 (49 * f + (g 7 (3 * t + f) + 1))
  have h7c := hB 7 (3 * t + f)
  have loop : g 7 (3 * t + f) < g 4 f → ∀ n o, o + n = 3 → (∀ i, i < o → g 3 (3 * (g 5 (49 * f + (g 7 (3 * t + f) + 1))) + i) ≤ g 7 (3 * t + i)) → ∀ ls, lv_has ls 6 [(0, .ref (q 0)), (1, .int (nI (f))), (2, .int (nI (t))), (3, .int (nI ((g 7 (3 * t + f) + 1)))), (4, .int (nI ((g 5 (49 * f + (g 7 (3 * t + f) + 1)))))), (5, .int (nI (o)))] → W p l e (z_rm 2) s m args below meth c s.heap [] 0 0 (MQ below (z_Qi D cI cL (fun (x : Int32) (u : Nat → Nat → Nat) => x_dlv g el f t x u) (fun u => x_ws q cI u v) A) args s 0 0 A) (F0 m 57 ls []) := by
    intro hlt n
    induction n with
    | zero =>
      intro o ho hi ls hl
      obtain rfl : o = 3 := by omega
      refine lv_iload hx hb d_X_deliver_57 (lv_at hl 5 rfl) ?_
      refine lv_iconst (v := nI 3) hx hb d_X_deliver_59 rfl ?_
      refine n_ge (tgt := 98) hx hb (by first | omega | exact Nat.le_trans (hB _ _) (by decide)) (by first | omega | exact Nat.le_trans (hB _ _) (by decide)) d_X_deliver_60 (by decide) (fun c60 => ?_) (fun hz => absurd hz (by decide))
      refine lv_aload_n hx hb d_X_deliver_98 rfl (lv_at hl 0 rfl) ?_
      refine lv_iload_n hx hb d_X_deliver_99 rfl (lv_at hl 2 rfl) ?_
      refine lv_iload hx hb d_X_deliver_100 (lv_at hl 4 rfl) ?_
      refine lv_iload_n hx hb d_X_deliver_102 rfl (lv_at hl 1 rfl) ?_
      refine lv_iload_n hx hb d_X_deliver_103 rfl (lv_at hl 3 rfl) ?_
      refine z_callv C P L_X_apply rfl rfl (c_X_apply (el := el) htt h5c hft (by omega) (hel hlt) hB) ⟨by decide, by decide⟩ rfl hl.1 (Nat.le_of_ble_eq_true rfl) hf d_X_deliver_104 rfl (fun _ H locs _ P => ?_)
      refine lv_iconst (v := nI 0) hx hb d_X_deliver_107 rfl ?_
      exact z_ri C _ _ (Or.inr (Or.inr ⟨hlt, hi, rfl, rfl⟩)) P hret hlk d_X_deliver_108
    | succ n ih =>
      intro o ho hi ls hl
      refine lv_iload hx hb d_X_deliver_57 (lv_at hl 5 rfl) ?_
      refine lv_iconst (v := nI 3) hx hb d_X_deliver_59 rfl ?_
      refine n_ge (tgt := 98) hx hb (by first | omega | exact Nat.le_trans (hB _ _) (by decide)) (by first | omega | exact Nat.le_trans (hB _ _) (by decide)) d_X_deliver_60 (by decide) (fun hz => absurd hz (by omega)) (fun c60 => ?_)
      refine lv_aload_n hx hb d_X_deliver_63 rfl (lv_at hl 0 rfl) ?_
      refine x_g3 C P d_X_deliver_64 ?_
      refine lv_iconst (v := nI 3) hx hb d_X_deliver_67 rfl ?_
      refine lv_iload hx hb d_X_deliver_68 (lv_at hl 4 rfl) ?_
      refine n_imul hx hb d_X_deliver_70 ?_
      refine lv_iload hx hb d_X_deliver_71 (lv_at hl 5 rfl) ?_
      refine n_iadd hx hb d_X_deliver_73 ?_
      refine x_l3 C P (by omega) d_X_deliver_74 ?_
      refine lv_aload_n hx hb d_X_deliver_75 rfl (lv_at hl 0 rfl) ?_
      refine x_g7 C P d_X_deliver_76 ?_
      refine lv_iconst (v := nI 3) hx hb d_X_deliver_79 rfl ?_
      refine lv_iload_n hx hb d_X_deliver_80 rfl (lv_at hl 2 rfl) ?_
      refine n_imul hx hb d_X_deliver_81 ?_
      refine lv_iload hx hb d_X_deliver_82 (lv_at hl 5 rfl) ?_
      refine n_iadd hx hb d_X_deliver_84 ?_
      refine x_l7 C P (by omega) d_X_deliver_85 ?_
      refine n_le (tgt := 92) hx hb (by first | omega | exact Nat.le_trans (hB _ _) (by decide)) (by first | omega | exact Nat.le_trans (hB _ _) (by decide)) d_X_deliver_86 (by decide) (fun c86 => ?_) (fun c86 => ?_)
      · refine lv_iinc (v := nI (o + 1)) (lv' := [(5, .int (nI (o + 1))), (0, .ref (q 0)), (1, .int (nI (f))), (2, .int (nI (t))), (3, .int (nI ((g 7 (3 * t + f) + 1)))), (4, .int (nI ((g 5 (49 * f + (g 7 (3 * t + f) + 1))))))]) hx hb d_X_deliver_92 hl (k := 5) rfl (nI_inc1 _) (by decide) rfl (fun ls hl => ?_)
        refine lv_goto (tgt := 57) hx hb d_X_deliver_95 (by decide) ?_
        exact ih (o + 1) (by omega) (lt_s hi (by omega)) _ (lv_sub hl [1, 2, 3, 4, 5, 0] rfl)
      · refine lv_bipush (v := (-2)) hx hb d_X_deliver_89 rfl ?_
        exact z_ri C _ _ (Or.inr (Or.inl ⟨hlt, ⟨o, by omega, by omega⟩, rfl, rfl⟩)) P hret hlk d_X_deliver_91
  refine lv_iload_n hx hb d_X_deliver_0 rfl (lv_at hl 1 rfl) ?_
  refine z_calls C.U L_X_isReplica (c_X_isReplica_ok (x_ok_nI hft)) ⟨by decide, by decide⟩ rfl hl.1 (Nat.le_of_ble_eq_true rfl) hf d_X_deliver_1 rfl ?_
  refine n_ifeq (tgt := 14) hx hb (by first | omega | exact Nat.le_trans (hB _ _) (by decide)) d_X_deliver_4 (by decide) (fun hz => absurd hz (by decide)) (fun c4 => ?_)
  refine lv_iload_n hx hb d_X_deliver_7 rfl (lv_at hl 2 rfl) ?_
  refine z_calls C.U L_X_isReplica (c_X_isReplica_ok (x_ok_nI htt)) ⟨by decide, by decide⟩ rfl hl.1 (Nat.le_of_ble_eq_true rfl) hf d_X_deliver_8 rfl ?_
  refine n_ifne (tgt := 16) hx hb (by first | omega | exact Nat.le_trans (hB _ _) (by decide)) d_X_deliver_11 (by decide) (fun c11 => ?_) (fun hz => absurd hz (by decide))
  refine lv_aload_n hx hb d_X_deliver_16 rfl (lv_at hl 0 rfl) ?_
  refine x_g7 C P d_X_deliver_17 ?_
  refine lv_iconst (v := nI 3) hx hb d_X_deliver_20 rfl ?_
  refine lv_iload_n hx hb d_X_deliver_21 rfl (lv_at hl 2 rfl) ?_
  refine n_imul hx hb d_X_deliver_22 ?_
  refine lv_iload_n hx hb d_X_deliver_23 rfl (lv_at hl 1 rfl) ?_
  refine n_iadd hx hb d_X_deliver_24 ?_
  refine x_l7 C P (by omega) d_X_deliver_25 ?_
  refine lv_iconst (v := nI 1) hx hb d_X_deliver_26 rfl ?_
  refine n_iadd hx hb d_X_deliver_27 ?_
  refine lv_istore_n (lv' := [(3, .int (nI ((g 7 ((3 * t) + f)) + 1))), (0, .ref (q 0)), (1, .int (nI (f))), (2, .int (nI (t)))]) hx hb d_X_deliver_28 rfl hl (by decide) rfl (fun ls hl => ?_)
  refine lv_iload_n hx hb d_X_deliver_29 rfl (lv_at hl 0 rfl) ?_
  refine lv_aload_n hx hb d_X_deliver_30 rfl (lv_at hl 1 rfl) ?_
  refine x_g4 C P d_X_deliver_31 ?_
  refine lv_iload_n hx hb d_X_deliver_34 rfl (lv_at hl 2 rfl) ?_
  refine x_l4 C P (by omega) d_X_deliver_35 ?_
  refine n_le (tgt := 41) hx hb (by first | omega | exact Nat.le_trans (hB _ _) (by decide)) (by first | omega | exact Nat.le_trans (hB _ _) (by decide)) d_X_deliver_36 (by decide) (fun c36 => ?_) (fun c36 => ?_)
  · refine lv_aload_n hx hb d_X_deliver_41 rfl (lv_at hl 1 rfl) ?_
    refine x_g5 C P d_X_deliver_42 ?_
    refine lv_bipush (v := nI 49) hx hb d_X_deliver_45 rfl ?_
    refine lv_iload_n hx hb d_X_deliver_47 rfl (lv_at hl 2 rfl) ?_
    refine n_imul hx hb d_X_deliver_48 ?_
    refine lv_iload_n hx hb d_X_deliver_49 rfl (lv_at hl 0 rfl) ?_
    refine n_iadd hx hb d_X_deliver_50 ?_
    refine x_l5 C P (by omega) d_X_deliver_51 ?_
    refine lv_istore (lv' := [(4, .int (nI (g 5 ((49 * f) + ((g 7 ((3 * t) + f)) + 1))))), (3, .int (nI ((g 7 ((3 * t) + f)) + 1))), (0, .ref (q 0)), (1, .int (nI (f))), (2, .int (nI (t)))]) hx hb d_X_deliver_52 hl (by decide) rfl (fun ls hl => ?_)
    refine lv_iconst (v := nI 0) hx hb d_X_deliver_54 rfl ?_
    refine lv_istore (lv' := [(5, .int (nI (0))), (4, .int (nI (g 5 ((49 * f) + ((g 7 ((3 * t) + f)) + 1))))), (3, .int (nI ((g 7 ((3 * t) + f)) + 1))), (0, .ref (q 0)), (1, .int (nI (f))), (2, .int (nI (t)))]) hx hb d_X_deliver_55 hl (by decide) rfl (fun ls hl => ?_)
    exact loop (by omega) 3 0 rfl (fun i hi => absurd hi (by omega)) _ (lv_sub hl [3, 4, 5, 2, 1, 0] rfl)
  · refine lv_iconst (v := (-1)) hx hb d_X_deliver_39 rfl ?_
    exact z_ri C _ _ (Or.inl ⟨by omega, rfl, rfl⟩) P hret hlk d_X_deliver_40
set_option maxHeartbeats 2000000 in
set_option maxRecDepth 20000 in
theorem c_X_has_bad {l : Launch} {D : va_G} {cI cL : ClassId} {q : Nat → Nat} {g : Nat → Nat → Nat} {v : Nat → Nat → Int32} {x y : Int32} (h : ¬ x_ok x) : z_Mr l y_X_has b_X_has 5 (some .int) 2 D cI cL (x_ws q cI g v) [.ref (q 0), .int (x), .int (y)] (-1) := by
  refine z_mr (own := R_X) (by decide) rfl (Nat.le_of_ble_eq_true rfl) ?_
  intro p e s m args below meth c A ls C P hret hlk hl
  have hx := C.1
  have hb := C.2.1
  have hf : 0 ≤ (z_rm 2).cells ∧ 0 ≤ (z_rm 2).slots := ⟨Nat.zero_le _, Nat.zero_le _⟩
  have hl : lv_has ls 5 [(0, .ref (q 0)), (1, .int (x)), (2, .int (y))] := hl
  refine lv_iload_n hx hb d_X_has_0 rfl (lv_at hl 1 rfl) ?_
  refine z_calls C.U L_X_isReplica (c_X_isReplica_bad h) ⟨by decide, by decide⟩ rfl hl.1 (Nat.le_of_ble_eq_true rfl) hf d_X_has_1 rfl ?_
  refine n_ifne (tgt := 9) hx hb (by first | omega | exact Nat.le_trans (hB _ _) (by decide)) d_X_has_4 (by decide) (fun hz => absurd hz (by decide)) (fun c4 => ?_)
  refine lv_iconst (v := (-1)) hx hb d_X_has_7 rfl ?_
  exact z_rr C.U hret rfl hlk d_X_has_8
set_option maxHeartbeats 2000000 in
set_option maxRecDepth 20000 in
theorem c_X_values_bad {l : Launch} {D : va_G} {cI cL : ClassId} {q : Nat → Nat} {g : Nat → Nat → Nat} {v : Nat → Nat → Int32} {x : Int32} (h : ¬ x_ok x) : z_Mr l y_X_values b_X_values 4 (some .int) 2 D cI cL (x_ws q cI g v) [.ref (q 0), .int (x)] (-1) := by
  refine z_mr (own := R_X) (by decide) rfl (Nat.le_of_ble_eq_true rfl) ?_
  intro p e s m args below meth c A ls C P hret hlk hl
  have hx := C.1
  have hb := C.2.1
  have hf : 0 ≤ (z_rm 2).cells ∧ 0 ≤ (z_rm 2).slots := ⟨Nat.zero_le _, Nat.zero_le _⟩
  have hl : lv_has ls 4 [(0, .ref (q 0)), (1, .int (x))] := hl
  refine lv_iload_n hx hb d_X_values_0 rfl (lv_at hl 1 rfl) ?_
  refine z_calls C.U L_X_isReplica (c_X_isReplica_bad h) ⟨by decide, by decide⟩ rfl hl.1 (Nat.le_of_ble_eq_true rfl) hf d_X_values_1 rfl ?_
  refine n_ifne (tgt := 9) hx hb (by first | omega | exact Nat.le_trans (hB _ _) (by decide)) d_X_values_4 (by decide) (fun hz => absurd hz (by decide)) (fun c4 => ?_)
  refine lv_iconst (v := (-1)) hx hb d_X_values_7 rfl ?_
  exact z_rr C.U hret rfl hlk d_X_values_8
set_option maxHeartbeats 2000000 in
set_option maxRecDepth 20000 in
theorem c_X_value_bad {l : Launch} {D : va_G} {cI cL : ClassId} {q : Nat → Nat} {g : Nat → Nat → Nat} {v : Nat → Nat → Int32} {x y : Int32} (h : ¬ x_ok x) : z_Mr l y_X_value b_X_value 4 (some .int) 2 D cI cL (x_ws q cI g v) [.ref (q 0), .int (x), .int (y)] (nI 0) := by
  refine z_mr (own := R_X) (by decide) rfl (Nat.le_of_ble_eq_true rfl) ?_
  intro p e s m args below meth c A ls C P hret hlk hl
  have hx := C.1
  have hb := C.2.1
  have hf : 0 ≤ (z_rm 2).cells ∧ 0 ≤ (z_rm 2).slots := ⟨Nat.zero_le _, Nat.zero_le _⟩
  have hl : lv_has ls 4 [(0, .ref (q 0)), (1, .int (x)), (2, .int (y))] := hl
  refine lv_iload_n hx hb d_X_value_0 rfl (lv_at hl 1 rfl) ?_
  refine z_calls C.U L_X_isReplica (c_X_isReplica_bad h) ⟨by decide, by decide⟩ rfl hl.1 (Nat.le_of_ble_eq_true rfl) hf d_X_value_1 rfl ?_
  refine n_ifne (tgt := 9) hx hb (by first | omega | exact Nat.le_trans (hB _ _) (by decide)) d_X_value_4 (by decide) (fun hz => absurd hz (by decide)) (fun c4 => ?_)
  refine lv_iconst (v := nI 0) hx hb d_X_value_7 rfl ?_
  exact z_rr C.U hret rfl hlk d_X_value_8
set_option maxHeartbeats 2000000 in
set_option maxRecDepth 20000 in
theorem c_X_total_bad {l : Launch} {D : va_G} {cI cL : ClassId} {q : Nat → Nat} {g : Nat → Nat → Nat} {v : Nat → Nat → Int32} {x : Int32} (h : ¬ x_ok x) : z_Mr l y_X_total b_X_total 5 (some .int) 2 D cI cL (x_ws q cI g v) [.ref (q 0), .int (x)] (nI 0) := by
  refine z_mr (own := R_X) (by decide) rfl (Nat.le_of_ble_eq_true rfl) ?_
  intro p e s m args below meth c A ls C P hret hlk hl
  have hx := C.1
  have hb := C.2.1
  have hf : 0 ≤ (z_rm 2).cells ∧ 0 ≤ (z_rm 2).slots := ⟨Nat.zero_le _, Nat.zero_le _⟩
  have hl : lv_has ls 5 [(0, .ref (q 0)), (1, .int (x))] := hl
  refine lv_iload_n hx hb d_X_total_0 rfl (lv_at hl 1 rfl) ?_
  refine z_calls C.U L_X_isReplica (c_X_isReplica_bad h) ⟨by decide, by decide⟩ rfl hl.1 (Nat.le_of_ble_eq_true rfl) hf d_X_total_1 rfl ?_
  refine n_ifne (tgt := 9) hx hb (by first | omega | exact Nat.le_trans (hB _ _) (by decide)) d_X_total_4 (by decide) (fun hz => absurd hz (by decide)) (fun c4 => ?_)
  refine lv_iconst (v := nI 0) hx hb d_X_total_7 rfl ?_
  exact z_rr C.U hret rfl hlk d_X_total_8
set_option maxHeartbeats 2000000 in
set_option maxRecDepth 20000 in
theorem c_X_known_bad {l : Launch} {D : va_G} {cI cL : ClassId} {q : Nat → Nat} {g : Nat → Nat → Nat} {v : Nat → Nat → Int32} {x y : Int32} (h : ¬ (x_ok x ∧ x_ok y)) : z_Mr l y_X_known b_X_known 3 (some .int) 2 D cI cL (x_ws q cI g v) [.ref (q 0), .int (x), .int (y)] (-1) := by
  refine z_mr (own := R_X) (by decide) rfl (Nat.le_of_ble_eq_true rfl) ?_
  intro p e s m args below meth c A ls C P hret hlk hl
  have hx := C.1
  have hb := C.2.1
  have hf : 0 ≤ (z_rm 2).cells ∧ 0 ≤ (z_rm 2).slots := ⟨Nat.zero_le _, Nat.zero_le _⟩
  have hl : lv_has ls 3 [(0, .ref (q 0)), (1, .int (x)), (2, .int (y))] := hl
  by_cases hx1 : x_ok x
  · refine lv_iload_n hx hb d_X_known_0 rfl (lv_at hl 1 rfl) ?_
    refine z_calls C.U L_X_isReplica (c_X_isReplica_ok hx1) ⟨by decide, by decide⟩ rfl hl.1 (Nat.le_of_ble_eq_true rfl) hf d_X_known_1 rfl ?_
    refine n_ifeq (tgt := 27) hx hb (by first | omega | exact Nat.le_trans (hB _ _) (by decide)) d_X_known_4 (by decide) (fun hz => absurd hz (by decide)) (fun c4 => ?_)
    refine lv_iload_n hx hb d_X_known_7 rfl (lv_at hl 2 rfl) ?_
    refine z_calls C.U L_X_isReplica (c_X_isReplica_bad (fun hz => h ⟨hx1, hz⟩)) ⟨by decide, by decide⟩ rfl hl.1 (Nat.le_of_ble_eq_true rfl) hf d_X_known_8 rfl ?_
    refine n_ifeq (tgt := 27) hx hb (by first | omega | exact Nat.le_trans (hB _ _) (by decide)) d_X_known_11 (by decide) (fun c11 => ?_) (fun hz => absurd hz (by decide))
    refine lv_iconst (v := (-1)) hx hb d_X_known_27 rfl ?_
    exact z_rr C.U hret rfl hlk d_X_known_28
  · refine lv_iload_n hx hb d_X_known_0 rfl (lv_at hl 1 rfl) ?_
    refine z_calls C.U L_X_isReplica (c_X_isReplica_bad hx1) ⟨by decide, by decide⟩ rfl hl.1 (Nat.le_of_ble_eq_true rfl) hf d_X_known_1 rfl ?_
    refine n_ifeq (tgt := 27) hx hb (by first | omega | exact Nat.le_trans (hB _ _) (by decide)) d_X_known_4 (by decide) (fun c4 => ?_) (fun hz => absurd hz (by decide))
    refine lv_iconst (v := (-1)) hx hb d_X_known_27 rfl ?_
    exact z_rr C.U hret rfl hlk d_X_known_28
set_option maxHeartbeats 2000000 in
set_option maxRecDepth 20000 in
theorem c_X_known {l : Launch} {D : va_G} {cI cL : ClassId} {q : Nat → Nat} {g : Nat → Nat → Nat} {v : Nat → Nat → Int32} {r o : Nat} (hr : r < 3) (ho : o < 3) : z_Mr l y_X_known b_X_known 3 (some .int) 2 D cI cL (x_ws q cI g v) [.ref (q 0), .int (nI (r)), .int (nI (o))] (nI (g 7 (3 * r + o))) := by
  refine z_mr (own := R_X) (by decide) rfl (Nat.le_of_ble_eq_true rfl) ?_
  intro p e s m args below meth c A ls C P hret hlk hl
  have hx := C.1
  have hb := C.2.1
  have hf : 0 ≤ (z_rm 2).cells ∧ 0 ≤ (z_rm 2).slots := ⟨Nat.zero_le _, Nat.zero_le _⟩
  have hl : lv_has ls 3 [(0, .ref (q 0)), (1, .int (nI (r))), (2, .int (nI (o)))] := hl
  refine lv_iload_n hx hb d_X_known_0 rfl (lv_at hl 1 rfl) ?_
  refine z_calls C.U L_X_isReplica (c_X_isReplica_ok (x_ok_nI hr)) ⟨by decide, by decide⟩ rfl hl.1 (Nat.le_of_ble_eq_true rfl) hf d_X_known_1 rfl ?_
  refine n_ifeq (tgt := 27) hx hb (by first | omega | exact Nat.le_trans (hB _ _) (by decide)) d_X_known_4 (by decide) (fun hz => absurd hz (by decide)) (fun c4 => ?_)
  refine lv_iload_n hx hb d_X_known_7 rfl (lv_at hl 2 rfl) ?_
  refine z_calls C.U L_X_isReplica (c_X_isReplica_ok (x_ok_nI ho)) ⟨by decide, by decide⟩ rfl hl.1 (Nat.le_of_ble_eq_true rfl) hf d_X_known_8 rfl ?_
  refine n_ifeq (tgt := 27) hx hb (by first | omega | exact Nat.le_trans (hB _ _) (by decide)) d_X_known_11 (by decide) (fun hz => absurd hz (by decide)) (fun c11 => ?_)
  refine lv_aload_n hx hb d_X_known_14 rfl (lv_at hl 0 rfl) ?_
  refine x_g7 C P d_X_known_15 ?_
  refine lv_iconst (v := nI 3) hx hb d_X_known_18 rfl ?_
  refine lv_iload_n hx hb d_X_known_19 rfl (lv_at hl 1 rfl) ?_
  refine n_imul hx hb d_X_known_20 ?_
  refine lv_iload_n hx hb d_X_known_21 rfl (lv_at hl 2 rfl) ?_
  refine n_iadd hx hb d_X_known_22 ?_
  refine x_l7 C P (by omega) d_X_known_23 ?_
  refine lv_goto (tgt := 28) hx hb d_X_known_24 (by decide) ?_
  exact z_rr C.U hret rfl hlk d_X_known_28
set_option maxHeartbeats 2000000 in
set_option maxRecDepth 20000 in
theorem c_X_has {l : Launch} {D : va_G} {cI cL : ClassId} {q : Nat → Nat} {g : Nat → Nat → Nat} {v : Nat → Nat → Int32} {r el : Nat} {y : Int32} (hr : r < 3) (hel : el < 8) (hy : y &&& nI 7 = nI el) (hB : x_Bd g) : z_Mr l y_X_has b_X_has 5 (some .int) 2 D cI cL (x_ws q cI g v) [.ref (q 0), .int (nI (r)), .int (y)] (nI (x_hs g r el)) := by
  refine z_mr (own := R_X) (by decide) rfl (Nat.le_of_ble_eq_true rfl) ?_
  intro p e s m args below meth c A ls C P hret hlk hl
  have hx := C.1
  have hb := C.2.1
  have hf : 0 ≤ (z_rm 2).cells ∧ 0 ≤ (z_rm 2).slots := ⟨Nat.zero_le _, Nat.zero_le _⟩
  have hl : lv_has ls 5 [(0, .ref (q 0)), (1, .int (nI (r))), (2, .int (y))] := hl
  have loop : ∀ n o, o + n = 3 → (∀ i, i < o → g 9 (24 * r + 3 * el + i) = 0) → ∀ ls, lv_has ls 5 [(0, .ref (q 0)), (1, .int (nI (r))), (2, .int (y)), (3, .int (nI (24 * r + 3 * el))), (4, .int (nI (o)))] → W p l e (z_rm 2) s m args below meth c s.heap [] 0 0 (MQ below (QcRead (nI (x_hs g r el))) args s 0 0 (fun _ => False)) (F0 m 24 ls []) := by
    intro n
    induction n with
    | zero =>
      intro o ho hi ls hl
      obtain rfl : o = 3 := by omega
      refine lv_iload hx hb d_X_has_24 (lv_at hl 4 rfl) ?_
      refine lv_iconst (v := nI 3) hx hb d_X_has_26 rfl ?_
      refine n_ge (tgt := 50) hx hb (by first | omega | exact Nat.le_trans (hB _ _) (by decide)) (by first | omega | exact Nat.le_trans (hB _ _) (by decide)) d_X_has_27 (by decide) (fun c27 => ?_) (fun hz => absurd hz (by decide))
      refine lv_iconst (v := nI 0) hx hb d_X_has_50 rfl ?_
      refine n_top (y := nI (x_hs g r el)) (by rw [x_hs_0 hi]) ?_
      exact z_rr C.U hret rfl hlk d_X_has_51
    | succ n ih =>
      intro o ho hi ls hl
      refine lv_iload hx hb d_X_has_24 (lv_at hl 4 rfl) ?_
      refine lv_iconst (v := nI 3) hx hb d_X_has_26 rfl ?_
      refine n_ge (tgt := 50) hx hb (by first | omega | exact Nat.le_trans (hB _ _) (by decide)) (by first | omega | exact Nat.le_trans (hB _ _) (by decide)) d_X_has_27 (by decide) (fun hz => absurd hz (by omega)) (fun c27 => ?_)
      refine lv_aload_n hx hb d_X_has_30 rfl (lv_at hl 0 rfl) ?_
      refine x_g9 C P d_X_has_31 ?_
      refine lv_iload_n hx hb d_X_has_34 rfl (lv_at hl 3 rfl) ?_
      refine lv_iload hx hb d_X_has_35 (lv_at hl 4 rfl) ?_
      refine n_iadd hx hb d_X_has_37 ?_
      refine x_l9 C P (by omega) d_X_has_38 ?_
      refine n_ifle (tgt := 44) hx hb (by first | omega | exact Nat.le_trans (hB _ _) (by decide)) d_X_has_39 (by decide) (fun c39 => ?_) (fun c39 => ?_)
      · refine lv_iinc (v := nI (o + 1)) (lv' := [(4, .int (nI (o + 1))), (0, .ref (q 0)), (1, .int (nI (r))), (2, .int (y)), (3, .int (nI (24 * r + 3 * el)))]) hx hb d_X_has_44 hl (k := 4) rfl (nI_inc1 _) (by decide) rfl (fun ls hl => ?_)
        refine lv_goto (tgt := 24) hx hb d_X_has_47 (by decide) ?_
        exact ih (o + 1) (by omega) (lt_s hi c39) _ (lv_sub hl [1, 2, 3, 4, 0] rfl)
      · refine lv_iconst (v := nI 1) hx hb d_X_has_42 rfl ?_
        refine n_top (y := nI (x_hs g r el)) (by rw [x_hs_1 (o := o) (by omega) c39]) ?_
        exact z_rr C.U hret rfl hlk d_X_has_43
  refine lv_iload_n hx hb d_X_has_0 rfl (lv_at hl 1 rfl) ?_
  refine z_calls C.U L_X_isReplica (c_X_isReplica_ok (x_ok_nI hr)) ⟨by decide, by decide⟩ rfl hl.1 (Nat.le_of_ble_eq_true rfl) hf d_X_has_1 rfl ?_
  refine n_ifne (tgt := 9) hx hb (by first | omega | exact Nat.le_trans (hB _ _) (by decide)) d_X_has_4 (by decide) (fun c4 => ?_) (fun hz => absurd hz (by decide))
  refine lv_bipush (v := nI 24) hx hb d_X_has_9 rfl ?_
  refine lv_iload_n hx hb d_X_has_11 rfl (lv_at hl 1 rfl) ?_
  refine n_imul hx hb d_X_has_12 ?_
  refine lv_iconst (v := nI 3) hx hb d_X_has_13 rfl ?_
  refine lv_iload_n hx hb d_X_has_14 rfl (lv_at hl 2 rfl) ?_
  refine lv_bipush (v := nI 7) hx hb d_X_has_15 rfl ?_
  refine lv_iand hx hb d_X_has_17 ?_
  refine n_top hy ?_
  refine n_imul hx hb d_X_has_18 ?_
  refine n_iadd hx hb d_X_has_19 ?_
  refine lv_istore_n (lv' := [(3, .int (nI ((24 * r) + (3 * el)))), (0, .ref (q 0)), (1, .int (nI (r))), (2, .int (y))]) hx hb d_X_has_20 rfl hl (by decide) rfl (fun ls hl => ?_)
  refine lv_iconst (v := nI 0) hx hb d_X_has_21 rfl ?_
  refine lv_istore (lv' := [(4, .int (nI (0))), (3, .int (nI ((24 * r) + (3 * el)))), (0, .ref (q 0)), (1, .int (nI (r))), (2, .int (y))]) hx hb d_X_has_22 hl (by decide) rfl (fun ls hl => ?_)
  exact loop 3 0 rfl lt_0 _ (lv_sub hl [2, 3, 4, 1, 0] rfl)
set_option maxHeartbeats 2000000 in
set_option maxRecDepth 20000 in
theorem c_X_values {l : Launch} {D : va_G} {cI cL : ClassId} {q : Nat → Nat} {g : Nat → Nat → Nat} {v : Nat → Nat → Int32} {r : Nat} (hr : r < 3) (hB : x_Bd g) : z_Mr l y_X_values b_X_values 4 (some .int) 2 D cI cL (x_ws q cI g v) [.ref (q 0), .int (nI (r))] (nI (x_vl g r 3)) := by
  refine z_mr (own := R_X) (by decide) rfl (Nat.le_of_ble_eq_true rfl) ?_
  intro p e s m args below meth c A ls C P hret hlk hl
  have hx := C.1
  have hb := C.2.1
  have hf : 0 ≤ (z_rm 2).cells ∧ 0 ≤ (z_rm 2).slots := ⟨Nat.zero_le _, Nat.zero_le _⟩
  have hl : lv_has ls 4 [(0, .ref (q 0)), (1, .int (nI (r)))] := hl
  have loop : ∀ n o, o + n = 3 → ∀ ls, lv_has ls 4 [(0, .ref (q 0)), (1, .int (nI (r))), (2, .int (nI (x_vl g r o))), (3, .int (nI (o)))] → W p l e (z_rm 2) s m args below meth c s.heap [] 0 0 (MQ below (QcRead (nI (x_vl g r 3))) args s 0 0 (fun _ => False)) (F0 m 13 ls []) := by
    intro n
    induction n with
    | zero =>
      intro o ho ls hl
      obtain rfl : o = 3 := by omega
      refine lv_iload_n hx hb d_X_values_13 rfl (lv_at hl 3 rfl) ?_
      refine lv_iconst (v := nI 3) hx hb d_X_values_14 rfl ?_
      refine n_ge (tgt := 40) hx hb (by first | omega | exact Nat.le_trans (hB _ _) (by decide)) (by first | omega | exact Nat.le_trans (hB _ _) (by decide)) d_X_values_15 (by decide) (fun c15 => ?_) (fun hz => absurd hz (by decide))
      refine lv_iload_n hx hb d_X_values_40 rfl (lv_at hl 2 rfl) ?_
      exact z_rr C.U hret rfl hlk d_X_values_41
    | succ n ih =>
      intro o ho ls hl
      refine lv_iload_n hx hb d_X_values_13 rfl (lv_at hl 3 rfl) ?_
      refine lv_iconst (v := nI 3) hx hb d_X_values_14 rfl ?_
      refine n_ge (tgt := 40) hx hb (by first | omega | exact Nat.le_trans (hB _ _) (by decide)) (by first | omega | exact Nat.le_trans (hB _ _) (by decide)) d_X_values_15 (by decide) (fun hz => absurd hz (by omega)) (fun c15 => ?_)
      refine lv_aload_n hx hb d_X_values_18 rfl (lv_at hl 0 rfl) ?_
      refine x_g10 C P d_X_values_19 ?_
      refine lv_iconst (v := nI 3) hx hb d_X_values_22 rfl ?_
      refine lv_iload_n hx hb d_X_values_23 rfl (lv_at hl 1 rfl) ?_
      refine n_imul hx hb d_X_values_24 ?_
      refine lv_iload_n hx hb d_X_values_25 rfl (lv_at hl 3 rfl) ?_
      refine n_iadd hx hb d_X_values_26 ?_
      refine x_l10 C P (by omega) d_X_values_27 ?_
      refine n_ifle (tgt := 34) hx hb (by first | omega | exact Nat.le_trans (hB _ _) (by decide)) d_X_values_28 (by decide) (fun c28 => ?_) (fun c28 => ?_)
      · refine lv_iinc (v := nI (o + 1)) (lv' := [(3, .int (nI (o + 1))), (0, .ref (q 0)), (1, .int (nI (r))), (2, .int (nI (x_vl g r o)))]) hx hb d_X_values_34 hl (k := 3) rfl (nI_inc1 _) (by decide) rfl (fun ls hl => ?_)
        refine lv_goto (tgt := 13) hx hb d_X_values_37 (by decide) ?_
        exact ih (o + 1) (by omega) _ (lv_sub hl [1, 2, 3, 0] (by rw [show x_vl g r (o + 1) = x_vl g r o + (if 0 < g 10 (3 * r + o) then 1 else 0) from rfl, if_neg (by omega)]; rfl))
      · refine lv_iinc (v := nI ((x_vl g r o) + 1)) (lv' := [(2, .int (nI ((x_vl g r o) + 1))), (0, .ref (q 0)), (1, .int (nI (r))), (3, .int (nI (o)))]) hx hb d_X_values_31 hl (k := 2) rfl (nI_inc1 _) (by decide) rfl (fun ls hl => ?_)
        refine lv_iinc (v := nI (o + 1)) (lv' := [(3, .int (nI (o + 1))), (2, .int (nI ((x_vl g r o) + 1))), (0, .ref (q 0)), (1, .int (nI (r)))]) hx hb d_X_values_34 hl (k := 3) rfl (nI_inc1 _) (by decide) rfl (fun ls hl => ?_)
        refine lv_goto (tgt := 13) hx hb d_X_values_37 (by decide) ?_
        exact ih (o + 1) (by omega) _ (lv_sub hl [2, 3, 1, 0] (by rw [show x_vl g r (o + 1) = x_vl g r o + (if 0 < g 10 (3 * r + o) then 1 else 0) from rfl, if_pos c28]; rfl))
  refine lv_iload_n hx hb d_X_values_0 rfl (lv_at hl 1 rfl) ?_
  refine z_calls C.U L_X_isReplica (c_X_isReplica_ok (x_ok_nI hr)) ⟨by decide, by decide⟩ rfl hl.1 (Nat.le_of_ble_eq_true rfl) hf d_X_values_1 rfl ?_
  refine n_ifne (tgt := 9) hx hb (by first | omega | exact Nat.le_trans (hB _ _) (by decide)) d_X_values_4 (by decide) (fun c4 => ?_) (fun hz => absurd hz (by decide))
  refine lv_iconst (v := nI 0) hx hb d_X_values_9 rfl ?_
  refine lv_istore_n (lv' := [(2, .int (nI (0))), (0, .ref (q 0)), (1, .int (nI (r)))]) hx hb d_X_values_10 rfl hl (by decide) rfl (fun ls hl => ?_)
  refine lv_iconst (v := nI 0) hx hb d_X_values_11 rfl ?_
  refine lv_istore_n (lv' := [(3, .int (nI (0))), (2, .int (nI (0))), (0, .ref (q 0)), (1, .int (nI (r)))]) hx hb d_X_values_12 rfl hl (by decide) rfl (fun ls hl => ?_)
  exact loop 3 0 rfl _ (lv_sub hl [2, 3, 1, 0] rfl)
set_option maxHeartbeats 2000000 in
set_option maxRecDepth 20000 in
theorem c_X_valueFrom {l : Launch} {D : va_G} {cI cL : ClassId} {q : Nat → Nat} {g : Nat → Nat → Nat} {v : Nat → Nat → Int32} {r o : Nat} (hr : r < 3) (ho : o < 3) (h5 : ∀ j, g 5 j < 48) (hB : x_Bd g) : z_Mr l y_X_valueFrom b_X_valueFrom 4 (some .int) 0 D cI cL (x_ws q cI g v) [.ref (q 0), .int (nI (r)), .int (nI (o))] (x_vf g v r o) := by
  refine z_mr (own := R_X) (by decide) rfl (Nat.le_of_ble_eq_true rfl) ?_
  intro p e s m args below meth c A ls C P hret hlk hl
  have hx := C.1
  have hb := C.2.1
  have hf : 0 ≤ (z_rm 0).cells ∧ 0 ≤ (z_rm 0).slots := ⟨Nat.zero_le _, Nat.zero_le _⟩
  have hl : lv_has ls 4 [(0, .ref (q 0)), (1, .int (nI (r))), (2, .int (nI (o)))] := hl
  have h10 := hB 10 (3 * r + o)
  have h5c := h5 (49 * o + g 10 (3 * r + o))
  refine lv_aload_n hx hb d_X_valueFrom_0 rfl (lv_at hl 0 rfl) ?_
  refine x_g5 C P d_X_valueFrom_1 ?_
  refine lv_bipush (v := nI 49) hx hb d_X_valueFrom_4 rfl ?_
  refine lv_iload_n hx hb d_X_valueFrom_6 rfl (lv_at hl 2 rfl) ?_
  refine n_imul hx hb d_X_valueFrom_7 ?_
  refine lv_aload_n hx hb d_X_valueFrom_8 rfl (lv_at hl 0 rfl) ?_
  refine x_g10 C P d_X_valueFrom_9 ?_
  refine lv_iconst (v := nI 3) hx hb d_X_valueFrom_12 rfl ?_
  refine lv_iload_n hx hb d_X_valueFrom_13 rfl (lv_at hl 1 rfl) ?_
  refine n_imul hx hb d_X_valueFrom_14 ?_
  refine lv_iload_n hx hb d_X_valueFrom_15 rfl (lv_at hl 2 rfl) ?_
  refine n_iadd hx hb d_X_valueFrom_16 ?_
  refine x_l10 C P (by omega) d_X_valueFrom_17 ?_
  refine n_iadd hx hb d_X_valueFrom_18 ?_
  refine x_l5 C P (by omega) d_X_valueFrom_19 ?_
  refine lv_istore_n (lv' := [(3, .int (nI (g 5 ((49 * o) + (g 10 ((3 * r) + o)))))), (0, .ref (q 0)), (1, .int (nI (r))), (2, .int (nI (o)))]) hx hb d_X_valueFrom_20 rfl hl (by decide) rfl (fun ls hl => ?_)
  refine lv_aload_n hx hb d_X_valueFrom_21 rfl (lv_at hl 1 rfl) ?_
  refine x_g2 C P d_X_valueFrom_22 ?_
  refine lv_iload_n hx hb d_X_valueFrom_25 rfl (lv_at hl 0 rfl) ?_
  refine x_l2 C P (by omega) d_X_valueFrom_26 ?_
  exact z_rr C.U hret rfl hlk d_X_valueFrom_27
set_option maxHeartbeats 2000000 in
set_option maxRecDepth 20000 in
theorem c_X_placeOfValue {l : Launch} {D : va_G} {cI cL : ClassId} {q : Nat → Nat} {g : Nat → Nat → Nat} {v : Nat → Nat → Int32} {r o : Nat} (hr : r < 3) (ho : o < 3) (h5 : ∀ j, g 5 j < 48) (hB : x_Bd g) : z_Mr l y_X_placeOfValue b_X_placeOfValue 7 (some .int) 1 D cI cL (x_ws q cI g v) [.ref (q 0), .int (nI (r)), .int (nI (o))] (nI (x_pl g v r o 3)) := by
  refine z_mr (own := R_X) (by decide) rfl (Nat.le_of_ble_eq_true rfl) ?_
  intro p e s m args below meth c A ls C P hret hlk hl
  have hx := C.1
  have hb := C.2.1
  have hf : 0 ≤ (z_rm 1).cells ∧ 0 ≤ (z_rm 1).slots := ⟨Nat.zero_le _, Nat.zero_le _⟩
  have hl : lv_has ls 7 [(0, .ref (q 0)), (1, .int (nI (r))), (2, .int (nI (o)))] := hl
  have loop : ∀ n i, i + n = 3 → ∀ ls, lv_has ls 7 [(0, .ref (q 0)), (1, .int (nI (r))), (2, .int (nI (o))), (3, .int (x_vf g v r o)), (4, .int (nI (x_pl g v r o i))), (5, .int (nI (i)))] → W p l e (z_rm 1) s m args below meth c s.heap [] 0 0 (MQ below (QcRead (nI (x_pl g v r o 3))) args s 0 0 (fun _ => False)) (F0 m 13 ls []) := by
    intro n
    induction n with
    | zero =>
      intro i hoi ls hl
      obtain rfl : i = 3 := by omega
      refine lv_iload hx hb d_X_placeOfValue_13 (lv_at hl 5 rfl) ?_
      refine lv_iconst (v := nI 3) hx hb d_X_placeOfValue_15 rfl ?_
      refine n_ge (tgt := 75) hx hb (by first | omega | exact Nat.le_trans (hB _ _) (by decide)) (by first | omega | exact Nat.le_trans (hB _ _) (by decide)) d_X_placeOfValue_16 (by decide) (fun c16 => ?_) (fun hz => absurd hz (by decide))
      refine lv_iload hx hb d_X_placeOfValue_75 (lv_at hl 4 rfl) ?_
      exact z_rr C.U hret rfl hlk d_X_placeOfValue_77
    | succ n ih =>
      intro i hoi ls hl
      refine lv_iload hx hb d_X_placeOfValue_13 (lv_at hl 5 rfl) ?_
      refine lv_iconst (v := nI 3) hx hb d_X_placeOfValue_15 rfl ?_
      refine n_ge (tgt := 75) hx hb (by first | omega | exact Nat.le_trans (hB _ _) (by decide)) (by first | omega | exact Nat.le_trans (hB _ _) (by decide)) d_X_placeOfValue_16 (by decide) (fun hz => absurd hz (by omega)) (fun c16 => ?_)
      refine lv_iload hx hb d_X_placeOfValue_19 (lv_at hl 5 rfl) ?_
      refine lv_iload_n hx hb d_X_placeOfValue_21 rfl (lv_at hl 2 rfl) ?_
      refine n_eq (tgt := 69) hx hb (by first | omega | exact Nat.le_trans (hB _ _) (by decide)) (by first | omega | exact Nat.le_trans (hB _ _) (by decide)) d_X_placeOfValue_22 (by decide) (fun c22 => ?_) (fun c22 => ?_)
      · refine lv_iinc (v := nI (i + 1)) (lv' := [(5, .int (nI (i + 1))), (0, .ref (q 0)), (1, .int (nI (r))), (2, .int (nI (o))), (3, .int (x_vf g v r o)), (4, .int (nI (x_pl g v r o i)))]) hx hb d_X_placeOfValue_69 hl (k := 5) rfl (nI_inc1 _) (by decide) rfl (fun ls hl => ?_)
        refine lv_goto (tgt := 13) hx hb d_X_placeOfValue_72 (by decide) ?_
        exact ih (i + 1) (by omega) _ (lv_sub hl [1, 2, 3, 4, 5, 0] (by rw [show x_pl g v r o (i + 1) = x_pl g v r o i + bI (x_plc g v r o i) from rfl, bI_f (fun hz => hz.1 c22)]; rfl))
      · refine lv_aload_n hx hb d_X_placeOfValue_25 rfl (lv_at hl 0 rfl) ?_
        refine x_g10 C P d_X_placeOfValue_26 ?_
        refine lv_iconst (v := nI 3) hx hb d_X_placeOfValue_29 rfl ?_
        refine lv_iload_n hx hb d_X_placeOfValue_30 rfl (lv_at hl 1 rfl) ?_
        refine n_imul hx hb d_X_placeOfValue_31 ?_
        refine lv_iload hx hb d_X_placeOfValue_32 (lv_at hl 5 rfl) ?_
        refine n_iadd hx hb d_X_placeOfValue_34 ?_
        refine x_l10 C P (by omega) d_X_placeOfValue_35 ?_
        refine n_ifle (tgt := 69) hx hb (by first | omega | exact Nat.le_trans (hB _ _) (by decide)) d_X_placeOfValue_36 (by decide) (fun c36 => ?_) (fun c36 => ?_)
        · refine lv_iinc (v := nI (i + 1)) (lv' := [(5, .int (nI (i + 1))), (0, .ref (q 0)), (1, .int (nI (r))), (2, .int (nI (o))), (3, .int (x_vf g v r o)), (4, .int (nI (x_pl g v r o i)))]) hx hb d_X_placeOfValue_69 hl (k := 5) rfl (nI_inc1 _) (by decide) rfl (fun ls hl => ?_)
          refine lv_goto (tgt := 13) hx hb d_X_placeOfValue_72 (by decide) ?_
          exact ih (i + 1) (by omega) _ (lv_sub hl [1, 2, 3, 4, 5, 0] (by rw [show x_pl g v r o (i + 1) = x_pl g v r o i + bI (x_plc g v r o i) from rfl, bI_f (fun hz => absurd hz.2.1 (by omega))]; rfl))
        · refine lv_aload_n hx hb d_X_placeOfValue_39 rfl (lv_at hl 0 rfl) ?_
          refine lv_iload_n hx hb d_X_placeOfValue_40 rfl (lv_at hl 1 rfl) ?_
          refine lv_iload hx hb d_X_placeOfValue_41 (lv_at hl 5 rfl) ?_
          refine z_callr C P L_X_valueFrom rfl rfl (c_X_valueFrom hr (by omega) h5 hB) ⟨by decide, by decide⟩ rfl hl.1 (Nat.le_of_ble_eq_true rfl) hf d_X_placeOfValue_43 rfl ?_
          refine lv_istore (lv' := [(6, .int (x_vf g v r i)), (0, .ref (q 0)), (1, .int (nI (r))), (2, .int (nI (o))), (3, .int (x_vf g v r o)), (4, .int (nI (x_pl g v r o i))), (5, .int (nI (i)))]) hx hb d_X_placeOfValue_46 hl (by decide) rfl (fun ls hl => ?_)
          refine lv_iload hx hb d_X_placeOfValue_48 (lv_at hl 0 rfl) ?_
          refine lv_iload_n hx hb d_X_placeOfValue_50 rfl (lv_at hl 4 rfl) ?_
          refine lv_icmp_lt (tgt := 66) hx hb d_X_placeOfValue_51 (by decide) (fun c51 => ?_) (fun c51 => ?_)
          · refine lv_iinc (v := nI ((x_pl g v r o i) + 1)) (lv' := [(4, .int (nI ((x_pl g v r o i) + 1))), (6, .int (x_vf g v r i)), (0, .ref (q 0)), (1, .int (nI (r))), (2, .int (nI (o))), (3, .int (x_vf g v r o)), (5, .int (nI (i)))]) hx hb d_X_placeOfValue_66 hl (k := 5) rfl (nI_inc1 _) (by decide) rfl (fun ls hl => ?_)
            refine lv_iinc (v := nI (i + 1)) (lv' := [(5, .int (nI (i + 1))), (4, .int (nI ((x_pl g v r o i) + 1))), (6, .int (x_vf g v r i)), (0, .ref (q 0)), (1, .int (nI (r))), (2, .int (nI (o))), (3, .int (x_vf g v r o))]) hx hb d_X_placeOfValue_69 hl (k := 6) rfl (nI_inc1 _) (by decide) rfl (fun ls hl => ?_)
            refine lv_goto (tgt := 13) hx hb d_X_placeOfValue_72 (by decide) ?_
            exact ih (i + 1) (by omega) _ (lv_sub hl [3, 4, 5, 6, 1, 0] (by rw [show x_pl g v r o (i + 1) = x_pl g v r o i + bI (x_plc g v r o i) from rfl, bI_t ⟨c22, c36, Or.inl c51⟩]; rfl))
          · refine lv_iload hx hb d_X_placeOfValue_54 (lv_at hl 0 rfl) ?_
            refine lv_iload_n hx hb d_X_placeOfValue_56 rfl (lv_at hl 4 rfl) ?_
            refine lv_icmp_ne (tgt := 69) hx hb d_X_placeOfValue_57 (by decide) (fun c57 => ?_) (fun c57 => ?_)
            · refine lv_iinc (v := nI (i + 1)) (lv' := [(5, .int (nI (i + 1))), (6, .int (x_vf g v r i)), (0, .ref (q 0)), (1, .int (nI (r))), (2, .int (nI (o))), (3, .int (x_vf g v r o)), (4, .int (nI (x_pl g v r o i)))]) hx hb d_X_placeOfValue_69 hl (k := 6) rfl (nI_inc1 _) (by decide) rfl (fun ls hl => ?_)
              refine lv_goto (tgt := 13) hx hb d_X_placeOfValue_72 (by decide) ?_
              exact ih (i + 1) (by omega) _ (lv_sub hl [2, 3, 4, 5, 6, 0] (by rw [show x_pl g v r o (i + 1) = x_pl g v r o i + bI (x_plc g v r o i) from rfl, bI_f (fun hz => hz.2.2.elim c51 (fun k => c57 k.1))]; rfl))
            · refine lv_iload hx hb d_X_placeOfValue_60 (lv_at hl 6 rfl) ?_
              refine lv_iload_n hx hb d_X_placeOfValue_62 rfl (lv_at hl 3 rfl) ?_
              refine n_ge (tgt := 69) hx hb (by first | omega | exact Nat.le_trans (hB _ _) (by decide)) (by first | omega | exact Nat.le_trans (hB _ _) (by decide)) d_X_placeOfValue_63 (by decide) (fun c63 => ?_) (fun c63 => ?_)
              · refine lv_iinc (v := nI (i + 1)) (lv' := [(5, .int (nI (i + 1))), (6, .int (x_vf g v r i)), (0, .ref (q 0)), (1, .int (nI (r))), (2, .int (nI (o))), (3, .int (x_vf g v r o)), (4, .int (nI (x_pl g v r o i)))]) hx hb d_X_placeOfValue_69 hl (k := 6) rfl (nI_inc1 _) (by decide) rfl (fun ls hl => ?_)
                refine lv_goto (tgt := 13) hx hb d_X_placeOfValue_72 (by decide) ?_
                exact ih (i + 1) (by omega) _ (lv_sub hl [2, 3, 4, 5, 6, 0] (by rw [show x_pl g v r o (i + 1) = x_pl g v r o i + bI (x_plc g v r o i) from rfl, bI_f (fun hz => hz.2.2.elim c51 (fun k => absurd k.2 (by omega)))]; rfl))
              · refine lv_iinc (v := nI ((x_pl g v r o i) + 1)) (lv' := [(4, .int (nI ((x_pl g v r o i) + 1))), (6, .int (x_vf g v r i)), (0, .ref (q 0)), (1, .int (nI (r))), (2, .int (nI (o))), (3, .int (x_vf g v r o)), (5, .int (nI (i)))]) hx hb d_X_placeOfValue_66 hl (k := 5) rfl (nI_inc1 _) (by decide) rfl (fun ls hl => ?_)
                refine lv_iinc (v := nI (i + 1)) (lv' := [(5, .int (nI (i + 1))), (4, .int (nI ((x_pl g v r o i) + 1))), (6, .int (x_vf g v r i)), (0, .ref (q 0)), (1, .int (nI (r))), (2, .int (nI (o))), (3, .int (x_vf g v r o))]) hx hb d_X_placeOfValue_69 hl (k := 6) rfl (nI_inc1 _) (by decide) rfl (fun ls hl => ?_)
                refine lv_goto (tgt := 13) hx hb d_X_placeOfValue_72 (by decide) ?_
                exact ih (i + 1) (by omega) _ (lv_sub hl [3, 4, 5, 6, 1, 0] (by rw [show x_pl g v r o (i + 1) = x_pl g v r o i + bI (x_plc g v r o i) from rfl, bI_t ⟨c22, c36, Or.inr ⟨c57, c63⟩⟩]; rfl))
  refine lv_aload_n hx hb d_X_placeOfValue_0 rfl (lv_at hl 0 rfl) ?_
  refine lv_iload_n hx hb d_X_placeOfValue_1 rfl (lv_at hl 1 rfl) ?_
  refine lv_iload_n hx hb d_X_placeOfValue_2 rfl (lv_at hl 2 rfl) ?_
  refine z_callr C P L_X_valueFrom rfl rfl (c_X_valueFrom hr (by omega) h5 hB) ⟨by decide, by decide⟩ rfl hl.1 (Nat.le_of_ble_eq_true rfl) hf d_X_placeOfValue_3 rfl ?_
  refine lv_istore_n (lv' := [(3, .int (x_vf g v r o)), (0, .ref (q 0)), (1, .int (nI (r))), (2, .int (nI (o)))]) hx hb d_X_placeOfValue_6 rfl hl (by decide) rfl (fun ls hl => ?_)
  refine lv_iconst (v := nI 0) hx hb d_X_placeOfValue_7 rfl ?_
  refine lv_istore (lv' := [(4, .int (nI (0))), (3, .int (x_vf g v r o)), (0, .ref (q 0)), (1, .int (nI (r))), (2, .int (nI (o)))]) hx hb d_X_placeOfValue_8 hl (by decide) rfl (fun ls hl => ?_)
  refine lv_iconst (v := nI 0) hx hb d_X_placeOfValue_10 rfl ?_
  refine lv_istore (lv' := [(5, .int (nI (0))), (4, .int (nI (0))), (3, .int (x_vf g v r o)), (0, .ref (q 0)), (1, .int (nI (r))), (2, .int (nI (o)))]) hx hb d_X_placeOfValue_11 hl (by decide) rfl (fun ls hl => ?_)
  exact loop 3 0 rfl _ (lv_sub hl [3, 4, 5, 2, 1, 0] rfl)
set_option maxHeartbeats 2000000 in
set_option maxRecDepth 20000 in
theorem c_X_value {l : Launch} {D : va_G} {cI cL : ClassId} {q : Nat → Nat} {g : Nat → Nat → Nat} {v : Nat → Nat → Int32} {r : Nat} {y z : Int32} (hr : r < 3) (h5 : ∀ j, g 5 j < 48) (hz9 : x_vv g v r y z) (hB : x_Bd g) : z_Mr l y_X_value b_X_value 4 (some .int) 2 D cI cL (x_ws q cI g v) [.ref (q 0), .int (nI (r)), .int (y)] (z) := by
  refine z_mr (own := R_X) (by decide) rfl (Nat.le_of_ble_eq_true rfl) ?_
  intro p e s m args below meth c A ls C P hret hlk hl
  have hx := C.1
  have hb := C.2.1
  have hf : 0 ≤ (z_rm 2).cells ∧ 0 ≤ (z_rm 2).slots := ⟨Nat.zero_le _, Nat.zero_le _⟩
  have hl : lv_has ls 4 [(0, .ref (q 0)), (1, .int (nI (r))), (2, .int (y))] := hl
  have loop : ∀ n o, o + n = 3 → (∀ i, i < o → ¬ x_vc g v r y i) → ∀ ls, lv_has ls 4 [(0, .ref (q 0)), (1, .int (nI (r))), (2, .int (y)), (3, .int (nI (o)))] → W p l e (z_rm 2) s m args below meth c s.heap [] 0 0 (MQ below (QcRead (z)) args s 0 0 (fun _ => False)) (F0 m 11 ls []) := by
    intro n
    induction n with
    | zero =>
      intro o ho hi ls hl
      obtain rfl : o = 3 := by omega
      refine lv_iload_n hx hb d_X_value_11 rfl (lv_at hl 3 rfl) ?_
      refine lv_iconst (v := nI 3) hx hb d_X_value_12 rfl ?_
      refine n_ge (tgt := 52) hx hb (by first | omega | exact Nat.le_trans (hB _ _) (by decide)) (by first | omega | exact Nat.le_trans (hB _ _) (by decide)) d_X_value_13 (by decide) (fun c13 => ?_) (fun hz => absurd hz (by decide))
      refine lv_iconst (v := nI 0) hx hb d_X_value_52 rfl ?_
      refine n_top (y := z) (x_vv_none hz9 hi) ?_
      exact z_rr C.U hret rfl hlk d_X_value_53
    | succ n ih =>
      intro o ho hi ls hl
      refine lv_iload_n hx hb d_X_value_11 rfl (lv_at hl 3 rfl) ?_
      refine lv_iconst (v := nI 3) hx hb d_X_value_12 rfl ?_
      refine n_ge (tgt := 52) hx hb (by first | omega | exact Nat.le_trans (hB _ _) (by decide)) (by first | omega | exact Nat.le_trans (hB _ _) (by decide)) d_X_value_13 (by decide) (fun hz => absurd hz (by omega)) (fun c13 => ?_)
      refine lv_aload_n hx hb d_X_value_16 rfl (lv_at hl 0 rfl) ?_
      refine x_g10 C P d_X_value_17 ?_
      refine lv_iconst (v := nI 3) hx hb d_X_value_20 rfl ?_
      refine lv_iload_n hx hb d_X_value_21 rfl (lv_at hl 1 rfl) ?_
      refine n_imul hx hb d_X_value_22 ?_
      refine lv_iload_n hx hb d_X_value_23 rfl (lv_at hl 3 rfl) ?_
      refine n_iadd hx hb d_X_value_24 ?_
      refine x_l10 C P (by omega) d_X_value_25 ?_
      refine n_ifle (tgt := 46) hx hb (by first | omega | exact Nat.le_trans (hB _ _) (by decide)) d_X_value_26 (by decide) (fun c26 => ?_) (fun c26 => ?_)
      · refine lv_iinc (v := nI (o + 1)) (lv' := [(3, .int (nI (o + 1))), (0, .ref (q 0)), (1, .int (nI (r))), (2, .int (y))]) hx hb d_X_value_46 hl (k := 3) rfl (nI_inc1 _) (by decide) rfl (fun ls hl => ?_)
        refine lv_goto (tgt := 11) hx hb d_X_value_49 (by decide) ?_
        exact ih (o + 1) (by omega) (lt_s hi (fun hz => absurd hz.1 (by omega))) _ (lv_sub hl [1, 2, 3, 0] rfl)
      · refine lv_aload_n hx hb d_X_value_29 rfl (lv_at hl 0 rfl) ?_
        refine lv_iload_n hx hb d_X_value_30 rfl (lv_at hl 1 rfl) ?_
        refine lv_iload_n hx hb d_X_value_31 rfl (lv_at hl 3 rfl) ?_
        refine z_callr C P L_X_placeOfValue rfl rfl (c_X_placeOfValue hr (by omega) h5 hB) ⟨by decide, by decide⟩ rfl hl.1 (Nat.le_of_ble_eq_true rfl) hf d_X_value_32 rfl ?_
        refine lv_iload_n hx hb d_X_value_35 rfl (lv_at hl 2 rfl) ?_
        refine lv_icmp_ne (tgt := 46) hx hb d_X_value_36 (by decide) (fun c36 => ?_) (fun c36 => ?_)
        · refine lv_iinc (v := nI (o + 1)) (lv' := [(3, .int (nI (o + 1))), (0, .ref (q 0)), (1, .int (nI (r))), (2, .int (y))]) hx hb d_X_value_46 hl (k := 3) rfl (nI_inc1 _) (by decide) rfl (fun ls hl => ?_)
          refine lv_goto (tgt := 11) hx hb d_X_value_49 (by decide) ?_
          exact ih (o + 1) (by omega) (lt_s hi (fun hz => c36 hz.2)) _ (lv_sub hl [1, 2, 3, 0] rfl)
        · refine lv_aload_n hx hb d_X_value_39 rfl (lv_at hl 0 rfl) ?_
          refine lv_iload_n hx hb d_X_value_40 rfl (lv_at hl 1 rfl) ?_
          refine lv_iload_n hx hb d_X_value_41 rfl (lv_at hl 3 rfl) ?_
          refine z_callr C P L_X_valueFrom rfl rfl (c_X_valueFrom hr (by omega) h5 hB) ⟨by decide, by decide⟩ rfl hl.1 (Nat.le_of_ble_eq_true rfl) hf d_X_value_42 rfl ?_
          refine n_top (y := z) (x_vv_hit hz9 (by omega) hi ⟨c26, c36⟩) ?_
          exact z_rr C.U hret rfl hlk d_X_value_45
  refine lv_iload_n hx hb d_X_value_0 rfl (lv_at hl 1 rfl) ?_
  refine z_calls C.U L_X_isReplica (c_X_isReplica_ok (x_ok_nI hr)) ⟨by decide, by decide⟩ rfl hl.1 (Nat.le_of_ble_eq_true rfl) hf d_X_value_1 rfl ?_
  refine n_ifne (tgt := 9) hx hb (by first | omega | exact Nat.le_trans (hB _ _) (by decide)) d_X_value_4 (by decide) (fun c4 => ?_) (fun hz => absurd hz (by decide))
  refine lv_iconst (v := nI 0) hx hb d_X_value_9 rfl ?_
  refine lv_istore_n (lv' := [(3, .int (nI (0))), (0, .ref (q 0)), (1, .int (nI (r))), (2, .int (y))]) hx hb d_X_value_10 rfl hl (by decide) rfl (fun ls hl => ?_)
  exact loop 3 0 rfl lt_0 _ (lv_sub hl [1, 2, 3, 0] rfl)
set_option maxHeartbeats 2000000 in
set_option maxRecDepth 20000 in
theorem c_X_total {l : Launch} {D : va_G} {cI cL : ClassId} {q : Nat → Nat} {g : Nat → Nat → Nat} {v : Nat → Nat → Int32} {r : Nat} (hr : r < 3) (hB : x_Bd g) : z_Mr l y_X_total b_X_total 5 (some .int) 2 D cI cL (x_ws q cI g v) [.ref (q 0), .int (nI (r))] (x_tt g v r 3) := by
  refine z_mr (own := R_X) (by decide) rfl (Nat.le_of_ble_eq_true rfl) ?_
  intro p e s m args below meth c A ls C P hret hlk hl
  have hx := C.1
  have hb := C.2.1
  have hf : 0 ≤ (z_rm 2).cells ∧ 0 ≤ (z_rm 2).slots := ⟨Nat.zero_le _, Nat.zero_le _⟩
  have hl : lv_has ls 5 [(0, .ref (q 0)), (1, .int (nI (r)))] := hl
  have loop : ∀ n o, o + n = 3 → ∀ ls, lv_has ls 5 [(0, .ref (q 0)), (1, .int (nI (r))), (2, .int (x_tt g v r o)), (3, .int (nI (o)))] → W p l e (z_rm 2) s m args below meth c s.heap [] 0 0 (MQ below (QcRead (x_tt g v r 3)) args s 0 0 (fun _ => False)) (F0 m 13 ls []) := by
    intro n
    induction n with
    | zero =>
      intro o ho ls hl
      obtain rfl : o = 3 := by omega
      refine lv_iload_n hx hb d_X_total_13 rfl (lv_at hl 3 rfl) ?_
      refine lv_iconst (v := nI 3) hx hb d_X_total_14 rfl ?_
      refine n_ge (tgt := 72) hx hb (by first | omega | exact Nat.le_trans (hB _ _) (by decide)) (by first | omega | exact Nat.le_trans (hB _ _) (by decide)) d_X_total_15 (by decide) (fun c15 => ?_) (fun hz => absurd hz (by decide))
      refine lv_iload_n hx hb d_X_total_72 rfl (lv_at hl 2 rfl) ?_
      exact z_rr C.U hret rfl hlk d_X_total_73
    | succ n ih =>
      intro o ho ls hl
      have h7 := hB 7 (3 * r + o); have h8 := hB 8 (3 * r + o)
      refine lv_iload_n hx hb d_X_total_13 rfl (lv_at hl 3 rfl) ?_
      refine lv_iconst (v := nI 3) hx hb d_X_total_14 rfl ?_
      refine n_ge (tgt := 72) hx hb (by first | omega | exact Nat.le_trans (hB _ _) (by decide)) (by first | omega | exact Nat.le_trans (hB _ _) (by decide)) d_X_total_15 (by decide) (fun hz => absurd hz (by omega)) (fun c15 => ?_)
      refine lv_aload_n hx hb d_X_total_18 rfl (lv_at hl 0 rfl) ?_
      refine x_g6 C P d_X_total_19 ?_
      refine lv_bipush (v := nI 49) hx hb d_X_total_22 rfl ?_
      refine lv_iload_n hx hb d_X_total_24 rfl (lv_at hl 3 rfl) ?_
      refine n_imul hx hb d_X_total_25 ?_
      refine lv_aload_n hx hb d_X_total_26 rfl (lv_at hl 0 rfl) ?_
      refine x_g7 C P d_X_total_27 ?_
      refine lv_iconst (v := nI 3) hx hb d_X_total_30 rfl ?_
      refine lv_iload_n hx hb d_X_total_31 rfl (lv_at hl 1 rfl) ?_
      refine n_imul hx hb d_X_total_32 ?_
      refine lv_iload_n hx hb d_X_total_33 rfl (lv_at hl 3 rfl) ?_
      refine n_iadd hx hb d_X_total_34 ?_
      refine x_l7 C P (by omega) d_X_total_35 ?_
      refine n_iadd hx hb d_X_total_36 ?_
      refine x_l6 C P (by omega) d_X_total_37 ?_
      refine lv_istore (lv' := [(4, .int (v 6 ((49 * o) + (g 7 ((3 * r) + o))))), (0, .ref (q 0)), (1, .int (nI (r))), (2, .int (x_tt g v r o)), (3, .int (nI (o)))]) hx hb d_X_total_38 hl (by decide) rfl (fun ls hl => ?_)
      refine lv_iload_n hx hb d_X_total_40 rfl (lv_at hl 3 rfl) ?_
      refine lv_iload hx hb d_X_total_41 (lv_at hl 0 rfl) ?_
      refine lv_aload_n hx hb d_X_total_43 rfl (lv_at hl 1 rfl) ?_
      refine x_g6 C P d_X_total_44 ?_
      refine lv_bipush (v := nI 49) hx hb d_X_total_47 rfl ?_
      refine lv_iload_n hx hb d_X_total_49 rfl (lv_at hl 4 rfl) ?_
      refine n_imul hx hb d_X_total_50 ?_
      refine lv_aload_n hx hb d_X_total_51 rfl (lv_at hl 1 rfl) ?_
      refine x_g8 C P d_X_total_52 ?_
      refine lv_iconst (v := nI 3) hx hb d_X_total_55 rfl ?_
      refine lv_iload_n hx hb d_X_total_56 rfl (lv_at hl 2 rfl) ?_
      refine n_imul hx hb d_X_total_57 ?_
      refine lv_iload_n hx hb d_X_total_58 rfl (lv_at hl 4 rfl) ?_
      refine n_iadd hx hb d_X_total_59 ?_
      refine x_l8 C P (by omega) d_X_total_60 ?_
      refine n_iadd hx hb d_X_total_61 ?_
      refine x_l6 C P (by omega) d_X_total_62 ?_
      refine lv_isub hx hb d_X_total_63 ?_
      refine lv_iadd hx hb d_X_total_64 ?_
      refine lv_istore_n (lv' := [(2, .int ((x_tt g v r o) + ((v 6 ((49 * o) + (g 7 ((3 * r) + o)))) - (v 6 ((49 * o) + (g 8 ((3 * r) + o))))))), (4, .int (v 6 ((49 * o) + (g 7 ((3 * r) + o))))), (0, .ref (q 0)), (1, .int (nI (r))), (3, .int (nI (o)))]) hx hb d_X_total_65 rfl hl (by decide) rfl (fun ls hl => ?_)
      refine lv_iinc (v := nI (o + 1)) (lv' := [(3, .int (nI (o + 1))), (2, .int ((x_tt g v r o) + ((v 6 ((49 * o) + (g 7 ((3 * r) + o)))) - (v 6 ((49 * o) + (g 8 ((3 * r) + o))))))), (4, .int (v 6 ((49 * o) + (g 7 ((3 * r) + o))))), (0, .ref (q 0)), (1, .int (nI (r)))]) hx hb d_X_total_66 hl (k := 4) rfl (nI_inc1 _) (by decide) rfl (fun ls hl => ?_)
      refine lv_goto (tgt := 13) hx hb d_X_total_69 (by decide) ?_
      exact ih (o + 1) (by omega) _ (lv_sub hl [3, 4, 1, 0] rfl)
  refine lv_iload_n hx hb d_X_total_0 rfl (lv_at hl 1 rfl) ?_
  refine z_calls C.U L_X_isReplica (c_X_isReplica_ok (x_ok_nI hr)) ⟨by decide, by decide⟩ rfl hl.1 (Nat.le_of_ble_eq_true rfl) hf d_X_total_1 rfl ?_
  refine n_ifne (tgt := 9) hx hb (by first | omega | exact Nat.le_trans (hB _ _) (by decide)) d_X_total_4 (by decide) (fun c4 => ?_) (fun hz => absurd hz (by decide))
  refine lv_iconst (v := nI 0) hx hb d_X_total_9 rfl ?_
  refine lv_istore_n (lv' := [(2, .int (nI (0))), (0, .ref (q 0)), (1, .int (nI (r)))]) hx hb d_X_total_10 rfl hl (by decide) rfl (fun ls hl => ?_)
  refine lv_iconst (v := nI 0) hx hb d_X_total_11 rfl ?_
  refine lv_istore_n (lv' := [(3, .int (nI (0))), (2, .int (nI (0))), (0, .ref (q 0)), (1, .int (nI (r)))]) hx hb d_X_total_12 rfl hl (by decide) rfl (fun ls hl => ?_)
  exact loop 3 0 rfl _ (lv_sub hl [2, 3, 1, 0] rfl)
end
section
/-! bits of a long, and the reference's methods as functions -/
def tb (x : Int64) (i : Nat) : Bool := x.toBitVec.getLsbD i
theorem tb_cnt : ∀ k, k < 64 → (((nI k).toInt64 &&& 63).toBitVec.smod 64) = BitVec.ofNat 64 k := by decide +kernel
theorem tb_test (x : Int64) {k : Nat} (hk : k < 64) : (x >>> ((nI k).toInt64 &&& 63)) &&& 1 = if tb x k = true then 1 else 0 := by
  apply Int64.toBitVec_inj.mp
  rw [Int64.toBitVec_and, Int64.toBitVec_shiftRight, tb_cnt k hk]
  have e : ∀ i, i < 64 → (x.toBitVec.sshiftRight' (BitVec.ofNat 64 k) &&& (1 : Int64).toBitVec).getLsbD i = (decide (i = 0) && tb x k) := by
    intro i hi
    rw [BitVec.getLsbD_and, BitVec.sshiftRight_eq', BitVec.getLsbD_sshiftRight]
    have h1 : (1 : Int64).toBitVec.getLsbD i = decide (i = 0) := by
      show (1#64).getLsbD i = _
      rw [BitVec.getLsbD_one]
      simp
    have h2 : (BitVec.ofNat 64 k).toNat = k := by rw [BitVec.toNat_ofNat, Nat.mod_eq_of_lt (by omega)]
    rw [h1, h2]
    by_cases hi0 : i = 0
    · subst hi0
      simp [hk, tb]
    · simp [hi0]
  apply BitVec.eq_of_getLsbD_eq
  intro i hi
  rw [e i hi]
  by_cases ht : tb x k = true
  · rw [if_pos ht, ht]
    show _ = (1#64).getLsbD i
    rw [BitVec.getLsbD_one]
    simp
  · have ht' : tb x k = false := by simpa using ht
    rw [if_neg ht, ht']
    show _ = (0#64).getLsbD i
    simp
theorem tb_or (x y : Int64) (i : Nat) : tb (x ||| y) i = (tb x i || tb y i) := by
  unfold tb
  rw [Int64.toBitVec_or, BitVec.getLsbD_or]
theorem tb_one {k i : Nat} (hk : k < 64) (hi : i < 64) : tb ((1 : Int64) <<< ((nI k).toInt64 &&& 63)) i = decide (i = k) := by
  unfold tb
  rw [Int64.toBitVec_shiftLeft, tb_cnt k hk, BitVec.shiftLeft_eq', BitVec.getLsbD_shiftLeft]
  have h2 : (BitVec.ofNat 64 k).toNat = k := by rw [BitVec.toNat_ofNat, Nat.mod_eq_of_lt (by omega)]
  have h1 : (1 : Int64).toBitVec.getLsbD (i - k) = decide (i - k = 0) := by
    show (1#64).getLsbD (i - k) = _
    rw [BitVec.getLsbD_one]
    simp
  rw [h2, h1]
  rw [Bool.eq_iff_iff]
  simp
  omega
theorem tb_sub (a b : Int64) : (a &&& (b ^^^ (-1))) = 0 ↔ ∀ i, i < 64 → tb a i = true → tb b i = true := by
  rw [← Int64.toBitVec_inj, Int64.toBitVec_and, Int64.toBitVec_xor]
  show a.toBitVec &&& (b.toBitVec ^^^ BitVec.allOnes 64) = 0#64 ↔ _
  constructor
  · intro h i hi ha
    have t := congrArg (fun z => z.getLsbD i) h
    simp only [BitVec.getLsbD_and, BitVec.getLsbD_xor, BitVec.getLsbD_allOnes, BitVec.getLsbD_zero, hi, decide_true] at t
    unfold tb at ha ⊢
    rw [ha] at t
    simpa using t
  · intro h
    apply BitVec.eq_of_getLsbD_eq
    intro i hi
    have hh := h i hi
    unfold tb at hh
    simp only [BitVec.getLsbD_and, BitVec.getLsbD_xor, BitVec.getLsbD_allOnes, BitVec.getLsbD_zero, hi, decide_true]
    cases ha : a.toBitVec.getLsbD i
    · simp
    · simp [hh ha]
theorem tb_zero (i : Nat) : tb 0 i = false := by
  show (0#64).getLsbD i = false
  simp
theorem lg_cmp_0 (x y : Int64) : lg_cmp x y = 0 ↔ x = y := by
  unfold lg_cmp
  by_cases h1 : x > y
  · rw [if_pos h1]
    constructor
    · intro h; exact absurd h (by decide)
    · intro h; subst h; exact absurd h1 (Int64.lt_irrefl)
  · rw [if_neg h1]
    by_cases h2 : x = y
    · rw [if_pos h2]; simp [h2]
    · rw [if_neg h2]
      constructor
      · intro h; exact absurd h (by decide)
      · intro h; exact absurd h h2
section YR
variable {p : Program} {l : Launch} {e : Env} {R : Room} {s : State} {m : MethodId} {args : Array Value} {below : List Frame} {meth : Method} {c : Code} {H : Heap} {locs : List Loc} {cells slots : Nat} {Q : State → Prop}
variable {cc : ByteArray} {pc : Nat} {ls : Array Slot} {rest : List Value}
theorem y_lcmpeq (hx : p.tables.exec = Jvm.exec) (hb : c.code = cc) {x y : Int64} {off : Int} {tgt : Nat} (d5 : decode cc pc = .ok (.lcmp, 1)) (d6 : decode cc (pc + 1) = .ok (.ifCond .eq off, 3)) (ht : ((pc + 1 : Nat) : Int) + off = (tgt : Int))
    (kt : x = y → W p l e R s m args below meth c H locs cells slots Q (F0 m tgt ls rest)) (kf : ¬ x = y → W p l e R s m args below meth c H locs cells slots Q (F0 m (pc + 1 + 3) ls rest)) : W p l e R s m args below meth c H locs cells slots Q (F0 m pc ls (.long y :: .long x :: rest)) :=
  W.lcmp hx hb d5 (lv_if_eq hx hb d6 ht (fun h => kt ((lg_cmp_0 x y).mp h)) (fun h => kf (fun z => h ((lg_cmp_0 x y).mpr z))))
theorem y_bit0 (hx : p.tables.exec = Jvm.exec) (hb : c.code = cc) {x : Int64} {k : Nat} (hk : k < 64) {off : Int} {tgt : Nat} (d1 : decode cc pc = .ok (.lshr, 1)) (d2 : decode cc (pc + 1) = .ok (.lconst 1, 1)) (d3 : decode cc (pc + 1 + 1) = .ok (.land, 1)) (d4 : decode cc (pc + 1 + 1 + 1) = .ok (.lconst 0, 1)) (d5 : decode cc (pc + 1 + 1 + 1 + 1) = .ok (.lcmp, 1)) (d6 : decode cc (pc + 1 + 1 + 1 + 1 + 1) = .ok (.ifCond .ne off, 3)) (ht : ((pc + 1 + 1 + 1 + 1 + 1 : Nat) : Int) + off = (tgt : Int))
    (kt : tb x k = true → W p l e R s m args below meth c H locs cells slots Q (F0 m tgt ls rest)) (kf : tb x k = false → W p l e R s m args below meth c H locs cells slots Q (F0 m (pc + 1 + 1 + 1 + 1 + 1 + 3) ls rest)) : W p l e R s m args below meth c H locs cells slots Q (F0 m pc ls (.int (nI k) :: .long x :: rest)) := by
  refine lv_lshr hx hb d1 rfl ?_
  refine lv_lconst (v := 1) hx hb d2 rfl ?_
  refine lv_land hx hb d3 ?_
  refine lv_lconst (v := 0) hx hb d4 rfl ?_
  refine W.lcmp hx hb d5 (lv_if_ne hx hb d6 ht (fun h => kt ?_) (fun h => kf ?_))
  · rw [lg_cmp_0, tb_test x hk] at h
    by_cases ht : tb x k = true
    · exact ht
    · rw [if_neg ht] at h; exact absurd rfl h
  · rw [lg_cmp_0, tb_test x hk] at h
    by_cases ht : tb x k = true
    · rw [if_pos ht] at h; exact absurd h (by decide)
    · simpa using ht
theorem y_bit1 (hx : p.tables.exec = Jvm.exec) (hb : c.code = cc) {x : Int64} {k : Nat} (hk : k < 64) {off : Int} {tgt : Nat} (d1 : decode cc pc = .ok (.lshr, 1)) (d2 : decode cc (pc + 1) = .ok (.lconst 1, 1)) (d3 : decode cc (pc + 1 + 1) = .ok (.land, 1)) (d4 : decode cc (pc + 1 + 1 + 1) = .ok (.lconst 1, 1)) (d5 : decode cc (pc + 1 + 1 + 1 + 1) = .ok (.lcmp, 1)) (d6 : decode cc (pc + 1 + 1 + 1 + 1 + 1) = .ok (.ifCond .ne off, 3)) (ht : ((pc + 1 + 1 + 1 + 1 + 1 : Nat) : Int) + off = (tgt : Int))
    (kt : tb x k = false → W p l e R s m args below meth c H locs cells slots Q (F0 m tgt ls rest)) (kf : tb x k = true → W p l e R s m args below meth c H locs cells slots Q (F0 m (pc + 1 + 1 + 1 + 1 + 1 + 3) ls rest)) : W p l e R s m args below meth c H locs cells slots Q (F0 m pc ls (.int (nI k) :: .long x :: rest)) := by
  refine lv_lshr hx hb d1 rfl ?_
  refine lv_lconst (v := 1) hx hb d2 rfl ?_
  refine lv_land hx hb d3 ?_
  refine lv_lconst (v := 1) hx hb d4 rfl ?_
  refine W.lcmp hx hb d5 (lv_if_ne hx hb d6 ht (fun h => kt ?_) (fun h => kf ?_))
  · rw [lg_cmp_0, tb_test x hk] at h
    by_cases ht : tb x k = true
    · rw [if_pos ht] at h; exact absurd rfl h
    · simpa using ht
  · rw [lg_cmp_0, tb_test x hk] at h
    by_cases ht : tb x k = true
    · exact ht
    · rw [if_neg ht] at h; exact absurd h (by decide)
end YR
noncomputable def cN (p : Nat → Prop) : Nat → Nat
  | 0 => 0
  | n + 1 => cN p n + bI (p n)
theorem cN_le (p : Nat → Prop) : ∀ n, cN p n ≤ n
  | 0 => Nat.le_refl _
  | n + 1 => by
    have := cN_le p n
    have := bI_le (p n)
    unfold cN
    omega
theorem cN_t {p : Nat → Prop} {n : Nat} (h : p n) : cN p (n + 1) = cN p n + 1 := by
  show cN p n + bI (p n) = _
  rw [bI_t h]
theorem cN_f {p : Nat → Prop} {n : Nat} (h : ¬ p n) : cN p (n + 1) = cN p n := by
  show cN p n + bI (p n) = _
  rw [bI_f h]
  rfl
noncomputable def bW (P : Prop) (x : Int32) : Int32 := @ite Int32 P (Classical.propDecidable P) x 0
theorem bW_t {P : Prop} {x : Int32} (h : P) : bW P x = x := by unfold bW; rw [if_pos h]
theorem bW_f {P : Prop} {x : Int32} (h : ¬ P) : bW P x = 0 := by unfold bW; rw [if_neg h]
noncomputable def sI (p : Nat → Prop) (w : Nat → Int32) : Nat → Int32
  | 0 => 0
  | n + 1 => sI p w n + bW (p n) (w n)
theorem sI_t {p : Nat → Prop} {w : Nat → Int32} {n : Nat} (h : p n) : sI p w (n + 1) = sI p w n + w n := by
  show sI p w n + bW (p n) (w n) = _
  rw [bW_t h]
theorem sI_f {p : Nat → Prop} {w : Nat → Int32} {n : Nat} (h : ¬ p n) : sI p w (n + 1) = sI p w n := by
  show sI p w n + bW (p n) (w n) = _
  rw [bW_f h, Int32.add_zero]
def y_kill (g : Nat → Nat → Nat) (v : Nat → Nat → Int32) (b : Nat → Nat → Int64) (r c d : Nat) : Prop := tb (b 5 r) d = true ∧ tb (b 4 d) c = true ∧ (g 1 d = 4 ∨ (g 1 c = 0 ∧ g 1 d = 1 ∧ v 2 d = v 2 c) ∨ (g 1 c = 2 ∧ g 1 d = 2))
def y_st (g : Nat → Nat → Nat) (v : Nat → Nat → Int32) (b : Nat → Nat → Int64) (r c : Nat) : Prop := tb (b 5 r) c = true ∧ ∀ d, d < g 0 0 → ¬ y_kill g v b r c d
def y_hp (g : Nat → Nat → Nat) (v : Nat → Nat → Int32) (b : Nat → Nat → Int64) (r : Nat) (x : Int32) (c : Nat) : Prop := g 1 c = 0 ∧ v 2 c = x ∧ y_st g v b r c
def y_vp (g : Nat → Nat → Nat) (v : Nat → Nat → Int32) (b : Nat → Nat → Int64) (r k : Nat) (c : Nat) : Prop := g 1 c = k ∧ y_st g v b r c
def y_up (g : Nat → Nat → Nat) (v : Nat → Nat → Int32) (b : Nat → Nat → Int64) (r : Nat) (x : Int32) (eq : Nat) (c : Nat) : Prop := g 1 c = 2 ∧ (v 2 c < x ∨ eq ≠ 0 ∧ v 2 c = x) ∧ y_st g v b r c
def y_kp (g : Nat → Nat → Nat) (b : Nat → Nat → Int64) (r o : Nat) (c : Nat) : Prop := g 3 c = o ∧ tb (b 5 r) c = true
def y_vc (g : Nat → Nat → Nat) (v : Nat → Nat → Int32) (b : Nat → Nat → Int64) (r : Nat) (y : Int32) (c : Nat) : Prop := g 1 c = 2 ∧ y_st g v b r c ∧ nI (cN (y_up g v b r (v 2 c) 0) (g 0 0)) ≤ y ∧ y < nI (cN (y_up g v b r (v 2 c) 1) (g 0 0))
def y_vv (g : Nat → Nat → Nat) (v : Nat → Nat → Int32) (b : Nat → Nat → Int64) (r : Nat) (y x : Int32) : Prop := (∃ c, c < g 0 0 ∧ (∀ i, i < c → ¬ y_vc g v b r y i) ∧ y_vc g v b r y c ∧ x = v 2 c) ∨ ((∀ c, c < g 0 0 → ¬ y_vc g v b r y c) ∧ x = 0)
theorem y_vv_hit {g : Nat → Nat → Nat} {v : Nat → Nat → Int32} {b : Nat → Nat → Int64} {r : Nat} {y x : Int32} (h : y_vv g v b r y x) {o : Nat} (ho : o < g 0 0) (hn : ∀ i, i < o → ¬ y_vc g v b r y i) (hc : y_vc g v b r y o) : v 2 o = x := by
  rcases h with ⟨o', h1, h2, h3, rfl⟩ | ⟨h1, -⟩
  · rcases Nat.lt_trichotomy o o' with q | q | q
    · exact absurd hc (h2 o q)
    · rw [q]
    · exact absurd h3 (hn o' q)
  · exact absurd hc (h1 o ho)
theorem y_vv_none {g : Nat → Nat → Nat} {v : Nat → Nat → Int32} {b : Nat → Nat → Int64} {r : Nat} {y x : Int32} (h : y_vv g v b r y x) (hn : ∀ i, i < g 0 0 → ¬ y_vc g v b r y i) : nI 0 = x := by
  rcases h with ⟨o', h1, h2, h3, rfl⟩ | ⟨-, h1⟩
  · exact absurd h3 (hn o' h1)
  · rw [h1]; rfl
def y_dlv (g : Nat → Nat → Nat) (b : Nat → Nat → Int64) (f t : Nat) (x : Int32) (u : Nat → Nat → Int64) : Prop :=
  (∃ c, c < g 0 0 ∧ g 3 c = f ∧ tb (b 5 t) c = false ∧ (∀ i, i < c → g 3 i = f → tb (b 5 t) i = true) ∧ ((b 4 c &&& (b 5 t ^^^ (-1)) = 0 ∧ x = nI 0 ∧ u = x_sb b 5 t (b 5 t ||| ((1 : Int64) <<< ((nI c).toInt64 &&& 63)))) ∨ (¬ b 4 c &&& (b 5 t ^^^ (-1)) = 0 ∧ x = -2 ∧ u = b))) ∨ ((∀ i, i < g 0 0 → g 3 i = f → tb (b 5 t) i = true) ∧ x = -1 ∧ u = b)
def y_mk (g : Nat → Nat → Nat) (r sn : Nat) : Nat → Nat → Nat := x_su (x_su (x_su g 1 (g 0 0) sn) 3 (g 0 0) r) 0 0 (g 0 0 + 1)
def y_mkb (g : Nat → Nat → Nat) (b : Nat → Nat → Int64) (r : Nat) : Nat → Nat → Int64 := x_sb (x_sb b 4 (g 0 0) (b 5 r)) 5 r (b 5 r ||| ((1 : Int64) <<< ((nI (g 0 0)).toInt64 &&& 63)))
end
section
/-! contracts of the reference's methods -/
theorem L_Y_bad : z_LS R_Y 26 y_Y_bad b_Y_bad 1 (some .boolean) 1 := ⟨ml_Y_26, sm_Y_bad, in_Y, k_Y_bad, by decide +kernel⟩
theorem L_Y_make : z_L R_Y R_Y 34 y_Y_make b_Y_make 4 (some .int) 3 := ⟨ml_Y_34, im_Y_make, se_Y_make, in_Y, k_Y_make, by decide +kernel⟩
theorem L_Y_stands : z_L R_Y R_Y 40 y_Y_stands b_Y_stands 5 (some .boolean) 2 := ⟨ml_Y_40, im_Y_stands, se_Y_stands, in_Y, k_Y_stands, by decide +kernel⟩
theorem L_Y_under : z_L R_Y R_Y 44 y_Y_under b_Y_under 7 (some .int) 3 := ⟨ml_Y_44, im_Y_under, se_Y_under, in_Y, k_Y_under, by decide +kernel⟩
set_option maxHeartbeats 2000000 in
set_option maxRecDepth 20000 in
theorem c_Y_bad_ok {l : Launch} {x : Int32} (h : x_ok x) : z_Ms l y_Y_bad b_Y_bad 1 (some .boolean) 0 [.int x] (nI 0) := by
  refine z_ms (own := R_Y) (by decide) rfl (Nat.le_of_ble_eq_true rfl) ?_
  intro p e s m args below meth c ls C hret hlk hl
  have hx := C.1
  have hb := C.2.1
  have hl : lv_has ls 1 [(0, .int x)] := hl
  refine lv_iload_n hx hb d_Y_bad_0 rfl (lv_at hl 0 rfl) ?_
  refine lv_if_lt (tgt := 9) hx hb d_Y_bad_1 (by decide) (fun hz => absurd hz h.1) (fun c1 => ?_)
  refine lv_iload_n hx hb d_Y_bad_4 rfl (lv_at hl 0 rfl) ?_
  refine lv_iconst (v := nI 2) hx hb d_Y_bad_5 rfl ?_
  refine lv_icmp_le (tgt := 13) hx hb d_Y_bad_6 (by decide) (fun c6 => ?_) (fun hz => absurd hz (fun k => k (Int32.not_lt.mp h.2)))
  refine lv_iconst (v := nI 0) hx hb d_Y_bad_13 rfl ?_
  exact z_rr C hret (by decide) hlk d_Y_bad_14
set_option maxHeartbeats 2000000 in
set_option maxRecDepth 20000 in
theorem c_Y_bad_bad {l : Launch} {x : Int32} (h : ¬ x_ok x) : z_Ms l y_Y_bad b_Y_bad 1 (some .boolean) 0 [.int x] (nI 1) := by
  refine z_ms (own := R_Y) (by decide) rfl (Nat.le_of_ble_eq_true rfl) ?_
  intro p e s m args below meth c ls C hret hlk hl
  have hx := C.1
  have hb := C.2.1
  have hl : lv_has ls 1 [(0, .int x)] := hl
  refine lv_iload_n hx hb d_Y_bad_0 rfl (lv_at hl 0 rfl) ?_
  refine lv_if_lt (tgt := 9) hx hb d_Y_bad_1 (by decide) (fun c1 => ?_) (fun c1 => ?_)
  · refine lv_iconst (v := nI 1) hx hb d_Y_bad_9 rfl ?_
    refine lv_goto (tgt := 14) hx hb d_Y_bad_10 (by decide) ?_
    exact z_rr C hret (by decide) hlk d_Y_bad_14
  · refine lv_iload_n hx hb d_Y_bad_4 rfl (lv_at hl 0 rfl) ?_
    refine lv_iconst (v := nI 2) hx hb d_Y_bad_5 rfl ?_
    refine lv_icmp_le (tgt := 13) hx hb d_Y_bad_6 (by decide) (fun c6 => ?_) (fun c6 => ?_)
    · exact absurd ⟨c1, Int32.not_lt.mpr c6⟩ h
    · refine lv_iconst (v := nI 1) hx hb d_Y_bad_9 rfl ?_
      refine lv_goto (tgt := 14) hx hb d_Y_bad_10 (by decide) ?_
      exact z_rr C hret (by decide) hlk d_Y_bad_14
set_option maxHeartbeats 2000000 in
set_option maxRecDepth 20000 in
theorem c_Y_make_bad {l : Launch} {D : va_G} {cI cL : ClassId} {q : Nat → Nat} {g : Nat → Nat → Nat} {v : Nat → Nat → Int32} {b : Nat → Nat → Int64} {x y a : Int32} (h : ¬ x_ok x ∨ ¬ g 0 0 < 48) (hB : x_Bd g) : z_Mi l y_Y_make b_Y_make 4 2 D cI cL (y_ws q cI cL g v b) [.ref (q 0), .int (x), .int (y), .int (a)] (fun (x : Int32) (u : Unit) => x = -1) (fun u => y_ws q cI cL g v b) := by
  refine z_mi (own := R_Y) (by decide) rfl (Nat.le_of_ble_eq_true rfl) ?_
  intro p e s m args below meth c A ls C P hret hlk hl
  have hx := C.1
  have hb := C.2.1
  have hf : 0 ≤ (z_rm 2).cells ∧ 0 ≤ (z_rm 2).slots := ⟨Nat.zero_le _, Nat.zero_le _⟩
  have hl : lv_has ls 4 [(0, .ref (q 0)), (1, .int (x)), (2, .int (y)), (3, .int (a))] := hl
  have h00 := hB 0 0
  by_cases hx1 : x_ok x
  · refine lv_iload_n hx hb d_Y_make_0 rfl (lv_at hl 1 rfl) ?_
    refine z_calls C.U L_Y_bad (c_Y_bad_ok hx1) ⟨by decide, by decide⟩ rfl hl.1 (Nat.le_of_ble_eq_true rfl) hf d_Y_make_1 rfl ?_
    refine n_ifne (tgt := 16) hx hb (by first | omega | exact Nat.le_trans (hB _ _) (by decide)) d_Y_make_4 (by decide) (fun hz => absurd hz (by decide)) (fun c4 => ?_)
    refine lv_aload_n hx hb d_Y_make_7 rfl (lv_at hl 0 rfl) ?_
    refine y_g0 C P d_Y_make_8 ?_
    refine lv_bipush (v := nI 48) hx hb d_Y_make_11 rfl ?_
    refine n_ne (tgt := 18) hx hb (by first | omega | exact Nat.le_trans (hB _ _) (by decide)) (by first | omega | exact Nat.le_trans (hB _ _) (by decide)) d_Y_make_13 (by decide) (fun hz => absurd hz (fun k => k (h.elim (fun z => absurd hx1 z) (fun z => by omega)))) (fun c13 => ?_)
    refine lv_iconst (v := (-1)) hx hb d_Y_make_16 rfl ?_
    exact z_ri C _ () rfl P hret hlk d_Y_make_17
  · refine lv_iload_n hx hb d_Y_make_0 rfl (lv_at hl 1 rfl) ?_
    refine z_calls C.U L_Y_bad (c_Y_bad_bad hx1) ⟨by decide, by decide⟩ rfl hl.1 (Nat.le_of_ble_eq_true rfl) hf d_Y_make_1 rfl ?_
    refine n_ifne (tgt := 16) hx hb (by first | omega | exact Nat.le_trans (hB _ _) (by decide)) d_Y_make_4 (by decide) (fun c4 => ?_) (fun hz => absurd hz (by decide))
    refine lv_iconst (v := (-1)) hx hb d_Y_make_16 rfl ?_
    exact z_ri C _ () rfl P hret hlk d_Y_make_17
set_option maxHeartbeats 2000000 in
set_option maxRecDepth 20000 in
theorem c_Y_make {l : Launch} {D : va_G} {cI cL : ClassId} {q : Nat → Nat} {g : Nat → Nat → Nat} {v : Nat → Nat → Int32} {b : Nat → Nat → Int64} {r sn : Nat} {a : Int32} (hr : r < 3) (hsn : sn ≤ 4) (hm : g 0 0 < 48) (hB : x_Bd g) : z_Mi l y_Y_make b_Y_make 4 2 D cI cL (y_ws q cI cL g v b) [.ref (q 0), .int (nI (r)), .int (nI (sn)), .int (a)] (fun (x : Int32) (u : Unit) => x = nI (g 0 0 + 1)) (fun u => y_ws q cI cL (y_mk g r sn) (x_sv v 2 (g 0 0) a) (y_mkb g b r)) := by
  refine z_mi (own := R_Y) (by decide) rfl (Nat.le_of_ble_eq_true rfl) ?_
  intro p e s m args below meth c A ls C P hret hlk hl
  have hx := C.1
  have hb := C.2.1
  have hf : 0 ≤ (z_rm 2).cells ∧ 0 ≤ (z_rm 2).slots := ⟨Nat.zero_le _, Nat.zero_le _⟩
  have hl : lv_has ls 4 [(0, .ref (q 0)), (1, .int (nI (r))), (2, .int (nI (sn))), (3, .int (a))] := hl
  refine lv_iload_n hx hb d_Y_make_0 rfl (lv_at hl 1 rfl) ?_
  refine z_calls C.U L_Y_bad (c_Y_bad_ok (x_ok_nI hr)) ⟨by decide, by decide⟩ rfl hl.1 (Nat.le_of_ble_eq_true rfl) hf d_Y_make_1 rfl ?_
  refine n_ifne (tgt := 16) hx hb (by first | omega | exact Nat.le_trans (hB _ _) (by decide)) d_Y_make_4 (by decide) (fun hz => absurd hz (by decide)) (fun c4 => ?_)
  refine lv_aload_n hx hb d_Y_make_7 rfl (lv_at hl 0 rfl) ?_
  refine y_g0 C P d_Y_make_8 ?_
  refine lv_bipush (v := nI 48) hx hb d_Y_make_11 rfl ?_
  refine n_ne (tgt := 18) hx hb (by first | omega | exact Nat.le_trans (hB _ _) (by decide)) (by first | omega | exact Nat.le_trans (hB _ _) (by decide)) d_Y_make_13 (by decide) (fun c13 => ?_) (fun hz => absurd hz (by omega))
  refine lv_aload_n hx hb d_Y_make_18 rfl (lv_at hl 0 rfl) ?_
  refine y_g1 C P d_Y_make_19 ?_
  refine lv_aload_n hx hb d_Y_make_22 rfl (lv_at hl 0 rfl) ?_
  refine y_g0 C P d_Y_make_23 ?_
  refine n_top (y := nI (g 0 0)) rfl ?_
  refine lv_iload_n hx hb d_Y_make_26 rfl (lv_at hl 2 rfl) ?_
  refine y_s1 C P (x := sn) (by omega) d_Y_make_27 (fun H locs P => ?_)
  refine lv_aload_n hx hb d_Y_make_28 rfl (lv_at hl 0 rfl) ?_
  refine y_g2 C P d_Y_make_29 ?_
  refine lv_aload_n hx hb d_Y_make_32 rfl (lv_at hl 0 rfl) ?_
  refine y_g0 C P d_Y_make_33 ?_
  refine n_top (y := nI (g 0 0)) rfl ?_
  refine lv_iload_n hx hb d_Y_make_36 rfl (lv_at hl 3 rfl) ?_
  refine y_s2 C P (x := a) (by omega) d_Y_make_37 (fun H locs P => ?_)
  refine lv_aload_n hx hb d_Y_make_38 rfl (lv_at hl 0 rfl) ?_
  refine y_g3 C P d_Y_make_39 ?_
  refine lv_aload_n hx hb d_Y_make_42 rfl (lv_at hl 0 rfl) ?_
  refine y_g0 C P d_Y_make_43 ?_
  refine n_top (y := nI (g 0 0)) rfl ?_
  refine lv_iload_n hx hb d_Y_make_46 rfl (lv_at hl 1 rfl) ?_
  refine y_s3 C P (x := r) (by omega) d_Y_make_47 (fun H locs P => ?_)
  refine lv_aload_n hx hb d_Y_make_48 rfl (lv_at hl 0 rfl) ?_
  refine y_g4 C P d_Y_make_49 ?_
  refine lv_aload_n hx hb d_Y_make_52 rfl (lv_at hl 0 rfl) ?_
  refine y_g0 C P d_Y_make_53 ?_
  refine n_top (y := nI (g 0 0)) rfl ?_
  refine lv_aload_n hx hb d_Y_make_56 rfl (lv_at hl 0 rfl) ?_
  refine y_g5 C P d_Y_make_57 ?_
  refine lv_iload_n hx hb d_Y_make_60 rfl (lv_at hl 1 rfl) ?_
  refine y_l5 C P (by omega) d_Y_make_61 ?_
  refine y_s4 C P (x := b 5 r) (by omega) d_Y_make_62 (fun H locs P => ?_)
  refine lv_aload_n hx hb d_Y_make_63 rfl (lv_at hl 0 rfl) ?_
  refine y_g5 C P d_Y_make_64 ?_
  refine lv_iload_n hx hb d_Y_make_67 rfl (lv_at hl 1 rfl) ?_
  refine lv_dup2_11 hx hb d_Y_make_68 rfl rfl ?_
  refine y_l5 C P (by omega) d_Y_make_69 ?_
  refine lv_lconst (v := 1) hx hb d_Y_make_70 rfl ?_
  refine lv_aload_n hx hb d_Y_make_71 rfl (lv_at hl 0 rfl) ?_
  refine y_g0 C P d_Y_make_72 ?_
  refine n_top (y := nI (g 0 0)) rfl ?_
  refine lv_lshl hx hb d_Y_make_75 rfl ?_
  refine lv_lor hx hb d_Y_make_76 ?_
  refine y_s5 C P (x := ((x_sb b 4 (g 0 0) (b 5 r)) 5 r) ||| (((1 : Int64)) <<< ((nI (g 0 0)).toInt64 &&& 63))) (by omega) d_Y_make_77 (fun H locs P => ?_)
  refine lv_aload_n hx hb d_Y_make_78 rfl (lv_at hl 0 rfl) ?_
  refine lv_dup hx hb d_Y_make_79 rfl ?_
  refine y_g0 C P d_Y_make_80 ?_
  refine n_top (y := nI (g 0 0)) rfl ?_
  refine lv_iconst (v := nI 1) hx hb d_Y_make_83 rfl ?_
  refine n_iadd hx hb d_Y_make_84 ?_
  refine y_p0 C P (x := (g 0 0) + 1) d_Y_make_85 (fun H locs P => ?_)
  refine lv_aload_n hx hb d_Y_make_88 rfl (lv_at hl 0 rfl) ?_
  refine y_g0 C P d_Y_make_89 ?_
  refine n_top (y := nI (g 0 0 + 1)) rfl ?_
  exact z_ri C _ () rfl P hret hlk d_Y_make_92
set_option maxHeartbeats 2000000 in
set_option maxRecDepth 20000 in
theorem c_Y_add_bad {l : Launch} {D : va_G} {cI cL : ClassId} {q : Nat → Nat} {g : Nat → Nat → Nat} {v : Nat → Nat → Int32} {b : Nat → Nat → Int64} {x y : Int32} (h : ¬ x_ok x ∨ ¬ g 0 0 < 48) (hB : x_Bd g) : z_Mi l y_Y_add b_Y_add 3 3 D cI cL (y_ws q cI cL g v b) [.ref (q 0), .int (x), .int (y)] (fun (x : Int32) (u : Unit) => x = -1) (fun u => y_ws q cI cL g v b) := by
  refine z_mi (own := R_Y) (by decide) rfl (Nat.le_of_ble_eq_true rfl) ?_
  intro p e s m args below meth c A ls C P hret hlk hl
  have hx := C.1
  have hb := C.2.1
  have hf : 0 ≤ (z_rm 3).cells ∧ 0 ≤ (z_rm 3).slots := ⟨Nat.zero_le _, Nat.zero_le _⟩
  have hl : lv_has ls 3 [(0, .ref (q 0)), (1, .int (x)), (2, .int (y))] := hl
  refine lv_aload_n hx hb d_Y_add_0 rfl (lv_at hl 0 rfl) ?_
  refine lv_iload_n hx hb d_Y_add_1 rfl (lv_at hl 1 rfl) ?_
  refine lv_iconst (v := nI 0) hx hb d_Y_add_2 rfl ?_
  refine lv_iload_n hx hb d_Y_add_3 rfl (lv_at hl 2 rfl) ?_
  refine lv_bipush (v := nI 7) hx hb d_Y_add_4 rfl ?_
  refine lv_iand hx hb d_Y_add_6 ?_
  refine z_calli C P L_Y_make rfl rfl (c_Y_make_bad h hB) ⟨by decide, by decide⟩ rfl hl.1 (Nat.le_of_ble_eq_true rfl) hf d_Y_add_7 rfl (fun x9 _ H locs hx9 P => ?_)
  exact z_ri C _ () hx9 P hret hlk d_Y_add_10
set_option maxHeartbeats 2000000 in
set_option maxRecDepth 20000 in
theorem c_Y_add {l : Launch} {D : va_G} {cI cL : ClassId} {q : Nat → Nat} {g : Nat → Nat → Nat} {v : Nat → Nat → Int32} {b : Nat → Nat → Int64} {r : Nat} {y : Int32} (hr : r < 3) (hm : g 0 0 < 48) (hB : x_Bd g) : z_Mi l y_Y_add b_Y_add 3 3 D cI cL (y_ws q cI cL g v b) [.ref (q 0), .int (nI (r)), .int (y)] (fun (x : Int32) (u : Unit) => x = nI (g 0 0 + 1)) (fun u => y_ws q cI cL (y_mk g r 0) (x_sv v 2 (g 0 0) (y &&& nI 7)) (y_mkb g b r)) := by
  refine z_mi (own := R_Y) (by decide) rfl (Nat.le_of_ble_eq_true rfl) ?_
  intro p e s m args below meth c A ls C P hret hlk hl
  have hx := C.1
  have hb := C.2.1
  have hf : 0 ≤ (z_rm 3).cells ∧ 0 ≤ (z_rm 3).slots := ⟨Nat.zero_le _, Nat.zero_le _⟩
  have hl : lv_has ls 3 [(0, .ref (q 0)), (1, .int (nI (r))), (2, .int (y))] := hl
  refine lv_aload_n hx hb d_Y_add_0 rfl (lv_at hl 0 rfl) ?_
  refine lv_iload_n hx hb d_Y_add_1 rfl (lv_at hl 1 rfl) ?_
  refine lv_iconst (v := nI 0) hx hb d_Y_add_2 rfl ?_
  refine lv_iload_n hx hb d_Y_add_3 rfl (lv_at hl 2 rfl) ?_
  refine lv_bipush (v := nI 7) hx hb d_Y_add_4 rfl ?_
  refine lv_iand hx hb d_Y_add_6 ?_
  refine z_calli C P L_Y_make rfl rfl (c_Y_make (sn := 0) hr (by decide) hm hB) ⟨by decide, by decide⟩ rfl hl.1 (Nat.le_of_ble_eq_true rfl) hf d_Y_add_7 rfl (fun x9 _ H locs hx9 P => ?_)
  exact z_ri C _ () hx9 P hret hlk d_Y_add_10
set_option maxHeartbeats 2000000 in
set_option maxRecDepth 20000 in
theorem c_Y_remove_bad {l : Launch} {D : va_G} {cI cL : ClassId} {q : Nat → Nat} {g : Nat → Nat → Nat} {v : Nat → Nat → Int32} {b : Nat → Nat → Int64} {x y : Int32} (h : ¬ x_ok x ∨ ¬ g 0 0 < 48) (hB : x_Bd g) : z_Mi l y_Y_remove b_Y_remove 3 3 D cI cL (y_ws q cI cL g v b) [.ref (q 0), .int (x), .int (y)] (fun (x : Int32) (u : Unit) => x = -1) (fun u => y_ws q cI cL g v b) := by
  refine z_mi (own := R_Y) (by decide) rfl (Nat.le_of_ble_eq_true rfl) ?_
  intro p e s m args below meth c A ls C P hret hlk hl
  have hx := C.1
  have hb := C.2.1
  have hf : 0 ≤ (z_rm 3).cells ∧ 0 ≤ (z_rm 3).slots := ⟨Nat.zero_le _, Nat.zero_le _⟩
  have hl : lv_has ls 3 [(0, .ref (q 0)), (1, .int (x)), (2, .int (y))] := hl
  refine lv_aload_n hx hb d_Y_remove_0 rfl (lv_at hl 0 rfl) ?_
  refine lv_iload_n hx hb d_Y_remove_1 rfl (lv_at hl 1 rfl) ?_
  refine lv_iconst (v := nI 1) hx hb d_Y_remove_2 rfl ?_
  refine lv_iload_n hx hb d_Y_remove_3 rfl (lv_at hl 2 rfl) ?_
  refine lv_bipush (v := nI 7) hx hb d_Y_remove_4 rfl ?_
  refine lv_iand hx hb d_Y_remove_6 ?_
  refine z_calli C P L_Y_make rfl rfl (c_Y_make_bad h hB) ⟨by decide, by decide⟩ rfl hl.1 (Nat.le_of_ble_eq_true rfl) hf d_Y_remove_7 rfl (fun x9 _ H locs hx9 P => ?_)
  exact z_ri C _ () hx9 P hret hlk d_Y_remove_10
set_option maxHeartbeats 2000000 in
set_option maxRecDepth 20000 in
theorem c_Y_remove {l : Launch} {D : va_G} {cI cL : ClassId} {q : Nat → Nat} {g : Nat → Nat → Nat} {v : Nat → Nat → Int32} {b : Nat → Nat → Int64} {r : Nat} {y : Int32} (hr : r < 3) (hm : g 0 0 < 48) (hB : x_Bd g) : z_Mi l y_Y_remove b_Y_remove 3 3 D cI cL (y_ws q cI cL g v b) [.ref (q 0), .int (nI (r)), .int (y)] (fun (x : Int32) (u : Unit) => x = nI (g 0 0 + 1)) (fun u => y_ws q cI cL (y_mk g r 1) (x_sv v 2 (g 0 0) (y &&& nI 7)) (y_mkb g b r)) := by
  refine z_mi (own := R_Y) (by decide) rfl (Nat.le_of_ble_eq_true rfl) ?_
  intro p e s m args below meth c A ls C P hret hlk hl
  have hx := C.1
  have hb := C.2.1
  have hf : 0 ≤ (z_rm 3).cells ∧ 0 ≤ (z_rm 3).slots := ⟨Nat.zero_le _, Nat.zero_le _⟩
  have hl : lv_has ls 3 [(0, .ref (q 0)), (1, .int (nI (r))), (2, .int (y))] := hl
  refine lv_aload_n hx hb d_Y_remove_0 rfl (lv_at hl 0 rfl) ?_
  refine lv_iload_n hx hb d_Y_remove_1 rfl (lv_at hl 1 rfl) ?_
  refine lv_iconst (v := nI 1) hx hb d_Y_remove_2 rfl ?_
  refine lv_iload_n hx hb d_Y_remove_3 rfl (lv_at hl 2 rfl) ?_
  refine lv_bipush (v := nI 7) hx hb d_Y_remove_4 rfl ?_
  refine lv_iand hx hb d_Y_remove_6 ?_
  refine z_calli C P L_Y_make rfl rfl (c_Y_make (sn := 1) hr (by decide) hm hB) ⟨by decide, by decide⟩ rfl hl.1 (Nat.le_of_ble_eq_true rfl) hf d_Y_remove_7 rfl (fun x9 _ H locs hx9 P => ?_)
  exact z_ri C _ () hx9 P hret hlk d_Y_remove_10
set_option maxHeartbeats 2000000 in
set_option maxRecDepth 20000 in
theorem c_Y_assign_bad {l : Launch} {D : va_G} {cI cL : ClassId} {q : Nat → Nat} {g : Nat → Nat → Nat} {v : Nat → Nat → Int32} {b : Nat → Nat → Int64} {x y : Int32} (h : ¬ x_ok x ∨ ¬ g 0 0 < 48) (hB : x_Bd g) : z_Mi l y_Y_assign b_Y_assign 3 3 D cI cL (y_ws q cI cL g v b) [.ref (q 0), .int (x), .int (y)] (fun (x : Int32) (u : Unit) => x = -1) (fun u => y_ws q cI cL g v b) := by
  refine z_mi (own := R_Y) (by decide) rfl (Nat.le_of_ble_eq_true rfl) ?_
  intro p e s m args below meth c A ls C P hret hlk hl
  have hx := C.1
  have hb := C.2.1
  have hf : 0 ≤ (z_rm 3).cells ∧ 0 ≤ (z_rm 3).slots := ⟨Nat.zero_le _, Nat.zero_le _⟩
  have hl : lv_has ls 3 [(0, .ref (q 0)), (1, .int (x)), (2, .int (y))] := hl
  refine lv_aload_n hx hb d_Y_assign_0 rfl (lv_at hl 0 rfl) ?_
  refine lv_iload_n hx hb d_Y_assign_1 rfl (lv_at hl 1 rfl) ?_
  refine lv_iconst (v := nI 2) hx hb d_Y_assign_2 rfl ?_
  refine lv_iload_n hx hb d_Y_assign_3 rfl (lv_at hl 2 rfl) ?_
  refine z_calli C P L_Y_make rfl rfl (c_Y_make_bad h hB) ⟨by decide, by decide⟩ rfl hl.1 (Nat.le_of_ble_eq_true rfl) hf d_Y_assign_4 rfl (fun x9 _ H locs hx9 P => ?_)
  exact z_ri C _ () hx9 P hret hlk d_Y_assign_7
set_option maxHeartbeats 2000000 in
set_option maxRecDepth 20000 in
theorem c_Y_assign {l : Launch} {D : va_G} {cI cL : ClassId} {q : Nat → Nat} {g : Nat → Nat → Nat} {v : Nat → Nat → Int32} {b : Nat → Nat → Int64} {r : Nat} {y : Int32} (hr : r < 3) (hm : g 0 0 < 48) (hB : x_Bd g) : z_Mi l y_Y_assign b_Y_assign 3 3 D cI cL (y_ws q cI cL g v b) [.ref (q 0), .int (nI (r)), .int (y)] (fun (x : Int32) (u : Unit) => x = nI (g 0 0 + 1)) (fun u => y_ws q cI cL (y_mk g r 2) (x_sv v 2 (g 0 0) y) (y_mkb g b r)) := by
  refine z_mi (own := R_Y) (by decide) rfl (Nat.le_of_ble_eq_true rfl) ?_
  intro p e s m args below meth c A ls C P hret hlk hl
  have hx := C.1
  have hb := C.2.1
  have hf : 0 ≤ (z_rm 3).cells ∧ 0 ≤ (z_rm 3).slots := ⟨Nat.zero_le _, Nat.zero_le _⟩
  have hl : lv_has ls 3 [(0, .ref (q 0)), (1, .int (nI (r))), (2, .int (y))] := hl
  refine lv_aload_n hx hb d_Y_assign_0 rfl (lv_at hl 0 rfl) ?_
  refine lv_iload_n hx hb d_Y_assign_1 rfl (lv_at hl 1 rfl) ?_
  refine lv_iconst (v := nI 2) hx hb d_Y_assign_2 rfl ?_
  refine lv_iload_n hx hb d_Y_assign_3 rfl (lv_at hl 2 rfl) ?_
  refine z_calli C P L_Y_make rfl rfl (c_Y_make (sn := 2) hr (by decide) hm hB) ⟨by decide, by decide⟩ rfl hl.1 (Nat.le_of_ble_eq_true rfl) hf d_Y_assign_4 rfl (fun x9 _ H locs hx9 P => ?_)
  exact z_ri C _ () hx9 P hret hlk d_Y_assign_7
set_option maxHeartbeats 2000000 in
set_option maxRecDepth 20000 in
theorem c_Y_count_bad {l : Launch} {D : va_G} {cI cL : ClassId} {q : Nat → Nat} {g : Nat → Nat → Nat} {v : Nat → Nat → Int32} {b : Nat → Nat → Int64} {x y : Int32} (h : ¬ x_ok x ∨ ¬ g 0 0 < 48) (hB : x_Bd g) : z_Mi l y_Y_count b_Y_count 3 3 D cI cL (y_ws q cI cL g v b) [.ref (q 0), .int (x), .int (y)] (fun (x : Int32) (u : Unit) => x = -1) (fun u => y_ws q cI cL g v b) := by
  refine z_mi (own := R_Y) (by decide) rfl (Nat.le_of_ble_eq_true rfl) ?_
  intro p e s m args below meth c A ls C P hret hlk hl
  have hx := C.1
  have hb := C.2.1
  have hf : 0 ≤ (z_rm 3).cells ∧ 0 ≤ (z_rm 3).slots := ⟨Nat.zero_le _, Nat.zero_le _⟩
  have hl : lv_has ls 3 [(0, .ref (q 0)), (1, .int (x)), (2, .int (y))] := hl
  refine lv_aload_n hx hb d_Y_count_0 rfl (lv_at hl 0 rfl) ?_
  refine lv_iload_n hx hb d_Y_count_1 rfl (lv_at hl 1 rfl) ?_
  refine lv_iconst (v := nI 3) hx hb d_Y_count_2 rfl ?_
  refine lv_iload_n hx hb d_Y_count_3 rfl (lv_at hl 2 rfl) ?_
  refine z_calli C P L_Y_make rfl rfl (c_Y_make_bad h hB) ⟨by decide, by decide⟩ rfl hl.1 (Nat.le_of_ble_eq_true rfl) hf d_Y_count_4 rfl (fun x9 _ H locs hx9 P => ?_)
  exact z_ri C _ () hx9 P hret hlk d_Y_count_7
set_option maxHeartbeats 2000000 in
set_option maxRecDepth 20000 in
theorem c_Y_count {l : Launch} {D : va_G} {cI cL : ClassId} {q : Nat → Nat} {g : Nat → Nat → Nat} {v : Nat → Nat → Int32} {b : Nat → Nat → Int64} {r : Nat} {y : Int32} (hr : r < 3) (hm : g 0 0 < 48) (hB : x_Bd g) : z_Mi l y_Y_count b_Y_count 3 3 D cI cL (y_ws q cI cL g v b) [.ref (q 0), .int (nI (r)), .int (y)] (fun (x : Int32) (u : Unit) => x = nI (g 0 0 + 1)) (fun u => y_ws q cI cL (y_mk g r 3) (x_sv v 2 (g 0 0) y) (y_mkb g b r)) := by
  refine z_mi (own := R_Y) (by decide) rfl (Nat.le_of_ble_eq_true rfl) ?_
  intro p e s m args below meth c A ls C P hret hlk hl
  have hx := C.1
  have hb := C.2.1
  have hf : 0 ≤ (z_rm 3).cells ∧ 0 ≤ (z_rm 3).slots := ⟨Nat.zero_le _, Nat.zero_le _⟩
  have hl : lv_has ls 3 [(0, .ref (q 0)), (1, .int (nI (r))), (2, .int (y))] := hl
  refine lv_aload_n hx hb d_Y_count_0 rfl (lv_at hl 0 rfl) ?_
  refine lv_iload_n hx hb d_Y_count_1 rfl (lv_at hl 1 rfl) ?_
  refine lv_iconst (v := nI 3) hx hb d_Y_count_2 rfl ?_
  refine lv_iload_n hx hb d_Y_count_3 rfl (lv_at hl 2 rfl) ?_
  refine z_calli C P L_Y_make rfl rfl (c_Y_make (sn := 3) hr (by decide) hm hB) ⟨by decide, by decide⟩ rfl hl.1 (Nat.le_of_ble_eq_true rfl) hf d_Y_count_4 rfl (fun x9 _ H locs hx9 P => ?_)
  exact z_ri C _ () hx9 P hret hlk d_Y_count_7
set_option maxHeartbeats 2000000 in
set_option maxRecDepth 20000 in
theorem c_Y_reset_bad {l : Launch} {D : va_G} {cI cL : ClassId} {q : Nat → Nat} {g : Nat → Nat → Nat} {v : Nat → Nat → Int32} {b : Nat → Nat → Int64} {x : Int32} (h : ¬ x_ok x ∨ ¬ g 0 0 < 48) (hB : x_Bd g) : z_Mi l y_Y_reset b_Y_reset 2 3 D cI cL (y_ws q cI cL g v b) [.ref (q 0), .int (x)] (fun (x : Int32) (u : Unit) => x = -1) (fun u => y_ws q cI cL g v b) := by
  refine z_mi (own := R_Y) (by decide) rfl (Nat.le_of_ble_eq_true rfl) ?_
  intro p e s m args below meth c A ls C P hret hlk hl
  have hx := C.1
  have hb := C.2.1
  have hf : 0 ≤ (z_rm 3).cells ∧ 0 ≤ (z_rm 3).slots := ⟨Nat.zero_le _, Nat.zero_le _⟩
  have hl : lv_has ls 2 [(0, .ref (q 0)), (1, .int (x))] := hl
  refine lv_aload_n hx hb d_Y_reset_0 rfl (lv_at hl 0 rfl) ?_
  refine lv_iload_n hx hb d_Y_reset_1 rfl (lv_at hl 1 rfl) ?_
  refine lv_iconst (v := nI 4) hx hb d_Y_reset_2 rfl ?_
  refine lv_iconst (v := nI 0) hx hb d_Y_reset_3 rfl ?_
  refine z_calli C P L_Y_make rfl rfl (c_Y_make_bad h hB) ⟨by decide, by decide⟩ rfl hl.1 (Nat.le_of_ble_eq_true rfl) hf d_Y_reset_4 rfl (fun x9 _ H locs hx9 P => ?_)
  exact z_ri C _ () hx9 P hret hlk d_Y_reset_7
set_option maxHeartbeats 2000000 in
set_option maxRecDepth 20000 in
theorem c_Y_reset {l : Launch} {D : va_G} {cI cL : ClassId} {q : Nat → Nat} {g : Nat → Nat → Nat} {v : Nat → Nat → Int32} {b : Nat → Nat → Int64} {r : Nat} (hr : r < 3) (hm : g 0 0 < 48) (hB : x_Bd g) : z_Mi l y_Y_reset b_Y_reset 2 3 D cI cL (y_ws q cI cL g v b) [.ref (q 0), .int (nI (r))] (fun (x : Int32) (u : Unit) => x = nI (g 0 0 + 1)) (fun u => y_ws q cI cL (y_mk g r 4) (x_sv v 2 (g 0 0) (nI 0)) (y_mkb g b r)) := by
  refine z_mi (own := R_Y) (by decide) rfl (Nat.le_of_ble_eq_true rfl) ?_
  intro p e s m args below meth c A ls C P hret hlk hl
  have hx := C.1
  have hb := C.2.1
  have hf : 0 ≤ (z_rm 3).cells ∧ 0 ≤ (z_rm 3).slots := ⟨Nat.zero_le _, Nat.zero_le _⟩
  have hl : lv_has ls 2 [(0, .ref (q 0)), (1, .int (nI (r)))] := hl
  refine lv_aload_n hx hb d_Y_reset_0 rfl (lv_at hl 0 rfl) ?_
  refine lv_iload_n hx hb d_Y_reset_1 rfl (lv_at hl 1 rfl) ?_
  refine lv_iconst (v := nI 4) hx hb d_Y_reset_2 rfl ?_
  refine lv_iconst (v := nI 0) hx hb d_Y_reset_3 rfl ?_
  refine z_calli C P L_Y_make rfl rfl (c_Y_make (sn := 4) hr (by decide) hm hB) ⟨by decide, by decide⟩ rfl hl.1 (Nat.le_of_ble_eq_true rfl) hf d_Y_reset_4 rfl (fun x9 _ H locs hx9 P => ?_)
  exact z_ri C _ () hx9 P hret hlk d_Y_reset_7
set_option maxHeartbeats 2000000 in
set_option maxRecDepth 20000 in
theorem c_Y_sync_bad {l : Launch} {D : va_G} {cI cL : ClassId} {q : Nat → Nat} {g : Nat → Nat → Nat} {v : Nat → Nat → Int32} {b : Nat → Nat → Int64} {x y : Int32} (h : ¬ (x_ok x ∧ x_ok y)) (hB : x_Bd g) : z_Mi l y_Y_sync b_Y_sync 3 2 D cI cL (y_ws q cI cL g v b) [.ref (q 0), .int (x), .int (y)] (fun (x : Int32) (u : Unit) => x = -1) (fun u => y_ws q cI cL g v b) := by
  refine z_mi (own := R_Y) (by decide) rfl (Nat.le_of_ble_eq_true rfl) ?_
  intro p e s m args below meth c A ls C P hret hlk hl
  have hx := C.1
  have hb := C.2.1
  have hf : 0 ≤ (z_rm 2).cells ∧ 0 ≤ (z_rm 2).slots := ⟨Nat.zero_le _, Nat.zero_le _⟩
  have hl : lv_has ls 3 [(0, .ref (q 0)), (1, .int (x)), (2, .int (y))] := hl
  by_cases hx1 : x_ok x
  · refine lv_iload_n hx hb d_Y_sync_0 rfl (lv_at hl 1 rfl) ?_
    refine z_calls C.U L_Y_bad (c_Y_bad_ok hx1) ⟨by decide, by decide⟩ rfl hl.1 (Nat.le_of_ble_eq_true rfl) hf d_Y_sync_1 rfl ?_
    refine n_ifne (tgt := 14) hx hb (by first | omega | exact Nat.le_trans (hB _ _) (by decide)) d_Y_sync_4 (by decide) (fun hz => absurd hz (by decide)) (fun c4 => ?_)
    refine lv_iload_n hx hb d_Y_sync_7 rfl (lv_at hl 2 rfl) ?_
    refine z_calls C.U L_Y_bad (c_Y_bad_bad (fun hz => h ⟨hx1, hz⟩)) ⟨by decide, by decide⟩ rfl hl.1 (Nat.le_of_ble_eq_true rfl) hf d_Y_sync_8 rfl ?_
    refine n_ifeq (tgt := 16) hx hb (by first | omega | exact Nat.le_trans (hB _ _) (by decide)) d_Y_sync_11 (by decide) (fun hz => absurd hz (by decide)) (fun c11 => ?_)
    refine lv_iconst (v := (-1)) hx hb d_Y_sync_14 rfl ?_
    exact z_ri C _ () rfl P hret hlk d_Y_sync_15
  · refine lv_iload_n hx hb d_Y_sync_0 rfl (lv_at hl 1 rfl) ?_
    refine z_calls C.U L_Y_bad (c_Y_bad_bad hx1) ⟨by decide, by decide⟩ rfl hl.1 (Nat.le_of_ble_eq_true rfl) hf d_Y_sync_1 rfl ?_
    refine n_ifne (tgt := 14) hx hb (by first | omega | exact Nat.le_trans (hB _ _) (by decide)) d_Y_sync_4 (by decide) (fun c4 => ?_) (fun hz => absurd hz (by decide))
    refine lv_iconst (v := (-1)) hx hb d_Y_sync_14 rfl ?_
    exact z_ri C _ () rfl P hret hlk d_Y_sync_15
set_option maxHeartbeats 2000000 in
set_option maxRecDepth 20000 in
theorem c_Y_deliver_bad {l : Launch} {D : va_G} {cI cL : ClassId} {q : Nat → Nat} {g : Nat → Nat → Nat} {v : Nat → Nat → Int32} {b : Nat → Nat → Int64} {x y : Int32} (h : ¬ (x_ok x ∧ x_ok y)) (hB : x_Bd g) : z_Mi l y_Y_deliver b_Y_deliver 4 2 D cI cL (y_ws q cI cL g v b) [.ref (q 0), .int (x), .int (y)] (fun (x : Int32) (u : Unit) => x = -1) (fun u => y_ws q cI cL g v b) := by
  refine z_mi (own := R_Y) (by decide) rfl (Nat.le_of_ble_eq_true rfl) ?_
  intro p e s m args below meth c A ls C P hret hlk hl
  have hx := C.1
  have hb := C.2.1
  have hf : 0 ≤ (z_rm 2).cells ∧ 0 ≤ (z_rm 2).slots := ⟨Nat.zero_le _, Nat.zero_le _⟩
  have hl : lv_has ls 4 [(0, .ref (q 0)), (1, .int (x)), (2, .int (y))] := hl
  by_cases hx1 : x_ok x
  · refine lv_iload_n hx hb d_Y_deliver_0 rfl (lv_at hl 1 rfl) ?_
    refine z_calls C.U L_Y_bad (c_Y_bad_ok hx1) ⟨by decide, by decide⟩ rfl hl.1 (Nat.le_of_ble_eq_true rfl) hf d_Y_deliver_1 rfl ?_
    refine n_ifne (tgt := 14) hx hb (by first | omega | exact Nat.le_trans (hB _ _) (by decide)) d_Y_deliver_4 (by decide) (fun hz => absurd hz (by decide)) (fun c4 => ?_)
    refine lv_iload_n hx hb d_Y_deliver_7 rfl (lv_at hl 2 rfl) ?_
    refine z_calls C.U L_Y_bad (c_Y_bad_bad (fun hz => h ⟨hx1, hz⟩)) ⟨by decide, by decide⟩ rfl hl.1 (Nat.le_of_ble_eq_true rfl) hf d_Y_deliver_8 rfl ?_
    refine n_ifeq (tgt := 16) hx hb (by first | omega | exact Nat.le_trans (hB _ _) (by decide)) d_Y_deliver_11 (by decide) (fun hz => absurd hz (by decide)) (fun c11 => ?_)
    refine lv_iconst (v := (-1)) hx hb d_Y_deliver_14 rfl ?_
    exact z_ri C _ () rfl P hret hlk d_Y_deliver_15
  · refine lv_iload_n hx hb d_Y_deliver_0 rfl (lv_at hl 1 rfl) ?_
    refine z_calls C.U L_Y_bad (c_Y_bad_bad hx1) ⟨by decide, by decide⟩ rfl hl.1 (Nat.le_of_ble_eq_true rfl) hf d_Y_deliver_1 rfl ?_
    refine n_ifne (tgt := 14) hx hb (by first | omega | exact Nat.le_trans (hB _ _) (by decide)) d_Y_deliver_4 (by decide) (fun c4 => ?_) (fun hz => absurd hz (by decide))
    refine lv_iconst (v := (-1)) hx hb d_Y_deliver_14 rfl ?_
    exact z_ri C _ () rfl P hret hlk d_Y_deliver_15
set_option maxHeartbeats 2000000 in
set_option maxRecDepth 20000 in
theorem c_Y_sync {l : Launch} {D : va_G} {cI cL : ClassId} {q : Nat → Nat} {g : Nat → Nat → Nat} {v : Nat → Nat → Int32} {b : Nat → Nat → Int64} {f t : Nat} (hft : f < 3) (htt : t < 3) : z_Mi l y_Y_sync b_Y_sync 3 2 D cI cL (y_ws q cI cL g v b) [.ref (q 0), .int (nI (f)), .int (nI (t))] (fun (x : Int32) (u : Unit) => x = nI 0) (fun u => y_ws q cI cL g v (x_sb b 5 t (b 5 t ||| b 5 f))) := by
  refine z_mi (own := R_Y) (by decide) rfl (Nat.le_of_ble_eq_true rfl) ?_
  intro p e s m args below meth c A ls C P hret hlk hl
  have hx := C.1
  have hb := C.2.1
  have hf : 0 ≤ (z_rm 2).cells ∧ 0 ≤ (z_rm 2).slots := ⟨Nat.zero_le _, Nat.zero_le _⟩
  have hl : lv_has ls 3 [(0, .ref (q 0)), (1, .int (nI (f))), (2, .int (nI (t)))] := hl
  refine lv_iload_n hx hb d_Y_sync_0 rfl (lv_at hl 1 rfl) ?_
  refine z_calls C.U L_Y_bad (c_Y_bad_ok (x_ok_nI hft)) ⟨by decide, by decide⟩ rfl hl.1 (Nat.le_of_ble_eq_true rfl) hf d_Y_sync_1 rfl ?_
  refine n_ifne (tgt := 14) hx hb (by first | omega | exact Nat.le_trans (hB _ _) (by decide)) d_Y_sync_4 (by decide) (fun hz => absurd hz (by decide)) (fun c4 => ?_)
  refine lv_iload_n hx hb d_Y_sync_7 rfl (lv_at hl 2 rfl) ?_
  refine z_calls C.U L_Y_bad (c_Y_bad_ok (x_ok_nI htt)) ⟨by decide, by decide⟩ rfl hl.1 (Nat.le_of_ble_eq_true rfl) hf d_Y_sync_8 rfl ?_
  refine n_ifeq (tgt := 16) hx hb (by first | omega | exact Nat.le_trans (hB _ _) (by decide)) d_Y_sync_11 (by decide) (fun c11 => ?_) (fun hz => absurd hz (by decide))
  refine lv_aload_n hx hb d_Y_sync_16 rfl (lv_at hl 0 rfl) ?_
  refine y_g5 C P d_Y_sync_17 ?_
  refine lv_iload_n hx hb d_Y_sync_20 rfl (lv_at hl 2 rfl) ?_
  refine lv_dup2_11 hx hb d_Y_sync_21 rfl rfl ?_
  refine y_l5 C P (by omega) d_Y_sync_22 ?_
  refine lv_aload_n hx hb d_Y_sync_23 rfl (lv_at hl 0 rfl) ?_
  refine y_g5 C P d_Y_sync_24 ?_
  refine lv_iload_n hx hb d_Y_sync_27 rfl (lv_at hl 1 rfl) ?_
  refine y_l5 C P (by omega) d_Y_sync_28 ?_
  refine lv_lor hx hb d_Y_sync_29 ?_
  refine y_s5 C P (x := (b 5 t) ||| (b 5 f)) (by omega) d_Y_sync_30 (fun H locs P => ?_)
  refine lv_iconst (v := nI 0) hx hb d_Y_sync_31 rfl ?_
  exact z_ri C _ () rfl P hret hlk d_Y_sync_32
set_option maxHeartbeats 2000000 in
set_option maxRecDepth 20000 in
theorem c_Y_deliver {l : Launch} {D : va_G} {cI cL : ClassId} {q : Nat → Nat} {g : Nat → Nat → Nat} {v : Nat → Nat → Int32} {b : Nat → Nat → Int64} {f t : Nat} (hft : f < 3) (htt : t < 3) (hB : x_Bd g) : z_Mi l y_Y_deliver b_Y_deliver 4 2 D cI cL (y_ws q cI cL g v b) [.ref (q 0), .int (nI (f)), .int (nI (t))] (fun (x : Int32) (u : Nat → Nat → Int64) => y_dlv g b f t x u) (fun u => y_ws q cI cL g v u) := by
  refine z_mi (own := R_Y) (by decide) rfl (Nat.le_of_ble_eq_true rfl) ?_
  intro p e s m args below meth c A ls C P hret hlk hl
  have hx := C.1
  have hb := C.2.1
  have hf : 0 ≤ (z_rm 2).cells ∧ 0 ≤ (z_rm 2).slots := ⟨Nat.zero_le _, Nat.zero_le _⟩
  have hl : lv_has ls 4 [(0, .ref (q 0)), (1, .int (nI (f))), (2, .int (nI (t)))] := hl
  have h00 := hB 0 0
  have loop : ∀ n i, i + n = g 0 0 → (∀ k, k < i → g 3 k = f → tb (b 5 t) k = true) → ∀ ls, lv_has ls 4 [(0, .ref (q 0)), (1, .int (nI (f))), (2, .int (nI (t))), (3, .int (nI (i)))] → W p l e (z_rm 2) s m args below meth c s.heap [] 0 0 (MQ below (z_Qi D cI cL (fun (x : Int32) (u : Nat → Nat → Int64) => y_dlv g b f t x u) (fun u => y_ws q cI cL g v u) A) args s 0 0 A) (F0 m 18 ls []) := by
    intro n
    induction n with
    | zero =>
      intro i ho hi ls hl
      obtain rfl : i = g 0 0 := by omega
      refine lv_iload_n hx hb d_Y_deliver_18 rfl (lv_at hl 3 rfl) ?_
      refine lv_aload_n hx hb d_Y_deliver_19 rfl (lv_at hl 0 rfl) ?_
      refine y_g0 C P d_Y_deliver_20 ?_
      refine n_ge (tgt := 96) hx hb (by first | omega | exact Nat.le_trans (hB _ _) (by decide)) (by first | omega | exact Nat.le_trans (hB _ _) (by decide)) d_Y_deliver_23 (by decide) (fun c23 => ?_) (fun hz => absurd hz (by omega))
      refine lv_iconst (v := (-1)) hx hb d_Y_deliver_96 rfl ?_
      exact z_ri C _ _ (Or.inr ⟨hi, rfl, rfl⟩) P hret hlk d_Y_deliver_97
    | succ n ih =>
      intro i ho hi ls hl
      refine lv_iload_n hx hb d_Y_deliver_18 rfl (lv_at hl 3 rfl) ?_
      refine lv_aload_n hx hb d_Y_deliver_19 rfl (lv_at hl 0 rfl) ?_
      refine y_g0 C P d_Y_deliver_20 ?_
      refine n_ge (tgt := 96) hx hb (by first | omega | exact Nat.le_trans (hB _ _) (by decide)) (by first | omega | exact Nat.le_trans (hB _ _) (by decide)) d_Y_deliver_23 (by decide) (fun hz => absurd hz (by omega)) (fun c23 => ?_)
      refine lv_aload_n hx hb d_Y_deliver_26 rfl (lv_at hl 0 rfl) ?_
      refine y_g3 C P d_Y_deliver_27 ?_
      refine lv_iload_n hx hb d_Y_deliver_30 rfl (lv_at hl 3 rfl) ?_
      refine y_l3 C P (by omega) d_Y_deliver_31 ?_
      refine lv_iload_n hx hb d_Y_deliver_32 rfl (lv_at hl 1 rfl) ?_
      refine n_ne (tgt := 90) hx hb (by first | omega | exact Nat.le_trans (hB _ _) (by decide)) (by first | omega | exact Nat.le_trans (hB _ _) (by decide)) d_Y_deliver_33 (by decide) (fun c33 => ?_) (fun c33 => ?_)
      · refine lv_iinc (v := nI (i + 1)) (lv' := [(3, .int (nI (i + 1))), (0, .ref (q 0)), (1, .int (nI (f))), (2, .int (nI (t)))]) hx hb d_Y_deliver_90 hl (k := 3) rfl (nI_inc1 _) (by decide) rfl (fun ls hl => ?_)
        refine lv_goto (tgt := 18) hx hb d_Y_deliver_93 (by decide) ?_
        exact ih (i + 1) (by omega) (lt_s hi (fun hz => absurd hz c33)) _ (lv_sub hl [1, 2, 3, 0] rfl)
      · refine lv_aload_n hx hb d_Y_deliver_36 rfl (lv_at hl 0 rfl) ?_
        refine y_g5 C P d_Y_deliver_37 ?_
        refine lv_iload_n hx hb d_Y_deliver_40 rfl (lv_at hl 2 rfl) ?_
        refine y_l5 C P (by omega) d_Y_deliver_41 ?_
        refine lv_iload_n hx hb d_Y_deliver_42 rfl (lv_at hl 3 rfl) ?_
        refine y_bit0 (tgt := 90) hx hb (by omega) d_Y_deliver_43 d_Y_deliver_44 d_Y_deliver_45 d_Y_deliver_46 d_Y_deliver_47 d_Y_deliver_48 (by decide) (fun c43 => ?_) (fun c43 => ?_)
        · refine lv_iinc (v := nI (i + 1)) (lv' := [(3, .int (nI (i + 1))), (0, .ref (q 0)), (1, .int (nI (f))), (2, .int (nI (t)))]) hx hb d_Y_deliver_90 hl (k := 3) rfl (nI_inc1 _) (by decide) rfl (fun ls hl => ?_)
          refine lv_goto (tgt := 18) hx hb d_Y_deliver_93 (by decide) ?_
          exact ih (i + 1) (by omega) (lt_s hi (fun _ => c43)) _ (lv_sub hl [1, 2, 3, 0] rfl)
        · refine lv_aload_n hx hb d_Y_deliver_51 rfl (lv_at hl 0 rfl) ?_
          refine y_g4 C P d_Y_deliver_52 ?_
          refine lv_iload_n hx hb d_Y_deliver_55 rfl (lv_at hl 3 rfl) ?_
          refine y_l4 C P (by omega) d_Y_deliver_56 ?_
          refine lv_aload_n hx hb d_Y_deliver_57 rfl (lv_at hl 0 rfl) ?_
          refine y_g5 C P d_Y_deliver_58 ?_
          refine lv_iload_n hx hb d_Y_deliver_61 rfl (lv_at hl 2 rfl) ?_
          refine y_l5 C P (by omega) d_Y_deliver_62 ?_
          refine lv_ldc2 (v := -1) hx hb C.2.2.2.1 (C.2.2.2.2.1 _ kl_Y_38) d_Y_deliver_63 ?_
          refine lv_lxor hx hb d_Y_deliver_66 ?_
          refine lv_land hx hb d_Y_deliver_67 ?_
          refine lv_lconst (v := 0) hx hb d_Y_deliver_68 rfl ?_
          refine y_lcmpeq (tgt := 76) hx hb d_Y_deliver_69 d_Y_deliver_70 (by decide) (fun c69 => ?_) (fun c69 => ?_)
          · refine lv_aload_n hx hb d_Y_deliver_76 rfl (lv_at hl 0 rfl) ?_
            refine y_g5 C P d_Y_deliver_77 ?_
            refine lv_iload_n hx hb d_Y_deliver_80 rfl (lv_at hl 2 rfl) ?_
            refine lv_dup2_11 hx hb d_Y_deliver_81 rfl rfl ?_
            refine y_l5 C P (by omega) d_Y_deliver_82 ?_
            refine lv_lconst (v := 1) hx hb d_Y_deliver_83 rfl ?_
            refine lv_iload_n hx hb d_Y_deliver_84 rfl (lv_at hl 3 rfl) ?_
            refine lv_lshl hx hb d_Y_deliver_85 rfl ?_
            refine lv_lor hx hb d_Y_deliver_86 ?_
            refine y_s5 C P (x := (b 5 t) ||| (((1 : Int64)) <<< ((nI i).toInt64 &&& 63))) (by omega) d_Y_deliver_87 (fun H locs P => ?_)
            refine lv_iconst (v := nI 0) hx hb d_Y_deliver_88 rfl ?_
            exact z_ri C _ _ (Or.inl ⟨i, by omega, c33, c43, hi, Or.inl ⟨c69, rfl, rfl⟩⟩) P hret hlk d_Y_deliver_89
          · refine lv_bipush (v := (-2)) hx hb d_Y_deliver_73 rfl ?_
            exact z_ri C _ _ (Or.inl ⟨i, by omega, c33, c43, hi, Or.inr ⟨c69, rfl, rfl⟩⟩) P hret hlk d_Y_deliver_75
  refine lv_iload_n hx hb d_Y_deliver_0 rfl (lv_at hl 1 rfl) ?_
  refine z_calls C.U L_Y_bad (c_Y_bad_ok (x_ok_nI hft)) ⟨by decide, by decide⟩ rfl hl.1 (Nat.le_of_ble_eq_true rfl) hf d_Y_deliver_1 rfl ?_
  refine n_ifne (tgt := 14) hx hb (by first | omega | exact Nat.le_trans (hB _ _) (by decide)) d_Y_deliver_4 (by decide) (fun hz => absurd hz (by decide)) (fun c4 => ?_)
  refine lv_iload_n hx hb d_Y_deliver_7 rfl (lv_at hl 2 rfl) ?_
  refine z_calls C.U L_Y_bad (c_Y_bad_ok (x_ok_nI htt)) ⟨by decide, by decide⟩ rfl hl.1 (Nat.le_of_ble_eq_true rfl) hf d_Y_deliver_8 rfl ?_
  refine n_ifeq (tgt := 16) hx hb (by first | omega | exact Nat.le_trans (hB _ _) (by decide)) d_Y_deliver_11 (by decide) (fun c11 => ?_) (fun hz => absurd hz (by decide))
  refine lv_iconst (v := nI 0) hx hb d_Y_deliver_16 rfl ?_
  refine lv_istore_n (lv' := [(3, .int (nI (0))), (0, .ref (q 0)), (1, .int (nI (f))), (2, .int (nI (t)))]) hx hb d_Y_deliver_17 rfl hl (by decide) rfl (fun ls hl => ?_)
  exact loop (g 0 0) 0 (by omega) lt_0 _ (lv_sub hl [1, 2, 3, 0] rfl)
set_option maxHeartbeats 2000000 in
set_option maxRecDepth 20000 in
theorem c_Y_stands {l : Launch} {D : va_G} {cI cL : ClassId} {q : Nat → Nat} {g : Nat → Nat → Nat} {v : Nat → Nat → Int32} {b : Nat → Nat → Int64} {r i : Nat} (hr : r < 3) (hi48 : i < 48) (hB : x_Bd g) : z_Mr l y_Y_stands b_Y_stands 5 (some .boolean) 0 D cI cL (y_ws q cI cL g v b) [.ref (q 0), .int (nI (r)), .int (nI (i))] (nI (bI (y_st g v b r i))) := by
  refine z_mr (own := R_Y) (by decide) rfl (Nat.le_of_ble_eq_true rfl) ?_
  intro p e s m args below meth c A ls C P hret hlk hl
  have hx := C.1
  have hb := C.2.1
  have hf : 0 ≤ (z_rm 0).cells ∧ 0 ≤ (z_rm 0).slots := ⟨Nat.zero_le _, Nat.zero_le _⟩
  have hl : lv_has ls 5 [(0, .ref (q 0)), (1, .int (nI (r))), (2, .int (nI (i)))] := hl
  have h00 := hB 0 0
  have rt : ∀ P : Prop, narrow .boolean (.int (nI (bI P))) = .int (nI (bI P)) := by
    intro P
    by_cases h : P
    · rw [bI_t h]; rfl
    · rw [bI_f h]; rfl
  have loop : ∀ n d, d + n = g 0 0 → (tb (b 5 r) i = true ∧ ∀ k, k < d → ¬ y_kill g v b r i k) → ∀ ls, lv_has ls 5 [(0, .ref (q 0)), (1, .int (nI (r))), (2, .int (nI (i))), (3, .int (nI (d)))] → W p l e (z_rm 0) s m args below meth c s.heap [] 0 0 (MQ below (QcRead (nI (bI (y_st g v b r i)))) args s 0 0 (fun _ => False)) (F0 m 19 ls []) := by
    intro n
    induction n with
    | zero =>
      intro d hoi hi ls hl
      obtain rfl : d = g 0 0 := by omega
      refine lv_iload_n hx hb d_Y_stands_19 rfl (lv_at hl 3 rfl) ?_
      refine lv_aload_n hx hb d_Y_stands_20 rfl (lv_at hl 0 rfl) ?_
      refine y_g0 C P d_Y_stands_21 ?_
      refine n_ge (tgt := 155) hx hb (by first | omega | exact Nat.le_trans (hB _ _) (by decide)) (by first | omega | exact Nat.le_trans (hB _ _) (by decide)) d_Y_stands_24 (by decide) (fun c24 => ?_) (fun hz => absurd hz (by omega))
      refine lv_iconst (v := nI 1) hx hb d_Y_stands_155 rfl ?_
      refine n_top (y := nI (bI (y_st g v b r i))) (by rw [bI_t (show y_st g v b r i from hi)]) ?_
      exact z_rr C.U hret (rt _) hlk d_Y_stands_156
    | succ n ih =>
      intro d hoi hi ls hl
      refine lv_iload_n hx hb d_Y_stands_19 rfl (lv_at hl 3 rfl) ?_
      refine lv_aload_n hx hb d_Y_stands_20 rfl (lv_at hl 0 rfl) ?_
      refine y_g0 C P d_Y_stands_21 ?_
      refine n_ge (tgt := 155) hx hb (by first | omega | exact Nat.le_trans (hB _ _) (by decide)) (by first | omega | exact Nat.le_trans (hB _ _) (by decide)) d_Y_stands_24 (by decide) (fun hz => absurd hz (by omega)) (fun c24 => ?_)
      refine lv_aload_n hx hb d_Y_stands_27 rfl (lv_at hl 0 rfl) ?_
      refine y_g5 C P d_Y_stands_28 ?_
      refine lv_iload_n hx hb d_Y_stands_31 rfl (lv_at hl 1 rfl) ?_
      refine y_l5 C P (by omega) d_Y_stands_32 ?_
      refine lv_iload_n hx hb d_Y_stands_33 rfl (lv_at hl 3 rfl) ?_
      refine y_bit1 (tgt := 61) hx hb (by omega) d_Y_stands_34 d_Y_stands_35 d_Y_stands_36 d_Y_stands_37 d_Y_stands_38 d_Y_stands_39 (by decide) (fun c34 => ?_) (fun c34 => ?_)
      · refine lv_iconst (v := nI 0) hx hb d_Y_stands_61 rfl ?_
        refine lv_istore (lv' := [(4, .int (nI (0))), (0, .ref (q 0)), (1, .int (nI (r))), (2, .int (nI (i))), (3, .int (nI (d)))]) hx hb d_Y_stands_62 hl (by decide) rfl (fun ls hl => ?_)
        refine lv_iload hx hb d_Y_stands_64 (lv_at hl 0 rfl) ?_
        refine n_ifeq (tgt := 81) hx hb (by first | omega | exact Nat.le_trans (hB _ _) (by decide)) d_Y_stands_66 (by decide) (fun c66 => ?_) (fun hz => absurd hz (by decide))
        refine lv_iload hx hb d_Y_stands_81 (lv_at hl 0 rfl) ?_
        refine n_ifeq (tgt := 122) hx hb (by first | omega | exact Nat.le_trans (hB _ _) (by decide)) d_Y_stands_83 (by decide) (fun c83 => ?_) (fun hz => absurd hz (by decide))
        refine lv_iload hx hb d_Y_stands_122 (lv_at hl 0 rfl) ?_
        refine n_ifeq (tgt := 149) hx hb (by first | omega | exact Nat.le_trans (hB _ _) (by decide)) d_Y_stands_124 (by decide) (fun c124 => ?_) (fun hz => absurd hz (by decide))
        refine lv_iinc (v := nI (d + 1)) (lv' := [(3, .int (nI (d + 1))), (4, .int (nI (0))), (0, .ref (q 0)), (1, .int (nI (r))), (2, .int (nI (i)))]) hx hb d_Y_stands_149 hl (k := 4) rfl (nI_inc1 _) (by decide) rfl (fun ls hl => ?_)
        refine lv_goto (tgt := 19) hx hb d_Y_stands_152 (by decide) ?_
        exact ih (d + 1) (by omega) ⟨hi.1, lt_s hi.2 (fun hz => absurd (hz.1.symm.trans c34) (by decide))⟩ _ (lv_sub hl [2, 3, 4, 0] rfl)
      · refine lv_aload_n hx hb d_Y_stands_42 rfl (lv_at hl 0 rfl) ?_
        refine y_g4 C P d_Y_stands_43 ?_
        refine lv_iload_n hx hb d_Y_stands_46 rfl (lv_at hl 3 rfl) ?_
        refine y_l4 C P (by omega) d_Y_stands_47 ?_
        refine lv_iload_n hx hb d_Y_stands_48 rfl (lv_at hl 2 rfl) ?_
        refine y_bit1 (tgt := 61) hx hb (by omega) d_Y_stands_49 d_Y_stands_50 d_Y_stands_51 d_Y_stands_52 d_Y_stands_53 d_Y_stands_54 (by decide) (fun c49 => ?_) (fun c49 => ?_)
        · refine lv_iconst (v := nI 0) hx hb d_Y_stands_61 rfl ?_
          refine lv_istore (lv' := [(4, .int (nI (0))), (0, .ref (q 0)), (1, .int (nI (r))), (2, .int (nI (i))), (3, .int (nI (d)))]) hx hb d_Y_stands_62 hl (by decide) rfl (fun ls hl => ?_)
          refine lv_iload hx hb d_Y_stands_64 (lv_at hl 0 rfl) ?_
          refine n_ifeq (tgt := 81) hx hb (by first | omega | exact Nat.le_trans (hB _ _) (by decide)) d_Y_stands_66 (by decide) (fun c66 => ?_) (fun hz => absurd hz (by decide))
          refine lv_iload hx hb d_Y_stands_81 (lv_at hl 0 rfl) ?_
          refine n_ifeq (tgt := 122) hx hb (by first | omega | exact Nat.le_trans (hB _ _) (by decide)) d_Y_stands_83 (by decide) (fun c83 => ?_) (fun hz => absurd hz (by decide))
          refine lv_iload hx hb d_Y_stands_122 (lv_at hl 0 rfl) ?_
          refine n_ifeq (tgt := 149) hx hb (by first | omega | exact Nat.le_trans (hB _ _) (by decide)) d_Y_stands_124 (by decide) (fun c124 => ?_) (fun hz => absurd hz (by decide))
          refine lv_iinc (v := nI (d + 1)) (lv' := [(3, .int (nI (d + 1))), (4, .int (nI (0))), (0, .ref (q 0)), (1, .int (nI (r))), (2, .int (nI (i)))]) hx hb d_Y_stands_149 hl (k := 4) rfl (nI_inc1 _) (by decide) rfl (fun ls hl => ?_)
          refine lv_goto (tgt := 19) hx hb d_Y_stands_152 (by decide) ?_
          exact ih (d + 1) (by omega) ⟨hi.1, lt_s hi.2 (fun hz => absurd (hz.2.1.symm.trans c49) (by decide))⟩ _ (lv_sub hl [2, 3, 4, 0] rfl)
        · refine lv_iconst (v := nI 1) hx hb d_Y_stands_57 rfl ?_
          refine lv_goto (tgt := 62) hx hb d_Y_stands_58 (by decide) ?_
          refine lv_istore (lv' := [(4, .int (nI (1))), (0, .ref (q 0)), (1, .int (nI (r))), (2, .int (nI (i))), (3, .int (nI (d)))]) hx hb d_Y_stands_62 hl (by decide) rfl (fun ls hl => ?_)
          refine lv_iload hx hb d_Y_stands_64 (lv_at hl 0 rfl) ?_
          refine n_ifeq (tgt := 81) hx hb (by first | omega | exact Nat.le_trans (hB _ _) (by decide)) d_Y_stands_66 (by decide) (fun hz => absurd hz (by decide)) (fun c66 => ?_)
          refine lv_aload_n hx hb d_Y_stands_69 rfl (lv_at hl 1 rfl) ?_
          refine y_g1 C P d_Y_stands_70 ?_
          refine lv_iload_n hx hb d_Y_stands_73 rfl (lv_at hl 4 rfl) ?_
          refine y_l1 C P (by omega) d_Y_stands_74 ?_
          refine lv_iconst (v := nI 4) hx hb d_Y_stands_75 rfl ?_
          refine n_ne (tgt := 81) hx hb (by first | omega | exact Nat.le_trans (hB _ _) (by decide)) (by first | omega | exact Nat.le_trans (hB _ _) (by decide)) d_Y_stands_76 (by decide) (fun c76 => ?_) (fun c76 => ?_)
          · refine lv_iload hx hb d_Y_stands_81 (lv_at hl 0 rfl) ?_
            refine n_ifeq (tgt := 122) hx hb (by first | omega | exact Nat.le_trans (hB _ _) (by decide)) d_Y_stands_83 (by decide) (fun hz => absurd hz (by decide)) (fun c83 => ?_)
            refine lv_aload_n hx hb d_Y_stands_86 rfl (lv_at hl 1 rfl) ?_
            refine y_g1 C P d_Y_stands_87 ?_
            refine lv_iload_n hx hb d_Y_stands_90 rfl (lv_at hl 3 rfl) ?_
            refine y_l1 C P (by omega) d_Y_stands_91 ?_
            refine n_ifne (tgt := 122) hx hb (by first | omega | exact Nat.le_trans (hB _ _) (by decide)) d_Y_stands_92 (by decide) (fun c92 => ?_) (fun c92 => ?_)
            · refine lv_iload hx hb d_Y_stands_122 (lv_at hl 0 rfl) ?_
              refine n_ifeq (tgt := 149) hx hb (by first | omega | exact Nat.le_trans (hB _ _) (by decide)) d_Y_stands_124 (by decide) (fun hz => absurd hz (by decide)) (fun c124 => ?_)
              refine lv_aload_n hx hb d_Y_stands_127 rfl (lv_at hl 1 rfl) ?_
              refine y_g1 C P d_Y_stands_128 ?_
              refine lv_iload_n hx hb d_Y_stands_131 rfl (lv_at hl 3 rfl) ?_
              refine y_l1 C P (by omega) d_Y_stands_132 ?_
              refine lv_iconst (v := nI 2) hx hb d_Y_stands_133 rfl ?_
              refine n_ne (tgt := 149) hx hb (by first | omega | exact Nat.le_trans (hB _ _) (by decide)) (by first | omega | exact Nat.le_trans (hB _ _) (by decide)) d_Y_stands_134 (by decide) (fun c134 => ?_) (fun c134 => ?_)
              · refine lv_iinc (v := nI (d + 1)) (lv' := [(3, .int (nI (d + 1))), (4, .int (nI (1))), (0, .ref (q 0)), (1, .int (nI (r))), (2, .int (nI (i)))]) hx hb d_Y_stands_149 hl (k := 4) rfl (nI_inc1 _) (by decide) rfl (fun ls hl => ?_)
                refine lv_goto (tgt := 19) hx hb d_Y_stands_152 (by decide) ?_
                exact ih (d + 1) (by omega) ⟨hi.1, lt_s hi.2 (fun hz => by obtain ⟨-, -, hz⟩ := hz; rcases hz with hz | ⟨hz1, hz2, hz3⟩ | ⟨hz1, hz2⟩ <;> first | contradiction | omega)⟩ _ (lv_sub hl [2, 3, 4, 0] rfl)
              · refine lv_aload_n hx hb d_Y_stands_137 rfl (lv_at hl 1 rfl) ?_
                refine y_g1 C P d_Y_stands_138 ?_
                refine lv_iload_n hx hb d_Y_stands_141 rfl (lv_at hl 4 rfl) ?_
                refine y_l1 C P (by omega) d_Y_stands_142 ?_
                refine lv_iconst (v := nI 2) hx hb d_Y_stands_143 rfl ?_
                refine n_ne (tgt := 149) hx hb (by first | omega | exact Nat.le_trans (hB _ _) (by decide)) (by first | omega | exact Nat.le_trans (hB _ _) (by decide)) d_Y_stands_144 (by decide) (fun c144 => ?_) (fun c144 => ?_)
                · refine lv_iinc (v := nI (d + 1)) (lv' := [(3, .int (nI (d + 1))), (4, .int (nI (1))), (0, .ref (q 0)), (1, .int (nI (r))), (2, .int (nI (i)))]) hx hb d_Y_stands_149 hl (k := 4) rfl (nI_inc1 _) (by decide) rfl (fun ls hl => ?_)
                  refine lv_goto (tgt := 19) hx hb d_Y_stands_152 (by decide) ?_
                  exact ih (d + 1) (by omega) ⟨hi.1, lt_s hi.2 (fun hz => by obtain ⟨-, -, hz⟩ := hz; rcases hz with hz | ⟨hz1, hz2, hz3⟩ | ⟨hz1, hz2⟩ <;> first | contradiction | omega)⟩ _ (lv_sub hl [2, 3, 4, 0] rfl)
                · refine lv_iconst (v := nI 0) hx hb d_Y_stands_147 rfl ?_
                  refine n_top (y := nI (bI (y_st g v b r i))) (by rw [bI_f (fun hz => hz.2 d (by omega) ⟨c34, c49, Or.inr (Or.inr ⟨c134, c144⟩)⟩)]) ?_
                  exact z_rr C.U hret (rt _) hlk d_Y_stands_148
            · refine lv_aload_n hx hb d_Y_stands_95 rfl (lv_at hl 1 rfl) ?_
              refine y_g1 C P d_Y_stands_96 ?_
              refine lv_iload_n hx hb d_Y_stands_99 rfl (lv_at hl 4 rfl) ?_
              refine y_l1 C P (by omega) d_Y_stands_100 ?_
              refine lv_iconst (v := nI 1) hx hb d_Y_stands_101 rfl ?_
              refine n_ne (tgt := 122) hx hb (by first | omega | exact Nat.le_trans (hB _ _) (by decide)) (by first | omega | exact Nat.le_trans (hB _ _) (by decide)) d_Y_stands_102 (by decide) (fun c102 => ?_) (fun c102 => ?_)
              · refine lv_iload hx hb d_Y_stands_122 (lv_at hl 0 rfl) ?_
                refine n_ifeq (tgt := 149) hx hb (by first | omega | exact Nat.le_trans (hB _ _) (by decide)) d_Y_stands_124 (by decide) (fun hz => absurd hz (by decide)) (fun c124 => ?_)
                refine lv_aload_n hx hb d_Y_stands_127 rfl (lv_at hl 1 rfl) ?_
                refine y_g1 C P d_Y_stands_128 ?_
                refine lv_iload_n hx hb d_Y_stands_131 rfl (lv_at hl 3 rfl) ?_
                refine y_l1 C P (by omega) d_Y_stands_132 ?_
                refine lv_iconst (v := nI 2) hx hb d_Y_stands_133 rfl ?_
                refine n_ne (tgt := 149) hx hb (by first | omega | exact Nat.le_trans (hB _ _) (by decide)) (by first | omega | exact Nat.le_trans (hB _ _) (by decide)) d_Y_stands_134 (by decide) (fun c134 => ?_) (fun c134 => ?_)
                · refine lv_iinc (v := nI (d + 1)) (lv' := [(3, .int (nI (d + 1))), (4, .int (nI (1))), (0, .ref (q 0)), (1, .int (nI (r))), (2, .int (nI (i)))]) hx hb d_Y_stands_149 hl (k := 4) rfl (nI_inc1 _) (by decide) rfl (fun ls hl => ?_)
                  refine lv_goto (tgt := 19) hx hb d_Y_stands_152 (by decide) ?_
                  exact ih (d + 1) (by omega) ⟨hi.1, lt_s hi.2 (fun hz => by obtain ⟨-, -, hz⟩ := hz; rcases hz with hz | ⟨hz1, hz2, hz3⟩ | ⟨hz1, hz2⟩ <;> first | contradiction | omega)⟩ _ (lv_sub hl [2, 3, 4, 0] rfl)
                · refine lv_aload_n hx hb d_Y_stands_137 rfl (lv_at hl 1 rfl) ?_
                  refine y_g1 C P d_Y_stands_138 ?_
                  refine lv_iload_n hx hb d_Y_stands_141 rfl (lv_at hl 4 rfl) ?_
                  refine y_l1 C P (by omega) d_Y_stands_142 ?_
                  refine lv_iconst (v := nI 2) hx hb d_Y_stands_143 rfl ?_
                  refine n_ne (tgt := 149) hx hb (by first | omega | exact Nat.le_trans (hB _ _) (by decide)) (by first | omega | exact Nat.le_trans (hB _ _) (by decide)) d_Y_stands_144 (by decide) (fun c144 => ?_) (fun c144 => ?_)
                  · refine lv_iinc (v := nI (d + 1)) (lv' := [(3, .int (nI (d + 1))), (4, .int (nI (1))), (0, .ref (q 0)), (1, .int (nI (r))), (2, .int (nI (i)))]) hx hb d_Y_stands_149 hl (k := 4) rfl (nI_inc1 _) (by decide) rfl (fun ls hl => ?_)
                    refine lv_goto (tgt := 19) hx hb d_Y_stands_152 (by decide) ?_
                    exact ih (d + 1) (by omega) ⟨hi.1, lt_s hi.2 (fun hz => by obtain ⟨-, -, hz⟩ := hz; rcases hz with hz | ⟨hz1, hz2, hz3⟩ | ⟨hz1, hz2⟩ <;> first | contradiction | omega)⟩ _ (lv_sub hl [2, 3, 4, 0] rfl)
                  · refine lv_iconst (v := nI 0) hx hb d_Y_stands_147 rfl ?_
                    refine n_top (y := nI (bI (y_st g v b r i))) (by rw [bI_f (fun hz => hz.2 d (by omega) ⟨c34, c49, Or.inr (Or.inr ⟨c134, c144⟩)⟩)]) ?_
                    exact z_rr C.U hret (rt _) hlk d_Y_stands_148
              · refine lv_aload_n hx hb d_Y_stands_105 rfl (lv_at hl 1 rfl) ?_
                refine y_g2 C P d_Y_stands_106 ?_
                refine lv_iload_n hx hb d_Y_stands_109 rfl (lv_at hl 4 rfl) ?_
                refine y_l2 C P (by omega) d_Y_stands_110 ?_
                refine lv_aload_n hx hb d_Y_stands_111 rfl (lv_at hl 1 rfl) ?_
                refine y_g2 C P d_Y_stands_112 ?_
                refine lv_iload_n hx hb d_Y_stands_115 rfl (lv_at hl 3 rfl) ?_
                refine y_l2 C P (by omega) d_Y_stands_116 ?_
                refine lv_icmp_ne (tgt := 122) hx hb d_Y_stands_117 (by decide) (fun c117 => ?_) (fun c117 => ?_)
                · refine lv_iload hx hb d_Y_stands_122 (lv_at hl 0 rfl) ?_
                  refine n_ifeq (tgt := 149) hx hb (by first | omega | exact Nat.le_trans (hB _ _) (by decide)) d_Y_stands_124 (by decide) (fun hz => absurd hz (by decide)) (fun c124 => ?_)
                  refine lv_aload_n hx hb d_Y_stands_127 rfl (lv_at hl 1 rfl) ?_
                  refine y_g1 C P d_Y_stands_128 ?_
                  refine lv_iload_n hx hb d_Y_stands_131 rfl (lv_at hl 3 rfl) ?_
                  refine y_l1 C P (by omega) d_Y_stands_132 ?_
                  refine lv_iconst (v := nI 2) hx hb d_Y_stands_133 rfl ?_
                  refine n_ne (tgt := 149) hx hb (by first | omega | exact Nat.le_trans (hB _ _) (by decide)) (by first | omega | exact Nat.le_trans (hB _ _) (by decide)) d_Y_stands_134 (by decide) (fun c134 => ?_) (fun c134 => ?_)
                  · refine lv_iinc (v := nI (d + 1)) (lv' := [(3, .int (nI (d + 1))), (4, .int (nI (1))), (0, .ref (q 0)), (1, .int (nI (r))), (2, .int (nI (i)))]) hx hb d_Y_stands_149 hl (k := 4) rfl (nI_inc1 _) (by decide) rfl (fun ls hl => ?_)
                    refine lv_goto (tgt := 19) hx hb d_Y_stands_152 (by decide) ?_
                    exact ih (d + 1) (by omega) ⟨hi.1, lt_s hi.2 (fun hz => by obtain ⟨-, -, hz⟩ := hz; rcases hz with hz | ⟨hz1, hz2, hz3⟩ | ⟨hz1, hz2⟩ <;> first | contradiction | omega)⟩ _ (lv_sub hl [2, 3, 4, 0] rfl)
                  · refine lv_aload_n hx hb d_Y_stands_137 rfl (lv_at hl 1 rfl) ?_
                    refine y_g1 C P d_Y_stands_138 ?_
                    refine lv_iload_n hx hb d_Y_stands_141 rfl (lv_at hl 4 rfl) ?_
                    refine y_l1 C P (by omega) d_Y_stands_142 ?_
                    refine lv_iconst (v := nI 2) hx hb d_Y_stands_143 rfl ?_
                    refine n_ne (tgt := 149) hx hb (by first | omega | exact Nat.le_trans (hB _ _) (by decide)) (by first | omega | exact Nat.le_trans (hB _ _) (by decide)) d_Y_stands_144 (by decide) (fun c144 => ?_) (fun c144 => ?_)
                    · refine lv_iinc (v := nI (d + 1)) (lv' := [(3, .int (nI (d + 1))), (4, .int (nI (1))), (0, .ref (q 0)), (1, .int (nI (r))), (2, .int (nI (i)))]) hx hb d_Y_stands_149 hl (k := 4) rfl (nI_inc1 _) (by decide) rfl (fun ls hl => ?_)
                      refine lv_goto (tgt := 19) hx hb d_Y_stands_152 (by decide) ?_
                      exact ih (d + 1) (by omega) ⟨hi.1, lt_s hi.2 (fun hz => by obtain ⟨-, -, hz⟩ := hz; rcases hz with hz | ⟨hz1, hz2, hz3⟩ | ⟨hz1, hz2⟩ <;> first | contradiction | omega)⟩ _ (lv_sub hl [2, 3, 4, 0] rfl)
                    · refine lv_iconst (v := nI 0) hx hb d_Y_stands_147 rfl ?_
                      refine n_top (y := nI (bI (y_st g v b r i))) (by rw [bI_f (fun hz => hz.2 d (by omega) ⟨c34, c49, Or.inr (Or.inr ⟨c134, c144⟩)⟩)]) ?_
                      exact z_rr C.U hret (rt _) hlk d_Y_stands_148
                · refine lv_iconst (v := nI 0) hx hb d_Y_stands_120 rfl ?_
                  refine n_top (y := nI (bI (y_st g v b r i))) (by rw [bI_f (fun hz => hz.2 d (by omega) ⟨c34, c49, Or.inr (Or.inl ⟨c92, c102, c117⟩)⟩)]) ?_
                  exact z_rr C.U hret (rt _) hlk d_Y_stands_121
          · refine lv_iconst (v := nI 0) hx hb d_Y_stands_79 rfl ?_
            refine n_top (y := nI (bI (y_st g v b r i))) (by rw [bI_f (fun hz => hz.2 d (by omega) ⟨c34, c49, Or.inl c76⟩)]) ?_
            exact z_rr C.U hret (rt _) hlk d_Y_stands_80
  refine lv_aload_n hx hb d_Y_stands_0 rfl (lv_at hl 0 rfl) ?_
  refine y_g5 C P d_Y_stands_1 ?_
  refine lv_iload_n hx hb d_Y_stands_4 rfl (lv_at hl 1 rfl) ?_
  refine y_l5 C P (by omega) d_Y_stands_5 ?_
  refine lv_iload_n hx hb d_Y_stands_6 rfl (lv_at hl 2 rfl) ?_
  refine y_bit0 (tgt := 17) hx hb (by omega) d_Y_stands_7 d_Y_stands_8 d_Y_stands_9 d_Y_stands_10 d_Y_stands_11 d_Y_stands_12 (by decide) (fun c7 => ?_) (fun c7 => ?_)
  · refine lv_iconst (v := nI 0) hx hb d_Y_stands_17 rfl ?_
    refine lv_istore_n (lv' := [(3, .int (nI (0))), (0, .ref (q 0)), (1, .int (nI (r))), (2, .int (nI (i)))]) hx hb d_Y_stands_18 rfl hl (by decide) rfl (fun ls hl => ?_)
    exact loop (g 0 0) 0 (by omega) ⟨c7, lt_0⟩ _ (lv_sub hl [1, 2, 3, 0] rfl)
  · refine lv_iconst (v := nI 0) hx hb d_Y_stands_15 rfl ?_
    refine n_top (y := nI (bI (y_st g v b r i))) (by rw [bI_f (fun hz => absurd (hz.1.symm.trans c7) (by decide))]) ?_
    exact z_rr C.U hret (rt _) hlk d_Y_stands_16
set_option maxHeartbeats 2000000 in
set_option maxRecDepth 20000 in
theorem c_Y_has_bad {l : Launch} {D : va_G} {cI cL : ClassId} {q : Nat → Nat} {g : Nat → Nat → Nat} {v : Nat → Nat → Int32} {b : Nat → Nat → Int64} {x y : Int32} (h : ¬ x_ok x) : z_Mr l y_Y_has b_Y_has 4 (some .int) 2 D cI cL (y_ws q cI cL g v b) [.ref (q 0), .int (x), .int (y)] (-1) := by
  refine z_mr (own := R_Y) (by decide) rfl (Nat.le_of_ble_eq_true rfl) ?_
  intro p e s m args below meth c A ls C P hret hlk hl
  have hx := C.1
  have hb := C.2.1
  have hf : 0 ≤ (z_rm 2).cells ∧ 0 ≤ (z_rm 2).slots := ⟨Nat.zero_le _, Nat.zero_le _⟩
  have hl : lv_has ls 4 [(0, .ref (q 0)), (1, .int (x)), (2, .int (y))] := hl
  refine lv_iload_n hx hb d_Y_has_0 rfl (lv_at hl 1 rfl) ?_
  refine z_calls C.U L_Y_bad (c_Y_bad_bad h) ⟨by decide, by decide⟩ rfl hl.1 (Nat.le_of_ble_eq_true rfl) hf d_Y_has_1 rfl ?_
  refine n_ifeq (tgt := 9) hx hb (by first | omega | exact Nat.le_trans (hB _ _) (by decide)) d_Y_has_4 (by decide) (fun hz => absurd hz (by decide)) (fun c4 => ?_)
  refine lv_iconst (v := (-1)) hx hb d_Y_has_7 rfl ?_
  exact z_rr C.U hret rfl hlk d_Y_has_8
set_option maxHeartbeats 2000000 in
set_option maxRecDepth 20000 in
theorem c_Y_values_bad {l : Launch} {D : va_G} {cI cL : ClassId} {q : Nat → Nat} {g : Nat → Nat → Nat} {v : Nat → Nat → Int32} {b : Nat → Nat → Int64} {x : Int32} (h : ¬ x_ok x) : z_Mr l y_Y_values b_Y_values 4 (some .int) 2 D cI cL (y_ws q cI cL g v b) [.ref (q 0), .int (x)] (-1) := by
  refine z_mr (own := R_Y) (by decide) rfl (Nat.le_of_ble_eq_true rfl) ?_
  intro p e s m args below meth c A ls C P hret hlk hl
  have hx := C.1
  have hb := C.2.1
  have hf : 0 ≤ (z_rm 2).cells ∧ 0 ≤ (z_rm 2).slots := ⟨Nat.zero_le _, Nat.zero_le _⟩
  have hl : lv_has ls 4 [(0, .ref (q 0)), (1, .int (x))] := hl
  refine lv_iload_n hx hb d_Y_values_0 rfl (lv_at hl 1 rfl) ?_
  refine z_calls C.U L_Y_bad (c_Y_bad_bad h) ⟨by decide, by decide⟩ rfl hl.1 (Nat.le_of_ble_eq_true rfl) hf d_Y_values_1 rfl ?_
  refine n_ifeq (tgt := 9) hx hb (by first | omega | exact Nat.le_trans (hB _ _) (by decide)) d_Y_values_4 (by decide) (fun hz => absurd hz (by decide)) (fun c4 => ?_)
  refine lv_iconst (v := (-1)) hx hb d_Y_values_7 rfl ?_
  exact z_rr C.U hret rfl hlk d_Y_values_8
set_option maxHeartbeats 2000000 in
set_option maxRecDepth 20000 in
theorem c_Y_value_bad {l : Launch} {D : va_G} {cI cL : ClassId} {q : Nat → Nat} {g : Nat → Nat → Nat} {v : Nat → Nat → Int32} {b : Nat → Nat → Int64} {x y : Int32} (h : ¬ x_ok x) : z_Mr l y_Y_value b_Y_value 6 (some .int) 2 D cI cL (y_ws q cI cL g v b) [.ref (q 0), .int (x), .int (y)] (nI 0) := by
  refine z_mr (own := R_Y) (by decide) rfl (Nat.le_of_ble_eq_true rfl) ?_
  intro p e s m args below meth c A ls C P hret hlk hl
  have hx := C.1
  have hb := C.2.1
  have hf : 0 ≤ (z_rm 2).cells ∧ 0 ≤ (z_rm 2).slots := ⟨Nat.zero_le _, Nat.zero_le _⟩
  have hl : lv_has ls 6 [(0, .ref (q 0)), (1, .int (x)), (2, .int (y))] := hl
  refine lv_iload_n hx hb d_Y_value_0 rfl (lv_at hl 1 rfl) ?_
  refine z_calls C.U L_Y_bad (c_Y_bad_bad h) ⟨by decide, by decide⟩ rfl hl.1 (Nat.le_of_ble_eq_true rfl) hf d_Y_value_1 rfl ?_
  refine n_ifeq (tgt := 9) hx hb (by first | omega | exact Nat.le_trans (hB _ _) (by decide)) d_Y_value_4 (by decide) (fun hz => absurd hz (by decide)) (fun c4 => ?_)
  refine lv_iconst (v := nI 0) hx hb d_Y_value_7 rfl ?_
  exact z_rr C.U hret rfl hlk d_Y_value_8
set_option maxHeartbeats 2000000 in
set_option maxRecDepth 20000 in
theorem c_Y_total_bad {l : Launch} {D : va_G} {cI cL : ClassId} {q : Nat → Nat} {g : Nat → Nat → Nat} {v : Nat → Nat → Int32} {b : Nat → Nat → Int64} {x : Int32} (h : ¬ x_ok x) : z_Mr l y_Y_total b_Y_total 4 (some .int) 2 D cI cL (y_ws q cI cL g v b) [.ref (q 0), .int (x)] (nI 0) := by
  refine z_mr (own := R_Y) (by decide) rfl (Nat.le_of_ble_eq_true rfl) ?_
  intro p e s m args below meth c A ls C P hret hlk hl
  have hx := C.1
  have hb := C.2.1
  have hf : 0 ≤ (z_rm 2).cells ∧ 0 ≤ (z_rm 2).slots := ⟨Nat.zero_le _, Nat.zero_le _⟩
  have hl : lv_has ls 4 [(0, .ref (q 0)), (1, .int (x))] := hl
  refine lv_iload_n hx hb d_Y_total_0 rfl (lv_at hl 1 rfl) ?_
  refine z_calls C.U L_Y_bad (c_Y_bad_bad h) ⟨by decide, by decide⟩ rfl hl.1 (Nat.le_of_ble_eq_true rfl) hf d_Y_total_1 rfl ?_
  refine n_ifeq (tgt := 9) hx hb (by first | omega | exact Nat.le_trans (hB _ _) (by decide)) d_Y_total_4 (by decide) (fun hz => absurd hz (by decide)) (fun c4 => ?_)
  refine lv_iconst (v := nI 0) hx hb d_Y_total_7 rfl ?_
  exact z_rr C.U hret rfl hlk d_Y_total_8
set_option maxHeartbeats 2000000 in
set_option maxRecDepth 20000 in
theorem c_Y_known_bad {l : Launch} {D : va_G} {cI cL : ClassId} {q : Nat → Nat} {g : Nat → Nat → Nat} {v : Nat → Nat → Int32} {b : Nat → Nat → Int64} {x y : Int32} (h : ¬ (x_ok x ∧ x_ok y)) : z_Mr l y_Y_known b_Y_known 5 (some .int) 2 D cI cL (y_ws q cI cL g v b) [.ref (q 0), .int (x), .int (y)] (-1) := by
  refine z_mr (own := R_Y) (by decide) rfl (Nat.le_of_ble_eq_true rfl) ?_
  intro p e s m args below meth c A ls C P hret hlk hl
  have hx := C.1
  have hb := C.2.1
  have hf : 0 ≤ (z_rm 2).cells ∧ 0 ≤ (z_rm 2).slots := ⟨Nat.zero_le _, Nat.zero_le _⟩
  have hl : lv_has ls 5 [(0, .ref (q 0)), (1, .int (x)), (2, .int (y))] := hl
  by_cases hx1 : x_ok x
  · refine lv_iload_n hx hb d_Y_known_0 rfl (lv_at hl 1 rfl) ?_
    refine z_calls C.U L_Y_bad (c_Y_bad_ok hx1) ⟨by decide, by decide⟩ rfl hl.1 (Nat.le_of_ble_eq_true rfl) hf d_Y_known_1 rfl ?_
    refine n_ifne (tgt := 14) hx hb (by first | omega | exact Nat.le_trans (hB _ _) (by decide)) d_Y_known_4 (by decide) (fun hz => absurd hz (by decide)) (fun c4 => ?_)
    refine lv_iload_n hx hb d_Y_known_7 rfl (lv_at hl 2 rfl) ?_
    refine z_calls C.U L_Y_bad (c_Y_bad_bad (fun hz => h ⟨hx1, hz⟩)) ⟨by decide, by decide⟩ rfl hl.1 (Nat.le_of_ble_eq_true rfl) hf d_Y_known_8 rfl ?_
    refine n_ifeq (tgt := 16) hx hb (by first | omega | exact Nat.le_trans (hB _ _) (by decide)) d_Y_known_11 (by decide) (fun hz => absurd hz (by decide)) (fun c11 => ?_)
    refine lv_iconst (v := (-1)) hx hb d_Y_known_14 rfl ?_
    exact z_rr C.U hret rfl hlk d_Y_known_15
  · refine lv_iload_n hx hb d_Y_known_0 rfl (lv_at hl 1 rfl) ?_
    refine z_calls C.U L_Y_bad (c_Y_bad_bad hx1) ⟨by decide, by decide⟩ rfl hl.1 (Nat.le_of_ble_eq_true rfl) hf d_Y_known_1 rfl ?_
    refine n_ifne (tgt := 14) hx hb (by first | omega | exact Nat.le_trans (hB _ _) (by decide)) d_Y_known_4 (by decide) (fun c4 => ?_) (fun hz => absurd hz (by decide))
    refine lv_iconst (v := (-1)) hx hb d_Y_known_14 rfl ?_
    exact z_rr C.U hret rfl hlk d_Y_known_15
theorem bI_n0 {P : Prop} (h : bI P ≠ 0) : P := Classical.byContradiction fun k => h (bI_f k)
theorem bI_0 {P : Prop} (h : bI P = 0) : ¬ P := fun k => absurd ((bI_t k).symm.trans h) (by decide)
set_option maxHeartbeats 2000000 in
set_option maxRecDepth 20000 in
theorem c_Y_known {l : Launch} {D : va_G} {cI cL : ClassId} {q : Nat → Nat} {g : Nat → Nat → Nat} {v : Nat → Nat → Int32} {b : Nat → Nat → Int64} {r o : Nat} (hr : r < 3) (ho : o < 3) (hB : x_Bd g) : z_Mr l y_Y_known b_Y_known 5 (some .int) 2 D cI cL (y_ws q cI cL g v b) [.ref (q 0), .int (nI (r)), .int (nI (o))] (nI (cN (y_kp g b r o) (g 0 0))) := by
  refine z_mr (own := R_Y) (by decide) rfl (Nat.le_of_ble_eq_true rfl) ?_
  intro p e s m args below meth c A ls C P hret hlk hl
  have hx := C.1
  have hb := C.2.1
  have hf : 0 ≤ (z_rm 2).cells ∧ 0 ≤ (z_rm 2).slots := ⟨Nat.zero_le _, Nat.zero_le _⟩
  have hl : lv_has ls 5 [(0, .ref (q 0)), (1, .int (nI (r))), (2, .int (nI (o)))] := hl
  have h00 := hB 0 0
  have loop : ∀ n i, i + n = g 0 0 → ∀ ls, lv_has ls 5 [(0, .ref (q 0)), (1, .int (nI (r))), (2, .int (nI (o))), (3, .int (nI (cN (y_kp g b r o) i))), (4, .int (nI (i)))] → W p l e (z_rm 2) s m args below meth c s.heap [] 0 0 (MQ below (QcRead (nI (cN (y_kp g b r o) (g 0 0)))) args s 0 0 (fun _ => False)) (F0 m 21 ls []) := by
    intro n
    induction n with
    | zero =>
      intro i hoi ls hl
      obtain rfl : i = g 0 0 := by omega
      refine lv_iload hx hb d_Y_known_21 (lv_at hl 4 rfl) ?_
      refine lv_aload_n hx hb d_Y_known_23 rfl (lv_at hl 0 rfl) ?_
      refine y_g0 C P d_Y_known_24 ?_
      refine n_ge (tgt := 66) hx hb (by first | omega | exact Nat.le_trans (hB _ _) (by decide) | exact Nat.le_trans (bI_le _) (by decide)) (by first | omega | exact Nat.le_trans (hB _ _) (by decide) | exact Nat.le_trans (bI_le _) (by decide)) d_Y_known_27 (by decide) (fun c27 => ?_) (fun hz => absurd hz (by omega))
      refine lv_iload_n hx hb d_Y_known_66 rfl (lv_at hl 3 rfl) ?_
      exact z_rr C.U hret rfl hlk d_Y_known_67
    | succ n ih =>
      intro i hoi ls hl
      refine lv_iload hx hb d_Y_known_21 (lv_at hl 4 rfl) ?_
      refine lv_aload_n hx hb d_Y_known_23 rfl (lv_at hl 0 rfl) ?_
      refine y_g0 C P d_Y_known_24 ?_
      refine n_ge (tgt := 66) hx hb (by first | omega | exact Nat.le_trans (hB _ _) (by decide) | exact Nat.le_trans (bI_le _) (by decide)) (by first | omega | exact Nat.le_trans (hB _ _) (by decide) | exact Nat.le_trans (bI_le _) (by decide)) d_Y_known_27 (by decide) (fun hz => absurd hz (by omega)) (fun c27 => ?_)
      refine lv_aload_n hx hb d_Y_known_30 rfl (lv_at hl 0 rfl) ?_
      refine y_g3 C P d_Y_known_31 ?_
      refine lv_iload hx hb d_Y_known_34 (lv_at hl 4 rfl) ?_
      refine y_l3 C P (by omega) d_Y_known_36 ?_
      refine lv_iload_n hx hb d_Y_known_37 rfl (lv_at hl 2 rfl) ?_
      refine n_ne (tgt := 60) hx hb (by first | omega | exact Nat.le_trans (hB _ _) (by decide) | exact Nat.le_trans (bI_le _) (by decide)) (by first | omega | exact Nat.le_trans (hB _ _) (by decide) | exact Nat.le_trans (bI_le _) (by decide)) d_Y_known_38 (by decide) (fun c38 => ?_) (fun c38 => ?_)
      · refine lv_iinc (v := nI (i + 1)) (lv' := [(4, .int (nI (i + 1))), (0, .ref (q 0)), (1, .int (nI (r))), (2, .int (nI (o))), (3, .int (nI (cN (y_kp g b r o) i)))]) hx hb d_Y_known_60 hl (k := 4) rfl (nI_inc1 _) (by decide) rfl (fun ls hl => ?_)
        refine lv_goto (tgt := 21) hx hb d_Y_known_63 (by decide) ?_
        exact ih (i + 1) (by omega) _ (lv_sub hl [1, 2, 3, 4, 0] (by rw [show cN (y_kp g b r o) (i + 1) = _ from cN_f (fun hz => c38 hz.1)]; rfl))
      · refine lv_aload_n hx hb d_Y_known_41 rfl (lv_at hl 0 rfl) ?_
        refine y_g5 C P d_Y_known_42 ?_
        refine lv_iload_n hx hb d_Y_known_45 rfl (lv_at hl 1 rfl) ?_
        refine y_l5 C P (by omega) d_Y_known_46 ?_
        refine lv_iload hx hb d_Y_known_47 (lv_at hl 4 rfl) ?_
        refine y_bit1 (tgt := 60) hx hb (by omega) d_Y_known_49 d_Y_known_50 d_Y_known_51 d_Y_known_52 d_Y_known_53 d_Y_known_54 (by decide) (fun c49 => ?_) (fun c49 => ?_)
        · refine lv_iinc (v := nI (i + 1)) (lv' := [(4, .int (nI (i + 1))), (0, .ref (q 0)), (1, .int (nI (r))), (2, .int (nI (o))), (3, .int (nI (cN (y_kp g b r o) i)))]) hx hb d_Y_known_60 hl (k := 4) rfl (nI_inc1 _) (by decide) rfl (fun ls hl => ?_)
          refine lv_goto (tgt := 21) hx hb d_Y_known_63 (by decide) ?_
          exact ih (i + 1) (by omega) _ (lv_sub hl [1, 2, 3, 4, 0] (by rw [show cN (y_kp g b r o) (i + 1) = _ from cN_f (fun hz => absurd (hz.2.symm.trans c49) (by decide))]; rfl))
        · refine lv_iinc (v := nI ((cN (y_kp g b r o) i) + 1)) (lv' := [(3, .int (nI ((cN (y_kp g b r o) i) + 1))), (0, .ref (q 0)), (1, .int (nI (r))), (2, .int (nI (o))), (4, .int (nI (i)))]) hx hb d_Y_known_57 hl (k := 3) rfl (nI_inc1 _) (by decide) rfl (fun ls hl => ?_)
          refine lv_iinc (v := nI (i + 1)) (lv' := [(4, .int (nI (i + 1))), (3, .int (nI ((cN (y_kp g b r o) i) + 1))), (0, .ref (q 0)), (1, .int (nI (r))), (2, .int (nI (o)))]) hx hb d_Y_known_60 hl (k := 4) rfl (nI_inc1 _) (by decide) rfl (fun ls hl => ?_)
          refine lv_goto (tgt := 21) hx hb d_Y_known_63 (by decide) ?_
          exact ih (i + 1) (by omega) _ (lv_sub hl [2, 3, 4, 1, 0] (by rw [show cN (y_kp g b r o) (i + 1) = _ from cN_t ⟨c38, c49⟩]; rfl))
  refine lv_iload_n hx hb d_Y_known_0 rfl (lv_at hl 1 rfl) ?_
  refine z_calls C.U L_Y_bad (c_Y_bad_ok (x_ok_nI hr)) ⟨by decide, by decide⟩ rfl hl.1 (Nat.le_of_ble_eq_true rfl) hf d_Y_known_1 rfl ?_
  refine n_ifne (tgt := 14) hx hb (by first | omega | exact Nat.le_trans (hB _ _) (by decide) | exact Nat.le_trans (bI_le _) (by decide)) d_Y_known_4 (by decide) (fun hz => absurd hz (by decide)) (fun c4 => ?_)
  refine lv_iload_n hx hb d_Y_known_7 rfl (lv_at hl 2 rfl) ?_
  refine z_calls C.U L_Y_bad (c_Y_bad_ok (x_ok_nI ho)) ⟨by decide, by decide⟩ rfl hl.1 (Nat.le_of_ble_eq_true rfl) hf d_Y_known_8 rfl ?_
  refine n_ifeq (tgt := 16) hx hb (by first | omega | exact Nat.le_trans (hB _ _) (by decide) | exact Nat.le_trans (bI_le _) (by decide)) d_Y_known_11 (by decide) (fun c11 => ?_) (fun hz => absurd hz (by decide))
  refine lv_iconst (v := nI 0) hx hb d_Y_known_16 rfl ?_
  refine lv_istore_n (lv' := [(3, .int (nI (0))), (0, .ref (q 0)), (1, .int (nI (r))), (2, .int (nI (o)))]) hx hb d_Y_known_17 rfl hl (by decide) rfl (fun ls hl => ?_)
  refine lv_iconst (v := nI 0) hx hb d_Y_known_18 rfl ?_
  refine lv_istore (lv' := [(4, .int (nI (0))), (3, .int (nI (0))), (0, .ref (q 0)), (1, .int (nI (r))), (2, .int (nI (o)))]) hx hb d_Y_known_19 hl (by decide) rfl (fun ls hl => ?_)
  exact loop (g 0 0) 0 (by omega) _ (lv_sub hl [2, 3, 4, 1, 0] rfl)
set_option maxHeartbeats 2000000 in
set_option maxRecDepth 20000 in
theorem c_Y_has {l : Launch} {D : va_G} {cI cL : ClassId} {q : Nat → Nat} {g : Nat → Nat → Nat} {v : Nat → Nat → Int32} {b : Nat → Nat → Int64} {r : Nat} {y : Int32} (hr : r < 3) (hB : x_Bd g) : z_Mr l y_Y_has b_Y_has 4 (some .int) 2 D cI cL (y_ws q cI cL g v b) [.ref (q 0), .int (nI (r)), .int (y)] (nI (bI (∃ i, i < g 0 0 ∧ y_hp g v b r (y &&& nI 7) i))) := by
  refine z_mr (own := R_Y) (by decide) rfl (Nat.le_of_ble_eq_true rfl) ?_
  intro p e s m args below meth c A ls C P hret hlk hl
  have hx := C.1
  have hb := C.2.1
  have hf : 0 ≤ (z_rm 2).cells ∧ 0 ≤ (z_rm 2).slots := ⟨Nat.zero_le _, Nat.zero_le _⟩
  have hl : lv_has ls 4 [(0, .ref (q 0)), (1, .int (nI (r))), (2, .int (y))] := hl
  have h00 := hB 0 0
  have loop : ∀ n i, i + n = g 0 0 → (∀ k, k < i → ¬ y_hp g v b r (y &&& nI 7) k) → ∀ ls, lv_has ls 4 [(0, .ref (q 0)), (1, .int (nI (r))), (2, .int (y)), (3, .int (nI (i)))] → W p l e (z_rm 2) s m args below meth c s.heap [] 0 0 (MQ below (QcRead (nI (bI (∃ i, i < g 0 0 ∧ y_hp g v b r (y &&& nI 7) i)))) args s 0 0 (fun _ => False)) (F0 m 11 ls []) := by
    intro n
    induction n with
    | zero =>
      intro i hoi hi ls hl
      obtain rfl : i = g 0 0 := by omega
      refine lv_iload_n hx hb d_Y_has_11 rfl (lv_at hl 3 rfl) ?_
      refine lv_aload_n hx hb d_Y_has_12 rfl (lv_at hl 0 rfl) ?_
      refine y_g0 C P d_Y_has_13 ?_
      refine n_ge (tgt := 58) hx hb (by first | omega | exact Nat.le_trans (hB _ _) (by decide) | exact Nat.le_trans (bI_le _) (by decide)) (by first | omega | exact Nat.le_trans (hB _ _) (by decide) | exact Nat.le_trans (bI_le _) (by decide)) d_Y_has_16 (by decide) (fun c16 => ?_) (fun hz => absurd hz (by omega))
      refine lv_iconst (v := nI 0) hx hb d_Y_has_58 rfl ?_
      refine n_top (y := nI (bI (∃ i, i < g 0 0 ∧ y_hp g v b r (y &&& nI 7) i))) (by rw [bI_f (fun ⟨k, hk, hp⟩ => hi k hk hp)]) ?_
      exact z_rr C.U hret rfl hlk d_Y_has_59
    | succ n ih =>
      intro i hoi hi ls hl
      refine lv_iload_n hx hb d_Y_has_11 rfl (lv_at hl 3 rfl) ?_
      refine lv_aload_n hx hb d_Y_has_12 rfl (lv_at hl 0 rfl) ?_
      refine y_g0 C P d_Y_has_13 ?_
      refine n_ge (tgt := 58) hx hb (by first | omega | exact Nat.le_trans (hB _ _) (by decide) | exact Nat.le_trans (bI_le _) (by decide)) (by first | omega | exact Nat.le_trans (hB _ _) (by decide) | exact Nat.le_trans (bI_le _) (by decide)) d_Y_has_16 (by decide) (fun hz => absurd hz (by omega)) (fun c16 => ?_)
      refine lv_aload_n hx hb d_Y_has_19 rfl (lv_at hl 0 rfl) ?_
      refine y_g1 C P d_Y_has_20 ?_
      refine lv_iload_n hx hb d_Y_has_23 rfl (lv_at hl 3 rfl) ?_
      refine y_l1 C P (by omega) d_Y_has_24 ?_
      refine n_ifne (tgt := 52) hx hb (by first | omega | exact Nat.le_trans (hB _ _) (by decide) | exact Nat.le_trans (bI_le _) (by decide)) d_Y_has_25 (by decide) (fun c25 => ?_) (fun c25 => ?_)
      · refine lv_iinc (v := nI (i + 1)) (lv' := [(3, .int (nI (i + 1))), (0, .ref (q 0)), (1, .int (nI (r))), (2, .int (y))]) hx hb d_Y_has_52 hl (k := 3) rfl (nI_inc1 _) (by decide) rfl (fun ls hl => ?_)
        refine lv_goto (tgt := 11) hx hb d_Y_has_55 (by decide) ?_
        exact ih (i + 1) (by omega) (lt_s hi (fun hz => c25 hz.1)) _ (lv_sub hl [1, 2, 3, 0] rfl)
      · refine lv_aload_n hx hb d_Y_has_28 rfl (lv_at hl 0 rfl) ?_
        refine y_g2 C P d_Y_has_29 ?_
        refine lv_iload_n hx hb d_Y_has_32 rfl (lv_at hl 3 rfl) ?_
        refine y_l2 C P (by omega) d_Y_has_33 ?_
        refine lv_iload_n hx hb d_Y_has_34 rfl (lv_at hl 2 rfl) ?_
        refine lv_bipush (v := nI 7) hx hb d_Y_has_35 rfl ?_
        refine lv_iand hx hb d_Y_has_37 ?_
        refine lv_icmp_ne (tgt := 52) hx hb d_Y_has_38 (by decide) (fun c38 => ?_) (fun c38 => ?_)
        · refine lv_iinc (v := nI (i + 1)) (lv' := [(3, .int (nI (i + 1))), (0, .ref (q 0)), (1, .int (nI (r))), (2, .int (y))]) hx hb d_Y_has_52 hl (k := 3) rfl (nI_inc1 _) (by decide) rfl (fun ls hl => ?_)
          refine lv_goto (tgt := 11) hx hb d_Y_has_55 (by decide) ?_
          exact ih (i + 1) (by omega) (lt_s hi (fun hz => c38 hz.2.1)) _ (lv_sub hl [1, 2, 3, 0] rfl)
        · refine lv_aload_n hx hb d_Y_has_41 rfl (lv_at hl 0 rfl) ?_
          refine lv_iload_n hx hb d_Y_has_42 rfl (lv_at hl 1 rfl) ?_
          refine lv_iload_n hx hb d_Y_has_43 rfl (lv_at hl 3 rfl) ?_
          refine z_callr C P L_Y_stands rfl rfl (c_Y_stands hr (by omega) hB) ⟨by decide, by decide⟩ rfl hl.1 (Nat.le_of_ble_eq_true rfl) hf d_Y_has_44 rfl ?_
          refine n_ifeq (tgt := 52) hx hb (by first | omega | exact Nat.le_trans (hB _ _) (by decide) | exact Nat.le_trans (bI_le _) (by decide)) d_Y_has_47 (by decide) (fun c47 => ?_) (fun c47 => ?_)
          · refine lv_iinc (v := nI (i + 1)) (lv' := [(3, .int (nI (i + 1))), (0, .ref (q 0)), (1, .int (nI (r))), (2, .int (y))]) hx hb d_Y_has_52 hl (k := 3) rfl (nI_inc1 _) (by decide) rfl (fun ls hl => ?_)
            refine lv_goto (tgt := 11) hx hb d_Y_has_55 (by decide) ?_
            exact ih (i + 1) (by omega) (lt_s hi (fun hz => bI_0 c47 hz.2.2)) _ (lv_sub hl [1, 2, 3, 0] rfl)
          · refine lv_iconst (v := nI 1) hx hb d_Y_has_50 rfl ?_
            refine n_top (y := nI (bI (∃ i, i < g 0 0 ∧ y_hp g v b r (y &&& nI 7) i))) (by rw [bI_t ⟨i, by omega, c25, c38, bI_n0 c47⟩]) ?_
            exact z_rr C.U hret rfl hlk d_Y_has_51
  refine lv_iload_n hx hb d_Y_has_0 rfl (lv_at hl 1 rfl) ?_
  refine z_calls C.U L_Y_bad (c_Y_bad_ok (x_ok_nI hr)) ⟨by decide, by decide⟩ rfl hl.1 (Nat.le_of_ble_eq_true rfl) hf d_Y_has_1 rfl ?_
  refine n_ifeq (tgt := 9) hx hb (by first | omega | exact Nat.le_trans (hB _ _) (by decide) | exact Nat.le_trans (bI_le _) (by decide)) d_Y_has_4 (by decide) (fun c4 => ?_) (fun hz => absurd hz (by decide))
  refine lv_iconst (v := nI 0) hx hb d_Y_has_9 rfl ?_
  refine lv_istore_n (lv' := [(3, .int (nI (0))), (0, .ref (q 0)), (1, .int (nI (r))), (2, .int (y))]) hx hb d_Y_has_10 rfl hl (by decide) rfl (fun ls hl => ?_)
  exact loop (g 0 0) 0 (by omega) lt_0 _ (lv_sub hl [1, 2, 3, 0] rfl)
set_option maxHeartbeats 2000000 in
set_option maxRecDepth 20000 in
theorem c_Y_values {l : Launch} {D : va_G} {cI cL : ClassId} {q : Nat → Nat} {g : Nat → Nat → Nat} {v : Nat → Nat → Int32} {b : Nat → Nat → Int64} {r : Nat} (hr : r < 3) (hB : x_Bd g) : z_Mr l y_Y_values b_Y_values 4 (some .int) 2 D cI cL (y_ws q cI cL g v b) [.ref (q 0), .int (nI (r))] (nI (cN (y_vp g v b r 2) (g 0 0))) := by
  refine z_mr (own := R_Y) (by decide) rfl (Nat.le_of_ble_eq_true rfl) ?_
  intro p e s m args below meth c A ls C P hret hlk hl
  have hx := C.1
  have hb := C.2.1
  have hf : 0 ≤ (z_rm 2).cells ∧ 0 ≤ (z_rm 2).slots := ⟨Nat.zero_le _, Nat.zero_le _⟩
  have hl : lv_has ls 4 [(0, .ref (q 0)), (1, .int (nI (r)))] := hl
  have h00 := hB 0 0
  have loop : ∀ n i, i + n = g 0 0 → ∀ ls, lv_has ls 4 [(0, .ref (q 0)), (1, .int (nI (r))), (2, .int (nI (cN (y_vp g v b r 2) i))), (3, .int (nI (i)))] → W p l e (z_rm 2) s m args below meth c s.heap [] 0 0 (MQ below (QcRead (nI (cN (y_vp g v b r 2) (g 0 0)))) args s 0 0 (fun _ => False)) (F0 m 13 ls []) := by
    intro n
    induction n with
    | zero =>
      intro i hoi ls hl
      obtain rfl : i = g 0 0 := by omega
      refine lv_iload_n hx hb d_Y_values_13 rfl (lv_at hl 3 rfl) ?_
      refine lv_aload_n hx hb d_Y_values_14 rfl (lv_at hl 0 rfl) ?_
      refine y_g0 C P d_Y_values_15 ?_
      refine n_ge (tgt := 49) hx hb (by first | omega | exact Nat.le_trans (hB _ _) (by decide) | exact Nat.le_trans (bI_le _) (by decide)) (by first | omega | exact Nat.le_trans (hB _ _) (by decide) | exact Nat.le_trans (bI_le _) (by decide)) d_Y_values_18 (by decide) (fun c18 => ?_) (fun hz => absurd hz (by omega))
      refine lv_iload_n hx hb d_Y_values_49 rfl (lv_at hl 2 rfl) ?_
      exact z_rr C.U hret rfl hlk d_Y_values_50
    | succ n ih =>
      intro i hoi ls hl
      refine lv_iload_n hx hb d_Y_values_13 rfl (lv_at hl 3 rfl) ?_
      refine lv_aload_n hx hb d_Y_values_14 rfl (lv_at hl 0 rfl) ?_
      refine y_g0 C P d_Y_values_15 ?_
      refine n_ge (tgt := 49) hx hb (by first | omega | exact Nat.le_trans (hB _ _) (by decide) | exact Nat.le_trans (bI_le _) (by decide)) (by first | omega | exact Nat.le_trans (hB _ _) (by decide) | exact Nat.le_trans (bI_le _) (by decide)) d_Y_values_18 (by decide) (fun hz => absurd hz (by omega)) (fun c18 => ?_)
      refine lv_aload_n hx hb d_Y_values_21 rfl (lv_at hl 0 rfl) ?_
      refine y_g1 C P d_Y_values_22 ?_
      refine lv_iload_n hx hb d_Y_values_25 rfl (lv_at hl 3 rfl) ?_
      refine y_l1 C P (by omega) d_Y_values_26 ?_
      refine lv_iconst (v := nI 2) hx hb d_Y_values_27 rfl ?_
      refine n_ne (tgt := 43) hx hb (by first | omega | exact Nat.le_trans (hB _ _) (by decide) | exact Nat.le_trans (bI_le _) (by decide)) (by first | omega | exact Nat.le_trans (hB _ _) (by decide) | exact Nat.le_trans (bI_le _) (by decide)) d_Y_values_28 (by decide) (fun c28 => ?_) (fun c28 => ?_)
      · refine lv_iinc (v := nI (i + 1)) (lv' := [(3, .int (nI (i + 1))), (0, .ref (q 0)), (1, .int (nI (r))), (2, .int (nI (cN (y_vp g v b r 2) i)))]) hx hb d_Y_values_43 hl (k := 3) rfl (nI_inc1 _) (by decide) rfl (fun ls hl => ?_)
        refine lv_goto (tgt := 13) hx hb d_Y_values_46 (by decide) ?_
        exact ih (i + 1) (by omega) _ (lv_sub hl [1, 2, 3, 0] (by rw [show cN (y_vp g v b r 2) (i + 1) = _ from cN_f (fun hz => c28 hz.1)]; rfl))
      · refine lv_aload_n hx hb d_Y_values_31 rfl (lv_at hl 0 rfl) ?_
        refine lv_iload_n hx hb d_Y_values_32 rfl (lv_at hl 1 rfl) ?_
        refine lv_iload_n hx hb d_Y_values_33 rfl (lv_at hl 3 rfl) ?_
        refine z_callr C P L_Y_stands rfl rfl (c_Y_stands hr (by omega) hB) ⟨by decide, by decide⟩ rfl hl.1 (Nat.le_of_ble_eq_true rfl) hf d_Y_values_34 rfl ?_
        refine n_ifeq (tgt := 43) hx hb (by first | omega | exact Nat.le_trans (hB _ _) (by decide) | exact Nat.le_trans (bI_le _) (by decide)) d_Y_values_37 (by decide) (fun c37 => ?_) (fun c37 => ?_)
        · refine lv_iinc (v := nI (i + 1)) (lv' := [(3, .int (nI (i + 1))), (0, .ref (q 0)), (1, .int (nI (r))), (2, .int (nI (cN (y_vp g v b r 2) i)))]) hx hb d_Y_values_43 hl (k := 3) rfl (nI_inc1 _) (by decide) rfl (fun ls hl => ?_)
          refine lv_goto (tgt := 13) hx hb d_Y_values_46 (by decide) ?_
          exact ih (i + 1) (by omega) _ (lv_sub hl [1, 2, 3, 0] (by rw [show cN (y_vp g v b r 2) (i + 1) = _ from cN_f (fun hz => bI_0 c37 hz.2)]; rfl))
        · refine lv_iinc (v := nI ((cN (y_vp g v b r 2) i) + 1)) (lv' := [(2, .int (nI ((cN (y_vp g v b r 2) i) + 1))), (0, .ref (q 0)), (1, .int (nI (r))), (3, .int (nI (i)))]) hx hb d_Y_values_40 hl (k := 2) rfl (nI_inc1 _) (by decide) rfl (fun ls hl => ?_)
          refine lv_iinc (v := nI (i + 1)) (lv' := [(3, .int (nI (i + 1))), (2, .int (nI ((cN (y_vp g v b r 2) i) + 1))), (0, .ref (q 0)), (1, .int (nI (r)))]) hx hb d_Y_values_43 hl (k := 3) rfl (nI_inc1 _) (by decide) rfl (fun ls hl => ?_)
          refine lv_goto (tgt := 13) hx hb d_Y_values_46 (by decide) ?_
          exact ih (i + 1) (by omega) _ (lv_sub hl [2, 3, 1, 0] (by rw [show cN (y_vp g v b r 2) (i + 1) = _ from cN_t ⟨c28, bI_n0 c37⟩]; rfl))
  refine lv_iload_n hx hb d_Y_values_0 rfl (lv_at hl 1 rfl) ?_
  refine z_calls C.U L_Y_bad (c_Y_bad_ok (x_ok_nI hr)) ⟨by decide, by decide⟩ rfl hl.1 (Nat.le_of_ble_eq_true rfl) hf d_Y_values_1 rfl ?_
  refine n_ifeq (tgt := 9) hx hb (by first | omega | exact Nat.le_trans (hB _ _) (by decide) | exact Nat.le_trans (bI_le _) (by decide)) d_Y_values_4 (by decide) (fun c4 => ?_) (fun hz => absurd hz (by decide))
  refine lv_iconst (v := nI 0) hx hb d_Y_values_9 rfl ?_
  refine lv_istore_n (lv' := [(2, .int (nI (0))), (0, .ref (q 0)), (1, .int (nI (r)))]) hx hb d_Y_values_10 rfl hl (by decide) rfl (fun ls hl => ?_)
  refine lv_iconst (v := nI 0) hx hb d_Y_values_11 rfl ?_
  refine lv_istore_n (lv' := [(3, .int (nI (0))), (2, .int (nI (0))), (0, .ref (q 0)), (1, .int (nI (r)))]) hx hb d_Y_values_12 rfl hl (by decide) rfl (fun ls hl => ?_)
  exact loop (g 0 0) 0 (by omega) _ (lv_sub hl [2, 3, 1, 0] rfl)
set_option maxHeartbeats 2000000 in
set_option maxRecDepth 20000 in
theorem c_Y_total {l : Launch} {D : va_G} {cI cL : ClassId} {q : Nat → Nat} {g : Nat → Nat → Nat} {v : Nat → Nat → Int32} {b : Nat → Nat → Int64} {r : Nat} (hr : r < 3) (hB : x_Bd g) : z_Mr l y_Y_total b_Y_total 4 (some .int) 2 D cI cL (y_ws q cI cL g v b) [.ref (q 0), .int (nI (r))] (sI (y_vp g v b r 3) (v 2) (g 0 0)) := by
  refine z_mr (own := R_Y) (by decide) rfl (Nat.le_of_ble_eq_true rfl) ?_
  intro p e s m args below meth c A ls C P hret hlk hl
  have hx := C.1
  have hb := C.2.1
  have hf : 0 ≤ (z_rm 2).cells ∧ 0 ≤ (z_rm 2).slots := ⟨Nat.zero_le _, Nat.zero_le _⟩
  have hl : lv_has ls 4 [(0, .ref (q 0)), (1, .int (nI (r)))] := hl
  have h00 := hB 0 0
  have loop : ∀ n i, i + n = g 0 0 → ∀ ls, lv_has ls 4 [(0, .ref (q 0)), (1, .int (nI (r))), (2, .int (sI (y_vp g v b r 3) (v 2) i)), (3, .int (nI (i)))] → W p l e (z_rm 2) s m args below meth c s.heap [] 0 0 (MQ below (QcRead (sI (y_vp g v b r 3) (v 2) (g 0 0))) args s 0 0 (fun _ => False)) (F0 m 13 ls []) := by
    intro n
    induction n with
    | zero =>
      intro i hoi ls hl
      obtain rfl : i = g 0 0 := by omega
      refine lv_iload_n hx hb d_Y_total_13 rfl (lv_at hl 3 rfl) ?_
      refine lv_aload_n hx hb d_Y_total_14 rfl (lv_at hl 0 rfl) ?_
      refine y_g0 C P d_Y_total_15 ?_
      refine n_ge (tgt := 55) hx hb (by first | omega | exact Nat.le_trans (hB _ _) (by decide) | exact Nat.le_trans (bI_le _) (by decide)) (by first | omega | exact Nat.le_trans (hB _ _) (by decide) | exact Nat.le_trans (bI_le _) (by decide)) d_Y_total_18 (by decide) (fun c18 => ?_) (fun hz => absurd hz (by omega))
      refine lv_iload_n hx hb d_Y_total_55 rfl (lv_at hl 2 rfl) ?_
      exact z_rr C.U hret rfl hlk d_Y_total_56
    | succ n ih =>
      intro i hoi ls hl
      refine lv_iload_n hx hb d_Y_total_13 rfl (lv_at hl 3 rfl) ?_
      refine lv_aload_n hx hb d_Y_total_14 rfl (lv_at hl 0 rfl) ?_
      refine y_g0 C P d_Y_total_15 ?_
      refine n_ge (tgt := 55) hx hb (by first | omega | exact Nat.le_trans (hB _ _) (by decide) | exact Nat.le_trans (bI_le _) (by decide)) (by first | omega | exact Nat.le_trans (hB _ _) (by decide) | exact Nat.le_trans (bI_le _) (by decide)) d_Y_total_18 (by decide) (fun hz => absurd hz (by omega)) (fun c18 => ?_)
      refine lv_aload_n hx hb d_Y_total_21 rfl (lv_at hl 0 rfl) ?_
      refine y_g1 C P d_Y_total_22 ?_
      refine lv_iload_n hx hb d_Y_total_25 rfl (lv_at hl 3 rfl) ?_
      refine y_l1 C P (by omega) d_Y_total_26 ?_
      refine lv_iconst (v := nI 3) hx hb d_Y_total_27 rfl ?_
      refine n_ne (tgt := 49) hx hb (by first | omega | exact Nat.le_trans (hB _ _) (by decide) | exact Nat.le_trans (bI_le _) (by decide)) (by first | omega | exact Nat.le_trans (hB _ _) (by decide) | exact Nat.le_trans (bI_le _) (by decide)) d_Y_total_28 (by decide) (fun c28 => ?_) (fun c28 => ?_)
      · refine lv_iinc (v := nI (i + 1)) (lv' := [(3, .int (nI (i + 1))), (0, .ref (q 0)), (1, .int (nI (r))), (2, .int (sI (y_vp g v b r 3) (v 2) i))]) hx hb d_Y_total_49 hl (k := 3) rfl (nI_inc1 _) (by decide) rfl (fun ls hl => ?_)
        refine lv_goto (tgt := 13) hx hb d_Y_total_52 (by decide) ?_
        exact ih (i + 1) (by omega) _ (lv_sub hl [1, 2, 3, 0] (by rw [show sI (y_vp g v b r 3) (v 2) (i + 1) = _ from sI_f (fun hz => c28 hz.1)]; rfl))
      · refine lv_aload_n hx hb d_Y_total_31 rfl (lv_at hl 0 rfl) ?_
        refine lv_iload_n hx hb d_Y_total_32 rfl (lv_at hl 1 rfl) ?_
        refine lv_iload_n hx hb d_Y_total_33 rfl (lv_at hl 3 rfl) ?_
        refine z_callr C P L_Y_stands rfl rfl (c_Y_stands hr (by omega) hB) ⟨by decide, by decide⟩ rfl hl.1 (Nat.le_of_ble_eq_true rfl) hf d_Y_total_34 rfl ?_
        refine n_ifeq (tgt := 49) hx hb (by first | omega | exact Nat.le_trans (hB _ _) (by decide) | exact Nat.le_trans (bI_le _) (by decide)) d_Y_total_37 (by decide) (fun c37 => ?_) (fun c37 => ?_)
        · refine lv_iinc (v := nI (i + 1)) (lv' := [(3, .int (nI (i + 1))), (0, .ref (q 0)), (1, .int (nI (r))), (2, .int (sI (y_vp g v b r 3) (v 2) i))]) hx hb d_Y_total_49 hl (k := 3) rfl (nI_inc1 _) (by decide) rfl (fun ls hl => ?_)
          refine lv_goto (tgt := 13) hx hb d_Y_total_52 (by decide) ?_
          exact ih (i + 1) (by omega) _ (lv_sub hl [1, 2, 3, 0] (by rw [show sI (y_vp g v b r 3) (v 2) (i + 1) = _ from sI_f (fun hz => bI_0 c37 hz.2)]; rfl))
        · refine lv_iload_n hx hb d_Y_total_40 rfl (lv_at hl 2 rfl) ?_
          refine lv_aload_n hx hb d_Y_total_41 rfl (lv_at hl 0 rfl) ?_
          refine y_g2 C P d_Y_total_42 ?_
          refine lv_iload_n hx hb d_Y_total_45 rfl (lv_at hl 3 rfl) ?_
          refine y_l2 C P (by omega) d_Y_total_46 ?_
          refine lv_iadd hx hb d_Y_total_47 ?_
          refine lv_istore_n (lv' := [(2, .int ((sI (y_vp g v b r 3) (v 2) i) + (v 2 i))), (0, .ref (q 0)), (1, .int (nI (r))), (3, .int (nI (i)))]) hx hb d_Y_total_48 rfl hl (by decide) rfl (fun ls hl => ?_)
          refine lv_iinc (v := nI (i + 1)) (lv' := [(3, .int (nI (i + 1))), (2, .int ((sI (y_vp g v b r 3) (v 2) i) + (v 2 i))), (0, .ref (q 0)), (1, .int (nI (r)))]) hx hb d_Y_total_49 hl (k := 3) rfl (nI_inc1 _) (by decide) rfl (fun ls hl => ?_)
          refine lv_goto (tgt := 13) hx hb d_Y_total_52 (by decide) ?_
          exact ih (i + 1) (by omega) _ (lv_sub hl [2, 3, 1, 0] (by rw [show sI (y_vp g v b r 3) (v 2) (i + 1) = _ from sI_t ⟨c28, bI_n0 c37⟩]; rfl))
  refine lv_iload_n hx hb d_Y_total_0 rfl (lv_at hl 1 rfl) ?_
  refine z_calls C.U L_Y_bad (c_Y_bad_ok (x_ok_nI hr)) ⟨by decide, by decide⟩ rfl hl.1 (Nat.le_of_ble_eq_true rfl) hf d_Y_total_1 rfl ?_
  refine n_ifeq (tgt := 9) hx hb (by first | omega | exact Nat.le_trans (hB _ _) (by decide) | exact Nat.le_trans (bI_le _) (by decide)) d_Y_total_4 (by decide) (fun c4 => ?_) (fun hz => absurd hz (by decide))
  refine lv_iconst (v := nI 0) hx hb d_Y_total_9 rfl ?_
  refine lv_istore_n (lv' := [(2, .int (nI (0))), (0, .ref (q 0)), (1, .int (nI (r)))]) hx hb d_Y_total_10 rfl hl (by decide) rfl (fun ls hl => ?_)
  refine lv_iconst (v := nI 0) hx hb d_Y_total_11 rfl ?_
  refine lv_istore_n (lv' := [(3, .int (nI (0))), (2, .int (nI (0))), (0, .ref (q 0)), (1, .int (nI (r)))]) hx hb d_Y_total_12 rfl hl (by decide) rfl (fun ls hl => ?_)
  exact loop (g 0 0) 0 (by omega) _ (lv_sub hl [2, 3, 1, 0] rfl)
set_option maxHeartbeats 2000000 in
set_option maxRecDepth 20000 in
theorem c_Y_under {l : Launch} {D : va_G} {cI cL : ClassId} {q : Nat → Nat} {g : Nat → Nat → Nat} {v : Nat → Nat → Int32} {b : Nat → Nat → Int64} {r eq : Nat} {x : Int32} (hr : r < 3) (heq : eq ≤ 1) (hB : x_Bd g) : z_Mr l y_Y_under b_Y_under 7 (some .int) 1 D cI cL (y_ws q cI cL g v b) [.ref (q 0), .int (nI (r)), .int (x), .int (nI (eq))] (nI (cN (y_up g v b r x eq) (g 0 0))) := by
  refine z_mr (own := R_Y) (by decide) rfl (Nat.le_of_ble_eq_true rfl) ?_
  intro p e s m args below meth c A ls C P hret hlk hl
  have hx := C.1
  have hb := C.2.1
  have hf : 0 ≤ (z_rm 1).cells ∧ 0 ≤ (z_rm 1).slots := ⟨Nat.zero_le _, Nat.zero_le _⟩
  have hl : lv_has ls 7 [(0, .ref (q 0)), (1, .int (nI (r))), (2, .int (x)), (3, .int (nI (eq)))] := hl
  have h00 := hB 0 0
  have loop : ∀ n i, i + n = g 0 0 → ∀ ls, lv_has ls 7 [(0, .ref (q 0)), (1, .int (nI (r))), (2, .int (x)), (3, .int (nI (eq))), (4, .int (nI (cN (y_up g v b r x eq) i))), (5, .int (nI (i)))] → W p l e (z_rm 1) s m args below meth c s.heap [] 0 0 (MQ below (QcRead (nI (cN (y_up g v b r x eq) (g 0 0)))) args s 0 0 (fun _ => False)) (F0 m 6 ls []) := by
    intro n
    induction n with
    | zero =>
      intro i hoi ls hl
      obtain rfl : i = g 0 0 := by omega
      refine lv_iload hx hb d_Y_under_6 (lv_at hl 5 rfl) ?_
      refine lv_aload_n hx hb d_Y_under_8 rfl (lv_at hl 0 rfl) ?_
      refine y_g0 C P d_Y_under_9 ?_
      refine n_ge (tgt := 83) hx hb (by first | omega | exact Nat.le_trans (hB _ _) (by decide) | exact Nat.le_trans (bI_le _) (by decide)) (by first | omega | exact Nat.le_trans (hB _ _) (by decide) | exact Nat.le_trans (bI_le _) (by decide)) d_Y_under_12 (by decide) (fun c12 => ?_) (fun hz => absurd hz (by omega))
      refine lv_iload hx hb d_Y_under_83 (lv_at hl 4 rfl) ?_
      exact z_rr C.U hret rfl hlk d_Y_under_85
    | succ n ih =>
      intro i hoi ls hl
      refine lv_iload hx hb d_Y_under_6 (lv_at hl 5 rfl) ?_
      refine lv_aload_n hx hb d_Y_under_8 rfl (lv_at hl 0 rfl) ?_
      refine y_g0 C P d_Y_under_9 ?_
      refine n_ge (tgt := 83) hx hb (by first | omega | exact Nat.le_trans (hB _ _) (by decide) | exact Nat.le_trans (bI_le _) (by decide)) (by first | omega | exact Nat.le_trans (hB _ _) (by decide) | exact Nat.le_trans (bI_le _) (by decide)) d_Y_under_12 (by decide) (fun hz => absurd hz (by omega)) (fun c12 => ?_)
      refine lv_aload_n hx hb d_Y_under_15 rfl (lv_at hl 0 rfl) ?_
      refine y_g2 C P d_Y_under_16 ?_
      refine lv_iload hx hb d_Y_under_19 (lv_at hl 5 rfl) ?_
      refine y_l2 C P (by omega) d_Y_under_21 ?_
      refine lv_iload_n hx hb d_Y_under_22 rfl (lv_at hl 2 rfl) ?_
      refine lv_icmp_lt (tgt := 41) hx hb d_Y_under_23 (by decide) (fun c23 => ?_) (fun c23 => ?_)
      · refine lv_iconst (v := nI 1) hx hb d_Y_under_41 rfl ?_
        refine lv_goto (tgt := 46) hx hb d_Y_under_42 (by decide) ?_
        refine lv_istore (lv' := [(6, .int (nI (1))), (0, .ref (q 0)), (1, .int (nI (r))), (2, .int (x)), (3, .int (nI (eq))), (4, .int (nI (cN (y_up g v b r x eq) i))), (5, .int (nI (i)))]) hx hb d_Y_under_46 hl (by decide) rfl (fun ls hl => ?_)
        refine lv_aload_n hx hb d_Y_under_48 rfl (lv_at hl 1 rfl) ?_
        refine y_g1 C P d_Y_under_49 ?_
        refine lv_iload hx hb d_Y_under_52 (lv_at hl 6 rfl) ?_
        refine y_l1 C P (by omega) d_Y_under_54 ?_
        refine lv_iconst (v := nI 2) hx hb d_Y_under_55 rfl ?_
        refine n_ne (tgt := 77) hx hb (by first | omega | exact Nat.le_trans (hB _ _) (by decide) | exact Nat.le_trans (bI_le _) (by decide)) (by first | omega | exact Nat.le_trans (hB _ _) (by decide) | exact Nat.le_trans (bI_le _) (by decide)) d_Y_under_56 (by decide) (fun c56 => ?_) (fun c56 => ?_)
        · refine lv_iinc (v := nI (i + 1)) (lv' := [(5, .int (nI (i + 1))), (6, .int (nI (1))), (0, .ref (q 0)), (1, .int (nI (r))), (2, .int (x)), (3, .int (nI (eq))), (4, .int (nI (cN (y_up g v b r x eq) i)))]) hx hb d_Y_under_77 hl (k := 6) rfl (nI_inc1 _) (by decide) rfl (fun ls hl => ?_)
          refine lv_goto (tgt := 6) hx hb d_Y_under_80 (by decide) ?_
          exact ih (i + 1) (by omega) _ (lv_sub hl [2, 3, 4, 5, 6, 0] (by rw [show cN (y_up g v b r x eq) (i + 1) = _ from cN_f (fun hz => c56 hz.1)]; rfl))
        · refine lv_iload hx hb d_Y_under_59 (lv_at hl 0 rfl) ?_
          refine n_ifeq (tgt := 77) hx hb (by first | omega | exact Nat.le_trans (hB _ _) (by decide) | exact Nat.le_trans (bI_le _) (by decide)) d_Y_under_61 (by decide) (fun hz => absurd hz (by decide)) (fun c61 => ?_)
          refine lv_aload_n hx hb d_Y_under_64 rfl (lv_at hl 1 rfl) ?_
          refine lv_iload_n hx hb d_Y_under_65 rfl (lv_at hl 2 rfl) ?_
          refine lv_iload hx hb d_Y_under_66 (lv_at hl 6 rfl) ?_
          refine z_callr C P L_Y_stands rfl rfl (c_Y_stands hr (by omega) hB) ⟨by decide, by decide⟩ rfl hl.1 (Nat.le_of_ble_eq_true rfl) hf d_Y_under_68 rfl ?_
          refine n_ifeq (tgt := 77) hx hb (by first | omega | exact Nat.le_trans (hB _ _) (by decide) | exact Nat.le_trans (bI_le _) (by decide)) d_Y_under_71 (by decide) (fun c71 => ?_) (fun c71 => ?_)
          · refine lv_iinc (v := nI (i + 1)) (lv' := [(5, .int (nI (i + 1))), (6, .int (nI (1))), (0, .ref (q 0)), (1, .int (nI (r))), (2, .int (x)), (3, .int (nI (eq))), (4, .int (nI (cN (y_up g v b r x eq) i)))]) hx hb d_Y_under_77 hl (k := 6) rfl (nI_inc1 _) (by decide) rfl (fun ls hl => ?_)
            refine lv_goto (tgt := 6) hx hb d_Y_under_80 (by decide) ?_
            exact ih (i + 1) (by omega) _ (lv_sub hl [2, 3, 4, 5, 6, 0] (by rw [show cN (y_up g v b r x eq) (i + 1) = _ from cN_f (fun hz => bI_0 c71 hz.2.2)]; rfl))
          · refine lv_iinc (v := nI ((cN (y_up g v b r x eq) i) + 1)) (lv' := [(4, .int (nI ((cN (y_up g v b r x eq) i) + 1))), (6, .int (nI (1))), (0, .ref (q 0)), (1, .int (nI (r))), (2, .int (x)), (3, .int (nI (eq))), (5, .int (nI (i)))]) hx hb d_Y_under_74 hl (k := 5) rfl (nI_inc1 _) (by decide) rfl (fun ls hl => ?_)
            refine lv_iinc (v := nI (i + 1)) (lv' := [(5, .int (nI (i + 1))), (4, .int (nI ((cN (y_up g v b r x eq) i) + 1))), (6, .int (nI (1))), (0, .ref (q 0)), (1, .int (nI (r))), (2, .int (x)), (3, .int (nI (eq)))]) hx hb d_Y_under_77 hl (k := 6) rfl (nI_inc1 _) (by decide) rfl (fun ls hl => ?_)
            refine lv_goto (tgt := 6) hx hb d_Y_under_80 (by decide) ?_
            exact ih (i + 1) (by omega) _ (lv_sub hl [3, 4, 5, 6, 1, 0] (by rw [show cN (y_up g v b r x eq) (i + 1) = _ from cN_t ⟨c56, Or.inl c23, bI_n0 c71⟩]; rfl))
      · refine lv_iload_n hx hb d_Y_under_26 rfl (lv_at hl 3 rfl) ?_
        refine n_ifeq (tgt := 45) hx hb (by first | omega | exact Nat.le_trans (hB _ _) (by decide) | exact Nat.le_trans (bI_le _) (by decide)) d_Y_under_27 (by decide) (fun c27 => ?_) (fun c27 => ?_)
        · refine lv_iconst (v := nI 0) hx hb d_Y_under_45 rfl ?_
          refine lv_istore (lv' := [(6, .int (nI (0))), (0, .ref (q 0)), (1, .int (nI (r))), (2, .int (x)), (3, .int (nI (eq))), (4, .int (nI (cN (y_up g v b r x eq) i))), (5, .int (nI (i)))]) hx hb d_Y_under_46 hl (by decide) rfl (fun ls hl => ?_)
          refine lv_aload_n hx hb d_Y_under_48 rfl (lv_at hl 1 rfl) ?_
          refine y_g1 C P d_Y_under_49 ?_
          refine lv_iload hx hb d_Y_under_52 (lv_at hl 6 rfl) ?_
          refine y_l1 C P (by omega) d_Y_under_54 ?_
          refine lv_iconst (v := nI 2) hx hb d_Y_under_55 rfl ?_
          refine n_ne (tgt := 77) hx hb (by first | omega | exact Nat.le_trans (hB _ _) (by decide) | exact Nat.le_trans (bI_le _) (by decide)) (by first | omega | exact Nat.le_trans (hB _ _) (by decide) | exact Nat.le_trans (bI_le _) (by decide)) d_Y_under_56 (by decide) (fun c56 => ?_) (fun c56 => ?_)
          · refine lv_iinc (v := nI (i + 1)) (lv' := [(5, .int (nI (i + 1))), (6, .int (nI (0))), (0, .ref (q 0)), (1, .int (nI (r))), (2, .int (x)), (3, .int (nI (eq))), (4, .int (nI (cN (y_up g v b r x eq) i)))]) hx hb d_Y_under_77 hl (k := 6) rfl (nI_inc1 _) (by decide) rfl (fun ls hl => ?_)
            refine lv_goto (tgt := 6) hx hb d_Y_under_80 (by decide) ?_
            exact ih (i + 1) (by omega) _ (lv_sub hl [2, 3, 4, 5, 6, 0] (by rw [show cN (y_up g v b r x eq) (i + 1) = _ from cN_f (fun hz => c56 hz.1)]; rfl))
          · refine lv_iload hx hb d_Y_under_59 (lv_at hl 0 rfl) ?_
            refine n_ifeq (tgt := 77) hx hb (by first | omega | exact Nat.le_trans (hB _ _) (by decide) | exact Nat.le_trans (bI_le _) (by decide)) d_Y_under_61 (by decide) (fun c61 => ?_) (fun hz => absurd hz (by decide))
            refine lv_iinc (v := nI (i + 1)) (lv' := [(5, .int (nI (i + 1))), (6, .int (nI (0))), (0, .ref (q 0)), (1, .int (nI (r))), (2, .int (x)), (3, .int (nI (eq))), (4, .int (nI (cN (y_up g v b r x eq) i)))]) hx hb d_Y_under_77 hl (k := 6) rfl (nI_inc1 _) (by decide) rfl (fun ls hl => ?_)
            refine lv_goto (tgt := 6) hx hb d_Y_under_80 (by decide) ?_
            exact ih (i + 1) (by omega) _ (lv_sub hl [2, 3, 4, 5, 6, 0] (by rw [show cN (y_up g v b r x eq) (i + 1) = _ from cN_f (fun hz => hz.2.1.elim c23 (fun k => k.1 c27))]; rfl))
        · refine lv_aload_n hx hb d_Y_under_30 rfl (lv_at hl 0 rfl) ?_
          refine y_g2 C P d_Y_under_31 ?_
          refine lv_iload hx hb d_Y_under_34 (lv_at hl 5 rfl) ?_
          refine y_l2 C P (by omega) d_Y_under_36 ?_
          refine lv_iload_n hx hb d_Y_under_37 rfl (lv_at hl 2 rfl) ?_
          refine lv_icmp_ne (tgt := 45) hx hb d_Y_under_38 (by decide) (fun c38 => ?_) (fun c38 => ?_)
          · refine lv_iconst (v := nI 0) hx hb d_Y_under_45 rfl ?_
            refine lv_istore (lv' := [(6, .int (nI (0))), (0, .ref (q 0)), (1, .int (nI (r))), (2, .int (x)), (3, .int (nI (eq))), (4, .int (nI (cN (y_up g v b r x eq) i))), (5, .int (nI (i)))]) hx hb d_Y_under_46 hl (by decide) rfl (fun ls hl => ?_)
            refine lv_aload_n hx hb d_Y_under_48 rfl (lv_at hl 1 rfl) ?_
            refine y_g1 C P d_Y_under_49 ?_
            refine lv_iload hx hb d_Y_under_52 (lv_at hl 6 rfl) ?_
            refine y_l1 C P (by omega) d_Y_under_54 ?_
            refine lv_iconst (v := nI 2) hx hb d_Y_under_55 rfl ?_
            refine n_ne (tgt := 77) hx hb (by first | omega | exact Nat.le_trans (hB _ _) (by decide) | exact Nat.le_trans (bI_le _) (by decide)) (by first | omega | exact Nat.le_trans (hB _ _) (by decide) | exact Nat.le_trans (bI_le _) (by decide)) d_Y_under_56 (by decide) (fun c56 => ?_) (fun c56 => ?_)
            · refine lv_iinc (v := nI (i + 1)) (lv' := [(5, .int (nI (i + 1))), (6, .int (nI (0))), (0, .ref (q 0)), (1, .int (nI (r))), (2, .int (x)), (3, .int (nI (eq))), (4, .int (nI (cN (y_up g v b r x eq) i)))]) hx hb d_Y_under_77 hl (k := 6) rfl (nI_inc1 _) (by decide) rfl (fun ls hl => ?_)
              refine lv_goto (tgt := 6) hx hb d_Y_under_80 (by decide) ?_
              exact ih (i + 1) (by omega) _ (lv_sub hl [2, 3, 4, 5, 6, 0] (by rw [show cN (y_up g v b r x eq) (i + 1) = _ from cN_f (fun hz => c56 hz.1)]; rfl))
            · refine lv_iload hx hb d_Y_under_59 (lv_at hl 0 rfl) ?_
              refine n_ifeq (tgt := 77) hx hb (by first | omega | exact Nat.le_trans (hB _ _) (by decide) | exact Nat.le_trans (bI_le _) (by decide)) d_Y_under_61 (by decide) (fun c61 => ?_) (fun hz => absurd hz (by decide))
              refine lv_iinc (v := nI (i + 1)) (lv' := [(5, .int (nI (i + 1))), (6, .int (nI (0))), (0, .ref (q 0)), (1, .int (nI (r))), (2, .int (x)), (3, .int (nI (eq))), (4, .int (nI (cN (y_up g v b r x eq) i)))]) hx hb d_Y_under_77 hl (k := 6) rfl (nI_inc1 _) (by decide) rfl (fun ls hl => ?_)
              refine lv_goto (tgt := 6) hx hb d_Y_under_80 (by decide) ?_
              exact ih (i + 1) (by omega) _ (lv_sub hl [2, 3, 4, 5, 6, 0] (by rw [show cN (y_up g v b r x eq) (i + 1) = _ from cN_f (fun hz => hz.2.1.elim c23 (fun k => c38 k.2))]; rfl))
          · refine lv_iconst (v := nI 1) hx hb d_Y_under_41 rfl ?_
            refine lv_goto (tgt := 46) hx hb d_Y_under_42 (by decide) ?_
            refine lv_istore (lv' := [(6, .int (nI (1))), (0, .ref (q 0)), (1, .int (nI (r))), (2, .int (x)), (3, .int (nI (eq))), (4, .int (nI (cN (y_up g v b r x eq) i))), (5, .int (nI (i)))]) hx hb d_Y_under_46 hl (by decide) rfl (fun ls hl => ?_)
            refine lv_aload_n hx hb d_Y_under_48 rfl (lv_at hl 1 rfl) ?_
            refine y_g1 C P d_Y_under_49 ?_
            refine lv_iload hx hb d_Y_under_52 (lv_at hl 6 rfl) ?_
            refine y_l1 C P (by omega) d_Y_under_54 ?_
            refine lv_iconst (v := nI 2) hx hb d_Y_under_55 rfl ?_
            refine n_ne (tgt := 77) hx hb (by first | omega | exact Nat.le_trans (hB _ _) (by decide) | exact Nat.le_trans (bI_le _) (by decide)) (by first | omega | exact Nat.le_trans (hB _ _) (by decide) | exact Nat.le_trans (bI_le _) (by decide)) d_Y_under_56 (by decide) (fun c56 => ?_) (fun c56 => ?_)
            · refine lv_iinc (v := nI (i + 1)) (lv' := [(5, .int (nI (i + 1))), (6, .int (nI (1))), (0, .ref (q 0)), (1, .int (nI (r))), (2, .int (x)), (3, .int (nI (eq))), (4, .int (nI (cN (y_up g v b r x eq) i)))]) hx hb d_Y_under_77 hl (k := 6) rfl (nI_inc1 _) (by decide) rfl (fun ls hl => ?_)
              refine lv_goto (tgt := 6) hx hb d_Y_under_80 (by decide) ?_
              exact ih (i + 1) (by omega) _ (lv_sub hl [2, 3, 4, 5, 6, 0] (by rw [show cN (y_up g v b r x eq) (i + 1) = _ from cN_f (fun hz => c56 hz.1)]; rfl))
            · refine lv_iload hx hb d_Y_under_59 (lv_at hl 0 rfl) ?_
              refine n_ifeq (tgt := 77) hx hb (by first | omega | exact Nat.le_trans (hB _ _) (by decide) | exact Nat.le_trans (bI_le _) (by decide)) d_Y_under_61 (by decide) (fun hz => absurd hz (by decide)) (fun c61 => ?_)
              refine lv_aload_n hx hb d_Y_under_64 rfl (lv_at hl 1 rfl) ?_
              refine lv_iload_n hx hb d_Y_under_65 rfl (lv_at hl 2 rfl) ?_
              refine lv_iload hx hb d_Y_under_66 (lv_at hl 6 rfl) ?_
              refine z_callr C P L_Y_stands rfl rfl (c_Y_stands hr (by omega) hB) ⟨by decide, by decide⟩ rfl hl.1 (Nat.le_of_ble_eq_true rfl) hf d_Y_under_68 rfl ?_
              refine n_ifeq (tgt := 77) hx hb (by first | omega | exact Nat.le_trans (hB _ _) (by decide) | exact Nat.le_trans (bI_le _) (by decide)) d_Y_under_71 (by decide) (fun c71 => ?_) (fun c71 => ?_)
              · refine lv_iinc (v := nI (i + 1)) (lv' := [(5, .int (nI (i + 1))), (6, .int (nI (1))), (0, .ref (q 0)), (1, .int (nI (r))), (2, .int (x)), (3, .int (nI (eq))), (4, .int (nI (cN (y_up g v b r x eq) i)))]) hx hb d_Y_under_77 hl (k := 6) rfl (nI_inc1 _) (by decide) rfl (fun ls hl => ?_)
                refine lv_goto (tgt := 6) hx hb d_Y_under_80 (by decide) ?_
                exact ih (i + 1) (by omega) _ (lv_sub hl [2, 3, 4, 5, 6, 0] (by rw [show cN (y_up g v b r x eq) (i + 1) = _ from cN_f (fun hz => bI_0 c71 hz.2.2)]; rfl))
              · refine lv_iinc (v := nI ((cN (y_up g v b r x eq) i) + 1)) (lv' := [(4, .int (nI ((cN (y_up g v b r x eq) i) + 1))), (6, .int (nI (1))), (0, .ref (q 0)), (1, .int (nI (r))), (2, .int (x)), (3, .int (nI (eq))), (5, .int (nI (i)))]) hx hb d_Y_under_74 hl (k := 5) rfl (nI_inc1 _) (by decide) rfl (fun ls hl => ?_)
                refine lv_iinc (v := nI (i + 1)) (lv' := [(5, .int (nI (i + 1))), (4, .int (nI ((cN (y_up g v b r x eq) i) + 1))), (6, .int (nI (1))), (0, .ref (q 0)), (1, .int (nI (r))), (2, .int (x)), (3, .int (nI (eq)))]) hx hb d_Y_under_77 hl (k := 6) rfl (nI_inc1 _) (by decide) rfl (fun ls hl => ?_)
                refine lv_goto (tgt := 6) hx hb d_Y_under_80 (by decide) ?_
                exact ih (i + 1) (by omega) _ (lv_sub hl [3, 4, 5, 6, 1, 0] (by rw [show cN (y_up g v b r x eq) (i + 1) = _ from cN_t ⟨c56, Or.inr ⟨c27, c38⟩, bI_n0 c71⟩]; rfl))
  refine lv_iconst (v := nI 0) hx hb d_Y_under_0 rfl ?_
  refine lv_istore (lv' := [(4, .int (nI (0))), (0, .ref (q 0)), (1, .int (nI (r))), (2, .int (x)), (3, .int (nI (eq)))]) hx hb d_Y_under_1 hl (by decide) rfl (fun ls hl => ?_)
  refine lv_iconst (v := nI 0) hx hb d_Y_under_3 rfl ?_
  refine lv_istore (lv' := [(5, .int (nI (0))), (4, .int (nI (0))), (0, .ref (q 0)), (1, .int (nI (r))), (2, .int (x)), (3, .int (nI (eq)))]) hx hb d_Y_under_4 hl (by decide) rfl (fun ls hl => ?_)
  exact loop (g 0 0) 0 (by omega) _ (lv_sub hl [2, 3, 4, 5, 1, 0] rfl)
set_option maxHeartbeats 2000000 in
set_option maxRecDepth 20000 in
theorem c_Y_value {l : Launch} {D : va_G} {cI cL : ClassId} {q : Nat → Nat} {g : Nat → Nat → Nat} {v : Nat → Nat → Int32} {b : Nat → Nat → Int64} {r : Nat} {y z : Int32} (hr : r < 3) (hz9 : y_vv g v b r y z) (hB : x_Bd g) : z_Mr l y_Y_value b_Y_value 6 (some .int) 2 D cI cL (y_ws q cI cL g v b) [.ref (q 0), .int (nI (r)), .int (y)] (z) := by
  refine z_mr (own := R_Y) (by decide) rfl (Nat.le_of_ble_eq_true rfl) ?_
  intro p e s m args below meth c A ls C P hret hlk hl
  have hx := C.1
  have hb := C.2.1
  have hf : 0 ≤ (z_rm 2).cells ∧ 0 ≤ (z_rm 2).slots := ⟨Nat.zero_le _, Nat.zero_le _⟩
  have hl : lv_has ls 6 [(0, .ref (q 0)), (1, .int (nI (r))), (2, .int (y))] := hl
  have h00 := hB 0 0
  have loop : ∀ n i, i + n = g 0 0 → (∀ k, k < i → ¬ y_vc g v b r y k) → ∀ ls, lv_has ls 6 [(0, .ref (q 0)), (1, .int (nI (r))), (2, .int (y)), (3, .int (nI (i)))] → W p l e (z_rm 2) s m args below meth c s.heap [] 0 0 (MQ below (QcRead (z)) args s 0 0 (fun _ => False)) (F0 m 11 ls []) := by
    intro n
    induction n with
    | zero =>
      intro i hoi hi ls hl
      obtain rfl : i = g 0 0 := by omega
      refine lv_iload_n hx hb d_Y_value_11 rfl (lv_at hl 3 rfl) ?_
      refine lv_aload_n hx hb d_Y_value_12 rfl (lv_at hl 0 rfl) ?_
      refine y_g0 C P d_Y_value_13 ?_
      refine n_ge (tgt := 91) hx hb (by first | omega | exact Nat.le_trans (hB _ _) (by decide) | exact Nat.le_trans (bI_le _) (by decide)) (by first | omega | exact Nat.le_trans (hB _ _) (by decide) | exact Nat.le_trans (bI_le _) (by decide)) d_Y_value_16 (by decide) (fun c16 => ?_) (fun hz => absurd hz (by omega))
      refine lv_iconst (v := nI 0) hx hb d_Y_value_91 rfl ?_
      refine n_top (y := z) (y_vv_none hz9 hi) ?_
      exact z_rr C.U hret rfl hlk d_Y_value_92
    | succ n ih =>
      intro i hoi hi ls hl
      refine lv_iload_n hx hb d_Y_value_11 rfl (lv_at hl 3 rfl) ?_
      refine lv_aload_n hx hb d_Y_value_12 rfl (lv_at hl 0 rfl) ?_
      refine y_g0 C P d_Y_value_13 ?_
      refine n_ge (tgt := 91) hx hb (by first | omega | exact Nat.le_trans (hB _ _) (by decide) | exact Nat.le_trans (bI_le _) (by decide)) (by first | omega | exact Nat.le_trans (hB _ _) (by decide) | exact Nat.le_trans (bI_le _) (by decide)) d_Y_value_16 (by decide) (fun hz => absurd hz (by omega)) (fun c16 => ?_)
      refine lv_aload_n hx hb d_Y_value_19 rfl (lv_at hl 0 rfl) ?_
      refine y_g1 C P d_Y_value_20 ?_
      refine lv_iload_n hx hb d_Y_value_23 rfl (lv_at hl 3 rfl) ?_
      refine y_l1 C P (by omega) d_Y_value_24 ?_
      refine lv_iconst (v := nI 2) hx hb d_Y_value_25 rfl ?_
      refine n_ne (tgt := 85) hx hb (by first | omega | exact Nat.le_trans (hB _ _) (by decide) | exact Nat.le_trans (bI_le _) (by decide)) (by first | omega | exact Nat.le_trans (hB _ _) (by decide) | exact Nat.le_trans (bI_le _) (by decide)) d_Y_value_26 (by decide) (fun c26 => ?_) (fun c26 => ?_)
      · refine lv_iinc (v := nI (i + 1)) (lv' := [(3, .int (nI (i + 1))), (0, .ref (q 0)), (1, .int (nI (r))), (2, .int (y))]) hx hb d_Y_value_85 hl (k := 3) rfl (nI_inc1 _) (by decide) rfl (fun ls hl => ?_)
        refine lv_goto (tgt := 11) hx hb d_Y_value_88 (by decide) ?_
        exact ih (i + 1) (by omega) (lt_s hi (fun hz => c26 hz.1)) _ (lv_sub hl [1, 2, 3, 0] rfl)
      · refine lv_aload_n hx hb d_Y_value_29 rfl (lv_at hl 0 rfl) ?_
        refine lv_iload_n hx hb d_Y_value_30 rfl (lv_at hl 1 rfl) ?_
        refine lv_iload_n hx hb d_Y_value_31 rfl (lv_at hl 3 rfl) ?_
        refine z_callr C P L_Y_stands rfl rfl (c_Y_stands hr (by omega) hB) ⟨by decide, by decide⟩ rfl hl.1 (Nat.le_of_ble_eq_true rfl) hf d_Y_value_32 rfl ?_
        refine n_ifeq (tgt := 85) hx hb (by first | omega | exact Nat.le_trans (hB _ _) (by decide) | exact Nat.le_trans (bI_le _) (by decide)) d_Y_value_35 (by decide) (fun c35 => ?_) (fun c35 => ?_)
        · refine lv_iinc (v := nI (i + 1)) (lv' := [(3, .int (nI (i + 1))), (0, .ref (q 0)), (1, .int (nI (r))), (2, .int (y))]) hx hb d_Y_value_85 hl (k := 3) rfl (nI_inc1 _) (by decide) rfl (fun ls hl => ?_)
          refine lv_goto (tgt := 11) hx hb d_Y_value_88 (by decide) ?_
          exact ih (i + 1) (by omega) (lt_s hi (fun hz => bI_0 c35 hz.2.1)) _ (lv_sub hl [1, 2, 3, 0] rfl)
        · refine lv_aload_n hx hb d_Y_value_38 rfl (lv_at hl 0 rfl) ?_
          refine lv_iload_n hx hb d_Y_value_39 rfl (lv_at hl 1 rfl) ?_
          refine lv_aload_n hx hb d_Y_value_40 rfl (lv_at hl 0 rfl) ?_
          refine y_g2 C P d_Y_value_41 ?_
          refine lv_iload_n hx hb d_Y_value_44 rfl (lv_at hl 3 rfl) ?_
          refine y_l2 C P (by omega) d_Y_value_45 ?_
          refine lv_iconst (v := nI 0) hx hb d_Y_value_46 rfl ?_
          refine z_callr C P L_Y_under rfl rfl (c_Y_under (eq := 0) hr (by decide) hB) ⟨by decide, by decide⟩ rfl hl.1 (Nat.le_of_ble_eq_true rfl) hf d_Y_value_47 rfl ?_
          refine lv_istore (lv' := [(4, .int (nI (cN (y_up g v b r (v 2 i) 0) (g 0 0)))), (0, .ref (q 0)), (1, .int (nI (r))), (2, .int (y)), (3, .int (nI (i)))]) hx hb d_Y_value_50 hl (by decide) rfl (fun ls hl => ?_)
          refine lv_aload_n hx hb d_Y_value_52 rfl (lv_at hl 1 rfl) ?_
          refine lv_iload_n hx hb d_Y_value_53 rfl (lv_at hl 2 rfl) ?_
          refine lv_aload_n hx hb d_Y_value_54 rfl (lv_at hl 1 rfl) ?_
          refine y_g2 C P d_Y_value_55 ?_
          refine lv_iload_n hx hb d_Y_value_58 rfl (lv_at hl 4 rfl) ?_
          refine y_l2 C P (by omega) d_Y_value_59 ?_
          refine lv_iconst (v := nI 1) hx hb d_Y_value_60 rfl ?_
          refine z_callr C P L_Y_under rfl rfl (c_Y_under (eq := 1) hr (by decide) hB) ⟨by decide, by decide⟩ rfl hl.1 (Nat.le_of_ble_eq_true rfl) hf d_Y_value_61 rfl ?_
          refine lv_istore (lv' := [(5, .int (nI (cN (y_up g v b r (v 2 i) 1) (g 0 0)))), (4, .int (nI (cN (y_up g v b r (v 2 i) 0) (g 0 0)))), (0, .ref (q 0)), (1, .int (nI (r))), (2, .int (y)), (3, .int (nI (i)))]) hx hb d_Y_value_64 hl (by decide) rfl (fun ls hl => ?_)
          refine lv_iload hx hb d_Y_value_66 (lv_at hl 1 rfl) ?_
          refine lv_iload_n hx hb d_Y_value_68 rfl (lv_at hl 4 rfl) ?_
          refine lv_icmp_gt (tgt := 85) hx hb d_Y_value_69 (by decide) (fun c69 => ?_) (fun c69 => ?_)
          · refine lv_iinc (v := nI (i + 1)) (lv' := [(3, .int (nI (i + 1))), (5, .int (nI (cN (y_up g v b r (v 2 i) 1) (g 0 0)))), (4, .int (nI (cN (y_up g v b r (v 2 i) 0) (g 0 0)))), (0, .ref (q 0)), (1, .int (nI (r))), (2, .int (y))]) hx hb d_Y_value_85 hl (k := 5) rfl (nI_inc1 _) (by decide) rfl (fun ls hl => ?_)
            refine lv_goto (tgt := 11) hx hb d_Y_value_88 (by decide) ?_
            exact ih (i + 1) (by omega) (lt_s hi (fun hz => Int32.not_lt.mpr hz.2.2.1 c69)) _ (lv_sub hl [3, 4, 5, 0] rfl)
          · refine lv_iload_n hx hb d_Y_value_72 rfl (lv_at hl 4 rfl) ?_
            refine lv_iload hx hb d_Y_value_73 (lv_at hl 0 rfl) ?_
            refine lv_icmp_ge (tgt := 85) hx hb d_Y_value_75 (by decide) (fun c75 => ?_) (fun c75 => ?_)
            · refine lv_iinc (v := nI (i + 1)) (lv' := [(3, .int (nI (i + 1))), (5, .int (nI (cN (y_up g v b r (v 2 i) 1) (g 0 0)))), (4, .int (nI (cN (y_up g v b r (v 2 i) 0) (g 0 0)))), (0, .ref (q 0)), (1, .int (nI (r))), (2, .int (y))]) hx hb d_Y_value_85 hl (k := 5) rfl (nI_inc1 _) (by decide) rfl (fun ls hl => ?_)
              refine lv_goto (tgt := 11) hx hb d_Y_value_88 (by decide) ?_
              exact ih (i + 1) (by omega) (lt_s hi (fun hz => Int32.not_le.mpr hz.2.2.2 c75)) _ (lv_sub hl [3, 4, 5, 0] rfl)
            · refine lv_aload_n hx hb d_Y_value_78 rfl (lv_at hl 2 rfl) ?_
              refine y_g2 C P d_Y_value_79 ?_
              refine lv_iload_n hx hb d_Y_value_82 rfl (lv_at hl 5 rfl) ?_
              refine y_l2 C P (by omega) d_Y_value_83 ?_
              refine n_top (y := z) (y_vv_hit hz9 (by omega) hi ⟨c26, bI_n0 c35, Int32.not_lt.mp c69, Int32.not_le.mp c75⟩) ?_
              exact z_rr C.U hret rfl hlk d_Y_value_84
  refine lv_iload_n hx hb d_Y_value_0 rfl (lv_at hl 1 rfl) ?_
  refine z_calls C.U L_Y_bad (c_Y_bad_ok (x_ok_nI hr)) ⟨by decide, by decide⟩ rfl hl.1 (Nat.le_of_ble_eq_true rfl) hf d_Y_value_1 rfl ?_
  refine n_ifeq (tgt := 9) hx hb (by first | omega | exact Nat.le_trans (hB _ _) (by decide) | exact Nat.le_trans (bI_le _) (by decide)) d_Y_value_4 (by decide) (fun c4 => ?_) (fun hz => absurd hz (by decide))
  refine lv_iconst (v := nI 0) hx hb d_Y_value_9 rfl ?_
  refine lv_istore_n (lv' := [(3, .int (nI (0))), (0, .ref (q 0)), (1, .int (nI (r))), (2, .int (y))]) hx hb d_Y_value_10 rfl hl (by decide) rfl (fun ls hl => ?_)
  exact loop (g 0 0) 0 (by omega) lt_0 _ (lv_sub hl [1, 2, 3, 0] rfl)
end
section
/-! counting; the number of a change among its origin's -/
theorem cN_congr {p p' : Nat → Prop} : ∀ {n : Nat}, (∀ i, i < n → (p i ↔ p' i)) → cN p n = cN p' n
  | 0, _ => rfl
  | n + 1, h => by
    show cN p n + bI (p n) = cN p' n + bI (p' n)
    rw [cN_congr (n := n) (fun i hi => h i (by omega)), bI_iff (h n (by omega))]
theorem cN_none {p : Nat → Prop} : ∀ {n : Nat}, (∀ i, i < n → ¬ p i) → cN p n = 0
  | 0, _ => rfl
  | n + 1, h => by rw [cN_f (h n (by omega)), cN_none (fun i hi => h i (by omega))]
theorem cN_one {p : Nat → Prop} {G : Prop} {c : Nat} : ∀ {n : Nat}, c < n → (∀ i, i < n → (p i ↔ i = c ∧ G)) → cN p n = bI G
  | 0, hc, _ => absurd hc (by omega)
  | n + 1, hc, h => by
    by_cases hn : n = c
    · subst hn
      show cN p n + bI (p n) = bI G
      rw [cN_none (fun i hi k => by have := ((h i (by omega)).mp k).1; omega), bI_iff (show p n ↔ G from ⟨fun k => ((h n (by omega)).mp k).2, fun k => (h n (by omega)).mpr ⟨rfl, k⟩⟩), Nat.zero_add]
    · rw [cN_f (fun k => hn ((h n (by omega)).mp k).1), cN_one (by omega) (fun i hi => h i (by omega))]
theorem bI_or3 {P P0 P1 P2 : Prop} (h : P ↔ P0 ∨ P1 ∨ P2) (h01 : ¬ (P0 ∧ P1)) (h02 : ¬ (P0 ∧ P2)) (h12 : ¬ (P1 ∧ P2)) : bI P = bI P0 + bI P1 + bI P2 := by
  by_cases k0 : P0
  · rw [bI_t (h.mpr (Or.inl k0)), bI_t k0, bI_f (fun k => h01 ⟨k0, k⟩), bI_f (fun k => h02 ⟨k0, k⟩)]
  · by_cases k1 : P1
    · rw [bI_t (h.mpr (Or.inr (Or.inl k1))), bI_f k0, bI_t k1, bI_f (fun k => h12 ⟨k1, k⟩)]
    · by_cases k2 : P2
      · rw [bI_t (h.mpr (Or.inr (Or.inr k2))), bI_f k0, bI_f k1, bI_t k2]
      · rw [bI_f (fun k => (h.mp k).elim k0 (fun k => k.elim k1 k2)), bI_f k0, bI_f k1, bI_f k2]
/-- by origins -/
theorem cN_split {og : Nat → Nat} {p : Nat → Prop} : ∀ {n : Nat}, (∀ i, i < n → og i < 3) → cN p n = cN (fun i => og i = 0 ∧ p i) n + cN (fun i => og i = 1 ∧ p i) n + cN (fun i => og i = 2 ∧ p i) n
  | 0, _ => rfl
  | n + 1, h => by
    have ih := cN_split (n := n) (p := p) (fun i hi => h i (by omega))
    have hn := h n (by omega)
    have e : bI (p n) = bI (og n = 0 ∧ p n) + bI (og n = 1 ∧ p n) + bI (og n = 2 ∧ p n) := bI_or3 (by constructor <;> intro k <;> first | (rcases (show og n = 0 ∨ og n = 1 ∨ og n = 2 by omega) with q | q | q <;> simp [q, k]; done) | (rcases k with k | k | k <;> exact k.2)) (by omega) (by omega) (by omega)
    show cN p n + bI (p n) = (cN _ n + bI (og n = 0 ∧ p n)) + (cN _ n + bI (og n = 1 ∧ p n)) + (cN _ n + bI (og n = 2 ∧ p n))
    rw [ih, e]
    omega
noncomputable def oc (og : Nat → Nat) (o n : Nat) : Nat := cN (fun i => og i = o) n
noncomputable def num (og : Nat → Nat) (c : Nat) : Nat := oc og (og c) c + 1
theorem oc_t {og : Nat → Nat} {o n : Nat} (h : og n = o) : oc og o (n + 1) = oc og o n + 1 := cN_t h
theorem oc_f {og : Nat → Nat} {o n : Nat} (h : og n ≠ o) : oc og o (n + 1) = oc og o n := cN_f h
theorem oc_s (og : Nat → Nat) (o n : Nat) : oc og o n ≤ oc og o (n + 1) := by
  by_cases h : og n = o
  · rw [oc_t h]; omega
  · rw [oc_f h]; omega
theorem oc_mono {og : Nat → Nat} {o a : Nat} : ∀ {b : Nat}, a ≤ b → oc og o a ≤ oc og o b
  | 0, h => by
    obtain rfl : a = 0 := by omega
    exact Nat.le_refl _
  | b + 1, h => by
    by_cases hb : a = b + 1
    · rw [hb]; exact Nat.le_refl _
    · exact Nat.le_trans (oc_mono (b := b) (by omega)) (oc_s og o b)
theorem oc_lt {og : Nat → Nat} {o a b : Nat} (h : a < b) (ha : og a = o) : oc og o a < oc og o b := by
  have := oc_mono (og := og) (o := o) (a := a + 1) (b := b) h
  rw [oc_t ha] at this
  omega
theorem oc_le (og : Nat → Nat) (o n : Nat) : oc og o n ≤ n := cN_le _ n
theorem num_le {og : Nat → Nat} {c n : Nat} (h : c < n) : num og c ≤ oc og (og c) n := oc_lt h rfl
theorem num_pos (og : Nat → Nat) (c : Nat) : 0 < num og c := Nat.succ_pos _
theorem num_lt {og : Nat → Nat} {c d : Nat} (h : og c = og d) (hl : c < d) : num og c < num og d := by
  have := oc_lt (og := og) hl h
  unfold num
  rw [h]
  omega
theorem num_inj {og : Nat → Nat} {c d : Nat} (h : og c = og d) (hn : num og c = num og d) : c = d := by
  rcases Nat.lt_trichotomy c d with q | q | q
  · have := num_lt h q; omega
  · exact q
  · have := num_lt h.symm q; omega
theorem num_lt' {og : Nat → Nat} {c d : Nat} (h : og c = og d) (hn : num og c < num og d) : c < d := by
  rcases Nat.lt_trichotomy c d with q | q | q
  · exact q
  · subst q; omega
  · have := num_lt h.symm q; omega
theorem oc_ex {og : Nat → Nat} {o : Nat} : ∀ {n i : Nat}, 0 < i → i ≤ oc og o n → ∃ c, c < n ∧ og c = o ∧ num og c = i
  | 0, i, h0, h => absurd h (by show ¬ i ≤ 0; omega)
  | n + 1, i, h0, h => by
    by_cases hn : og n = o
    · rw [oc_t hn] at h
      by_cases hi : i ≤ oc og o n
      · obtain ⟨c, h1, h2, h3⟩ := oc_ex h0 hi
        exact ⟨c, by omega, h2, h3⟩
      · refine ⟨n, by omega, hn, ?_⟩
        unfold num
        rw [hn]
        omega
    · rw [oc_f hn] at h
      obtain ⟨c, h1, h2, h3⟩ := oc_ex h0 h
      exact ⟨c, by omega, h2, h3⟩
theorem oc_congr {og og' : Nat → Nat} {o n : Nat} (h : ∀ i, i < n → og' i = og i) : oc og' o n = oc og o n := cN_congr (fun i hi => by rw [h i hi])
theorem num_congr {og og' : Nat → Nat} {c n : Nat} (h : ∀ i, i < n → og' i = og i) (hc : c < n) : num og' c = num og c := by
  unfold num
  rw [h c hc, oc_congr (fun i hi => h i (by omega))]
/-- how many of an origin have a number up to q -/
theorem cN_upto {og : Nat → Nat} {o q : Nat} : ∀ n, cN (fun c => og c = o ∧ num og c ≤ q) n = if q ≤ oc og o n then q else oc og o n
  | 0 => by
    show 0 = if q ≤ 0 then q else 0
    split <;> omega
  | n + 1 => by
    have ih := cN_upto (og := og) (o := o) (q := q) n
    by_cases hn : og n = o
    · have e : num og n = oc og o n + 1 := by unfold num; rw [hn]
      rw [oc_t hn]
      by_cases hq : num og n ≤ q
      · rw [cN_t ⟨hn, hq⟩, ih]
        split <;> split <;> omega
      · rw [cN_f (fun k => hq k.2), ih]
        split <;> split <;> omega
    · rw [oc_f hn, cN_f (fun k => hn k.1), ih]
/-- sums by origins: A o i is the sum up to number i -/
theorem sI_upto {og so : Nat → Nat} {ar : Nat → Int32} {A : Nat → Nat → Int32} {q : Nat → Nat} {N : Nat} (h3 : ∀ c, c < N → og c < 3) (hA0 : ∀ o, o < 3 → A o 0 = 0) (hA : ∀ c, c < N → A (og c) (num og c) = A (og c) (num og c - 1) + bW (so c = 3) (ar c)) :
    ∀ n, n ≤ N → sI (fun c => so c = 3 ∧ num og c ≤ q (og c)) ar n = A 0 (if q 0 ≤ oc og 0 n then q 0 else oc og 0 n) + A 1 (if q 1 ≤ oc og 1 n then q 1 else oc og 1 n) + A 2 (if q 2 ≤ oc og 2 n then q 2 else oc og 2 n)
  | 0, _ => by
    have e : ∀ o, oc og o 0 = 0 := fun _ => rfl
    have e2 : ∀ q : Nat, (if q ≤ 0 then q else 0) = 0 := fun q => by split <;> omega
    rw [e, e, e, e2, e2, e2, hA0 0 (by omega), hA0 1 (by omega), hA0 2 (by omega)]
    rfl
  | n + 1, hn => by
    have ih := sI_upto (q := q) h3 hA0 hA n (by omega)
    have hc := hA n (by omega)
    have h3n := h3 n (by omega)
    have en : num og n = oc og (og n) n + 1 := rfl
    have step : ∀ o, o ≠ og n → oc og o (n + 1) = oc og o n := fun o ho => oc_f (Ne.symm ho)
    have self : oc og (og n) (n + 1) = oc og (og n) n + 1 := oc_t rfl
    have key : sI (fun c => so c = 3 ∧ num og c ≤ q (og c)) ar (n + 1) = sI (fun c => so c = 3 ∧ num og c ≤ q (og c)) ar n + (A (og n) (if q (og n) ≤ oc og (og n) (n + 1) then q (og n) else oc og (og n) (n + 1)) - A (og n) (if q (og n) ≤ oc og (og n) n then q (og n) else oc og (og n) n)) := by
      by_cases hq : num og n ≤ q (og n)
      · have e1 : (if q (og n) ≤ oc og (og n) (n + 1) then q (og n) else oc og (og n) (n + 1)) = num og n := by split <;> omega
        have e2 : (if q (og n) ≤ oc og (og n) n then q (og n) else oc og (og n) n) = num og n - 1 := by split <;> omega
        rw [e1, e2, hc]
        by_cases h4 : so n = 3
        · rw [sI_t ⟨h4, hq⟩, bW_t h4, Int32.add_comm (A (og n) (num og n - 1)) (ar n), Int32.add_sub_cancel]
        · rw [sI_f (fun k => h4 k.1), bW_f h4, Int32.add_zero, Int32.sub_self, Int32.add_zero]
      · have e1 : (if q (og n) ≤ oc og (og n) (n + 1) then q (og n) else oc og (og n) (n + 1)) = (if q (og n) ≤ oc og (og n) n then q (og n) else oc og (og n) n) := by split <;> split <;> omega
        rw [e1, Int32.sub_self, Int32.add_zero, sI_f (fun k => hq k.2)]
    rw [key, ih]
    rcases (show og n = 0 ∨ og n = 1 ∨ og n = 2 by omega) with h | h | h
    · rw [h] at step ⊢
      rw [step 1 (by omega), step 2 (by omega)]
      grind
    · rw [h] at step ⊢
      rw [step 0 (by omega), step 2 (by omega)]
      grind
    · rw [h] at step ⊢
      rw [step 0 (by omega), step 1 (by omega)]
      grind
theorem sI_congr {p p' : Nat → Prop} {w w' : Nat → Int32} : ∀ {n : Nat}, (∀ i, i < n → (p i ↔ p' i)) → (∀ i, i < n → w i = w' i) → sI p w n = sI p' w' n
  | 0, _, _ => rfl
  | n + 1, h, hw => by
    show sI p w n + bW (p n) (w n) = sI p' w' n + bW (p' n) (w' n)
    rw [sI_congr (n := n) (fun i hi => h i (by omega)) (fun i hi => hw i (by omega)), propext (h n (by omega)), hw n (by omega)]
theorem sI_diff {p q r : Nat → Prop} {w : Nat → Int32} : ∀ {n : Nat}, (∀ i, i < n → (p i ↔ q i ∧ ¬ r i)) → (∀ i, i < n → r i → q i) → sI p w n = sI q w n - sI r w n
  | 0, _, _ => by show (0 : Int32) = 0 - 0; decide
  | n + 1, h, hr => by
    have ih := sI_diff (n := n) (w := w) (fun i hi => h i (by omega)) (fun i hi => hr i (by omega))
    have h1 := h n (by omega)
    have h2 := hr n (by omega)
    show sI p w n + bW (p n) (w n) = (sI q w n + bW (q n) (w n)) - (sI r w n + bW (r n) (w n))
    rw [ih]
    by_cases k : r n
    · rw [bW_t k, bW_t (h2 k), bW_f (fun z => (h1.mp z).2 k)]
      grind
    · by_cases k2 : q n
      · rw [bW_f k, bW_t k2, bW_t (h1.mpr ⟨k2, k⟩)]
        grind
      · rw [bW_f k, bW_f k2, bW_f (fun z => k2 (h1.mp z).1)]
        grind
end
section
/-! what a replica keeps, over the changes it knows -/
def kw (n : Nat) (og : Nat → Nat) (k : Nat → Nat) (d : Nat) : Prop := d < n ∧ num og d ≤ k (og d)
def z_LV (n : Nat) (og : Nat → Nat) (sn : Nat → Nat → Nat) (k : Nat → Nat) (T Kl : Nat → Prop) (o x : Nat) : Prop :=
  (0 < x → (∃ c, c < n ∧ og c = o ∧ num og c = x ∧ T c) ∧ x ≤ k o ∧ ∀ d, kw n og k d → Kl d → sn d o < x) ∧
  ∀ c, c < n → og c = o → T c → x < num og c → num og c ≤ k o → ∃ d, kw n og k d ∧ Kl d ∧ num og c ≤ sn d o
section REP
variable {n : Nat} {og so : Nat → Nat} {ar : Nat → Int32} {sn : Nat → Nat → Nat} {k k' k1 k2 : Nat → Nat} {T Kl : Nat → Prop} {o x c : Nat}
/-- one change more is known -/
def kUp (og : Nat → Nat) (c : Nat) (k k' : Nat → Nat) : Prop := ∀ a, a < 3 → k' a = if a = og c then num og c else k a
theorem kw_up (h3 : ∀ d, d < n → og d < 3) (hc : c < n) (hu : kUp og c k k') (hn : num og c = k (og c) + 1) {d : Nat} : kw n og k' d ↔ kw n og k d ∨ d = c := by
  unfold kw
  constructor
  · rintro ⟨h1, h2⟩
    rw [hu _ (h3 d h1)] at h2
    by_cases ho : og d = og c
    · rw [if_pos ho] at h2
      by_cases hd : d = c
      · exact Or.inr hd
      · left
        refine ⟨h1, ?_⟩
        rw [ho]
        have : num og d ≠ num og c := fun q => hd (num_inj ho q)
        omega
    · rw [if_neg ho] at h2
      exact Or.inl ⟨h1, h2⟩
  · rintro (⟨h1, h2⟩ | h)
    · refine ⟨h1, ?_⟩
      rw [hu _ (h3 d h1)]
      by_cases ho : og d = og c
      · rw [if_pos ho]; rw [ho] at h2; omega
      · rw [if_neg ho]; exact h2
    · subst h
      refine ⟨hc, ?_⟩
      rw [hu _ (h3 d hc), if_pos rfl]
      exact Nat.le_refl _
theorem kUp_le (hu : kUp og c k k') (hn : num og c = k (og c) + 1) (ho : o < 3) : k o ≤ k' o := by
  rw [hu o ho]
  split
  · next h => rw [h]; omega
  · exact Nat.le_refl _
theorem z_LV_set (h3 : ∀ d, d < n → og d < 3) (ho : o < 3) (hc : c < n) (hu : kUp og c k k') (hn : num og c = k (og c) + 1) (hcl : ∀ d, kw n og k d → sn d o ≤ k o) (hsn : sn c o ≤ k o) (hT : T c) (hoc : o = og c) : z_LV n og sn k' T Kl o (num og c) := by
  have hk' : k' o = num og c := by rw [hu o ho, if_pos hoc]
  refine ⟨fun _ => ⟨⟨c, hc, hoc.symm, rfl, hT⟩, by omega, fun d hd _ => ?_⟩, fun c2 _ _ _ h4 h5 => by omega⟩
  rw [hoc] at hsn hcl ⊢
  rcases (kw_up h3 hc hu hn).mp hd with h | h
  · have := hcl d h; omega
  · subst h; omega
theorem z_LV_drop (h3 : ∀ d, d < n → og d < 3) (ho : o < 3) (hc : c < n) (hu : kUp og c k k') (hn : num og c = k (og c) + 1) (hT : ¬ (T c ∧ o = og c)) (hK : Kl c) (h : z_LV n og sn k T Kl o x) : z_LV n og sn k' T Kl o (if x ≤ sn c o then 0 else x) := by
  have kk := fun d => (kw_up (d := d) h3 hc hu hn)
  have hle := kUp_le (o := o) hu hn ho
  refine ⟨fun hx => ?_, fun c2 h1 h2 hT2 h4 h5 => ?_⟩
  · by_cases hq : x ≤ sn c o
    · rw [if_pos hq] at hx; omega
    · rw [if_neg hq] at hx ⊢
      obtain ⟨a1, a2, a3⟩ := h.1 hx
      refine ⟨a1, by omega, fun d hd hKd => ?_⟩
      rcases (kk d).mp hd with hd | hd
      · exact a3 d hd hKd
      · subst hd; omega
  · have hne : c2 ≠ c := fun q => by subst q; exact hT ⟨hT2, h2.symm⟩
    have hk : num og c2 ≤ k o := by
      rw [hu o ho] at h5
      by_cases hoc : o = og c
      · rw [if_pos hoc] at h5
        have : num og c2 ≠ num og c := fun q => hne (num_inj (h2.trans hoc) q)
        rw [hoc]; omega
      · rw [if_neg hoc] at h5; exact h5
    by_cases hq : num og c2 ≤ sn c o
    · exact ⟨c, (kk c).mpr (Or.inr rfl), hK, hq⟩
    · have hx2 : x < num og c2 := by
        by_cases hq2 : x ≤ sn c o
        · omega
        · rw [if_neg hq2] at h4; exact h4
      obtain ⟨d, b1, b2, b3⟩ := h.2 c2 h1 h2 hT2 hx2 hk
      exact ⟨d, (kk d).mpr (Or.inl b1), b2, b3⟩
theorem z_LV_same (h3 : ∀ d, d < n → og d < 3) (ho : o < 3) (hc : c < n) (hu : kUp og c k k') (hn : num og c = k (og c) + 1) (hT : ¬ (T c ∧ o = og c)) (hK : ¬ Kl c) (h : z_LV n og sn k T Kl o x) : z_LV n og sn k' T Kl o x := by
  have kk := fun d => (kw_up (d := d) h3 hc hu hn)
  have hle := kUp_le (o := o) hu hn ho
  refine ⟨fun hx => ?_, fun c2 h1 h2 hT2 h4 h5 => ?_⟩
  · obtain ⟨a1, a2, a3⟩ := h.1 hx
    refine ⟨a1, by omega, fun d hd hKd => ?_⟩
    rcases (kk d).mp hd with hd | hd
    · exact a3 d hd hKd
    · subst hd; exact absurd hKd hK
  · have hne : c2 ≠ c := fun q => by subst q; exact hT ⟨hT2, h2.symm⟩
    have hk : num og c2 ≤ k o := by
      rw [hu o ho] at h5
      by_cases hoc : o = og c
      · rw [if_pos hoc] at h5
        have : num og c2 ≠ num og c := fun q => hne (num_inj (h2.trans hoc) q)
        rw [hoc]; omega
      · rw [if_neg hoc] at h5; exact h5
    obtain ⟨d, b1, b2, b3⟩ := h.2 c2 h1 h2 hT2 h4 hk
    exact ⟨d, (kk d).mpr (Or.inl b1), b2, b3⟩
/-- two replicas are joined -/
def kMx (k1 k2 k' : Nat → Nat) : Prop := ∀ a, a < 3 → k' a = x_mx (k2 a) (k1 a)
theorem kMx_l (h : kMx k1 k2 k') (ho : o < 3) : k1 o ≤ k' o := by rw [h o ho]; unfold x_mx; split <;> omega
theorem kMx_r (h : kMx k1 k2 k') (ho : o < 3) : k2 o ≤ k' o := by rw [h o ho]; unfold x_mx; split <;> omega
theorem kMx_c (h : kMx k1 k2 k') (ho : o < 3) {i : Nat} (hi : i ≤ k' o) : i ≤ k1 o ∨ i ≤ k2 o := by
  rw [h o ho] at hi
  unfold x_mx at hi
  split at hi <;> omega
theorem kw_mx (h3 : ∀ d, d < n → og d < 3) (hu : kMx k1 k2 k') {d : Nat} : kw n og k' d ↔ kw n og k1 d ∨ kw n og k2 d := by
  unfold kw
  constructor
  · rintro ⟨h1, h2⟩
    rcases kMx_c hu (h3 d h1) h2 with h | h
    · exact Or.inl ⟨h1, h⟩
    · exact Or.inr ⟨h1, h⟩
  · rintro (⟨h1, h2⟩ | ⟨h1, h2⟩)
    · exact ⟨h1, Nat.le_trans h2 (kMx_l hu (h3 d h1))⟩
    · exact ⟨h1, Nat.le_trans h2 (kMx_r hu (h3 d h1))⟩
theorem z_LV_join {x1 x2 : Nat} (h3 : ∀ d, d < n → og d < 3) (ho : o < 3) (hu : kMx k1 k2 k') (hc1 : ∀ d, kw n og k1 d → sn d o ≤ k1 o) (hc2 : ∀ d, kw n og k2 d → sn d o ≤ k2 o) (h1 : z_LV n og sn k1 T Kl o x1) (h2 : z_LV n og sn k2 T Kl o x2) : z_LV n og sn k' T Kl o (x_sur x1 (k1 o) x2 (k2 o)) := by
  have kk := fun d => (kw_mx (d := d) h3 hu)
  have hl := kMx_l hu ho
  have hr := kMx_r hu ho
  have b1 : x1 ≤ k1 o := by
    by_cases q : 0 < x1
    · exact (h1.1 q).2.1
    · omega
  have b2 : x2 ≤ k2 o := by
    by_cases q : 0 < x2
    · exact (h2.1 q).2.1
    · omega
  by_cases he : x1 = x2
  · have e : x_sur x1 (k1 o) x2 (k2 o) = x1 := by unfold x_sur; rw [if_pos he]
    rw [e]
    refine ⟨fun hx => ⟨(h1.1 hx).1, by omega, fun d hd hK => ?_⟩, fun c2 a1 a2 a3 a4 a5 => ?_⟩
    · rcases (kk d).mp hd with hd | hd
      · exact (h1.1 hx).2.2 d hd hK
      · rw [he]; exact (h2.1 (by omega)).2.2 d hd hK
    · rcases kMx_c hu ho a5 with q | q
      · obtain ⟨d, d1, d2, d3⟩ := h1.2 c2 a1 a2 a3 a4 q
        exact ⟨d, (kk d).mpr (Or.inl d1), d2, d3⟩
      · obtain ⟨d, d1, d2, d3⟩ := h2.2 c2 a1 a2 a3 (by omega) q
        exact ⟨d, (kk d).mpr (Or.inr d1), d2, d3⟩
  · by_cases q1 : x1 > k2 o
    · have e : x_sur x1 (k1 o) x2 (k2 o) = x1 := by
        unfold x_sur
        rw [if_neg he, if_pos q1, if_neg (show ¬ x2 > k1 o by omega), if_pos (by omega)]
      rw [e]
      refine ⟨fun hx => ⟨(h1.1 hx).1, by omega, fun d hd hK => ?_⟩, fun c2 a1 a2 a3 a4 a5 => ?_⟩
      · rcases (kk d).mp hd with hd | hd
        · exact (h1.1 hx).2.2 d hd hK
        · have := hc2 d hd; omega
      · obtain ⟨d, d1, d2, d3⟩ := h1.2 c2 a1 a2 a3 a4 (by rcases kMx_c hu ho a5 with q | q <;> omega)
        exact ⟨d, (kk d).mpr (Or.inl d1), d2, d3⟩
    · by_cases q2 : x2 > k1 o
      · have e : x_sur x1 (k1 o) x2 (k2 o) = x2 := by
          unfold x_sur
          rw [if_neg he, if_neg q1, if_pos q2, if_neg (by omega)]
        rw [e]
        refine ⟨fun hx => ⟨(h2.1 hx).1, by omega, fun d hd hK => ?_⟩, fun c2 a1 a2 a3 a4 a5 => ?_⟩
        · rcases (kk d).mp hd with hd | hd
          · have := hc1 d hd; omega
          · exact (h2.1 hx).2.2 d hd hK
        · obtain ⟨d, d1, d2, d3⟩ := h2.2 c2 a1 a2 a3 a4 (by rcases kMx_c hu ho a5 with q | q <;> omega)
          exact ⟨d, (kk d).mpr (Or.inr d1), d2, d3⟩
      · have e : x_sur x1 (k1 o) x2 (k2 o) = 0 := by
          unfold x_sur
          rw [if_neg he, if_neg q1, if_neg q2, if_neg (by omega)]
        rw [e]
        refine ⟨fun hx => absurd hx (by omega), fun c2 a1 a2 a3 a4 a5 => ?_⟩
        have big : num og c2 ≤ x1 → num og c2 ≤ x2 → ∃ d, kw n og k' d ∧ Kl d ∧ num og c2 ≤ sn d o := by
          intro z1 z2
          rcases Nat.lt_or_gt_of_ne he with q | q
          · obtain ⟨⟨c3, e1, e2, e3, e4⟩, -, -⟩ := h2.1 (by omega)
            obtain ⟨d, d1, d2, d3⟩ := h1.2 c3 e1 e2 e4 (by omega) (by omega)
            exact ⟨d, (kk d).mpr (Or.inl d1), d2, by omega⟩
          · obtain ⟨⟨c3, e1, e2, e3, e4⟩, -, -⟩ := h1.1 (by omega)
            obtain ⟨d, d1, d2, d3⟩ := h2.2 c3 e1 e2 e4 (by omega) (by omega)
            exact ⟨d, (kk d).mpr (Or.inr d1), d2, by omega⟩
        have by1 : x1 < num og c2 → num og c2 ≤ k1 o → ∃ d, kw n og k' d ∧ Kl d ∧ num og c2 ≤ sn d o := fun z1 z2 => by
          obtain ⟨d, d1, d2, d3⟩ := h1.2 c2 a1 a2 a3 z1 z2
          exact ⟨d, (kk d).mpr (Or.inl d1), d2, d3⟩
        have by2 : x2 < num og c2 → num og c2 ≤ k2 o → ∃ d, kw n og k' d ∧ Kl d ∧ num og c2 ≤ sn d o := fun z1 z2 => by
          obtain ⟨d, d1, d2, d3⟩ := h2.2 c2 a1 a2 a3 z1 z2
          exact ⟨d, (kk d).mpr (Or.inr d1), d2, d3⟩
        rcases kMx_c hu ho a5 with q | q
        · by_cases z1 : x1 < num og c2
          · exact by1 z1 q
          · by_cases z2 : x2 < num og c2
            · exact by2 z2 (by omega)
            · exact big (by omega) (by omega)
        · by_cases z2 : x2 < num og c2
          · exact by2 z2 q
          · by_cases z1 : x1 < num og c2
            · exact by1 z1 (by omega)
            · exact big (by omega) (by omega)
/-- the changes grow by one that isn't known here -/
theorem kw_grow {og' : Nat → Nat} (he : ∀ i, i < n → og' i = og i) (hn : k (og' n) < num og' n) {d : Nat} : kw (n + 1) og' k d ↔ kw n og k d := by
  unfold kw
  constructor
  · rintro ⟨h1, h2⟩
    by_cases hd : d = n
    · subst hd; omega
    · have hd : d < n := by omega
      rw [num_congr he hd, he d hd] at h2
      exact ⟨hd, h2⟩
  · rintro ⟨h1, h2⟩
    rw [num_congr he h1, he d h1]
    exact ⟨by omega, h2⟩
theorem z_LV_grow {og' : Nat → Nat} {sn' : Nat → Nat → Nat} {T' Kl' : Nat → Prop} (ho3 : o < 3) (he : ∀ i, i < n → og' i = og i) (hs : ∀ i a, i < n → a < 3 → sn' i a = sn i a) (hT : ∀ i, i < n → (T' i ↔ T i)) (hK : ∀ i, i < n → (Kl' i ↔ Kl i)) (hn : k (og' n) < num og' n) (h : z_LV n og sn k T Kl o x) : z_LV (n + 1) og' sn' k T' Kl' o x := by
  have kk := fun d => (kw_grow (k := k) (d := d) he hn)
  refine ⟨fun hx => ?_, fun c h1 h2 h3 h4 h5 => ?_⟩
  · obtain ⟨⟨c, a1, a2, a3, a4⟩, a5, a6⟩ := h.1 hx
    refine ⟨⟨c, by omega, by rw [he c a1]; exact a2, by rw [num_congr he a1]; exact a3, (hT c a1).mpr a4⟩, a5, fun d hd hKd => ?_⟩
    have hd2 := (kk d).mp hd
    rw [hs d o hd2.1 ho3]
    exact a6 d hd2 ((hK d hd2.1).mp hKd)
  · have hc : c < n := by
      by_cases q : c = n
      · subst q; rw [h2] at hn; omega
      · omega
    rw [num_congr he hc] at h4 h5
    rw [he c hc] at h2
    obtain ⟨d, b1, b2, b3⟩ := h.2 c hc h2 ((hT c hc).mp h3) h4 h5
    exact ⟨d, (kk d).mpr b1, (hK d b1.1).mpr b2, by rw [num_congr he hc, hs d o b1.1 ho3]; exact b3⟩
/-- the two kinds of things kept -/
def tA (so : Nat → Nat) (ar : Nat → Int32) (el : Nat) (c : Nat) : Prop := so c = 0 ∧ ar c = nI el
def kA (so : Nat → Nat) (ar : Nat → Int32) (el : Nat) (d : Nat) : Prop := so d = 4 ∨ so d = 1 ∧ ar d = nI el
def tS (so : Nat → Nat) (c : Nat) : Prop := so c = 2
def kS (so : Nat → Nat) (d : Nat) : Prop := so d = 4 ∨ so d = 2
def CV (n : Nat) (og so : Nat → Nat) (sn : Nat → Nat → Nat) (k : Nat → Nat) (o x : Nat) : Prop := (∀ d, kw n og k d → so d = 4 → sn d o ≤ x) ∧ (0 < x → ∃ d, kw n og k d ∧ so d = 4 ∧ x ≤ sn d o)
def Rep (n : Nat) (og so : Nat → Nat) (ar : Nat → Int32) (sn : Nat → Nat → Nat) (k : Nat → Nat) (la : Nat → Nat → Nat) (lx cv : Nat → Nat) : Prop :=
  (∀ o, o < 3 → k o ≤ oc og o n) ∧ (∀ d, kw n og k d → ∀ o, o < 3 → sn d o ≤ k o) ∧
  (∀ el o, el < 8 → o < 3 → z_LV n og sn k (tA so ar el) (kA so ar el) o (la el o)) ∧ (∀ o, o < 3 → z_LV n og sn k (tS so) (kS so) o (lx o)) ∧ ∀ o, o < 3 → CV n og so sn k o (cv o)
theorem Rep_grow {og' so' : Nat → Nat} {ar' : Nat → Int32} {sn' : Nat → Nat → Nat} {la : Nat → Nat → Nat} {lx cv : Nat → Nat} (he : ∀ i, i < n → og' i = og i) (hso : ∀ i, i < n → so' i = so i) (har : ∀ i, i < n → ar' i = ar i) (hs : ∀ i a, i < n → a < 3 → sn' i a = sn i a) (h3 : og' n < 3)
    (h : Rep n og so ar sn k la lx cv) : Rep (n + 1) og' so' ar' sn' k la lx cv := by
  obtain ⟨h1, h2, hA, hS, hV⟩ := h
  have hn : k (og' n) < num og' n := by
    have := h1 (og' n) h3
    have e : num og' n = oc og (og' n) n + 1 := by unfold num; rw [oc_congr he]
    omega
  have kk := fun d => (kw_grow (k := k) (d := d) he hn)
  refine ⟨fun o ho => ?_, fun d hd o ho => ?_, fun el o h8 ho => ?_, fun o ho => ?_, fun o ho => ?_⟩
  · have := oc_s og' o n
    rw [oc_congr he] at this
    have := h1 o ho
    omega
  · have hd2 := (kk d).mp hd
    rw [hs d o hd2.1 ho]
    exact h2 d hd2 o ho
  · exact z_LV_grow ho he hs (fun i hi => by unfold tA; rw [hso i hi, har i hi]) (fun i hi => by unfold kA; rw [hso i hi, har i hi]) hn (hA el o h8 ho)
  · exact z_LV_grow ho he hs (fun i hi => by unfold tS; rw [hso i hi]) (fun i hi => by unfold kS; rw [hso i hi]) hn (hS o ho)
  · refine ⟨fun d hd h4 => ?_, fun hx => ?_⟩
    · have hd2 := (kk d).mp hd
      rw [hs d o hd2.1 ho]
      exact (hV o ho).1 d hd2 (by rw [← hso d hd2.1]; exact h4)
    · obtain ⟨d, b1, b2, b3⟩ := (hV o ho).2 hx
      exact ⟨d, (kk d).mpr b1, by rw [hso d b1.1]; exact b2, by rw [hs d o b1.1 ho]; exact b3⟩
/-- a change is learnt -/
theorem Rep_apply {la la' : Nat → Nat → Nat} {lx lx' cv cv' : Nat → Nat} (h3 : ∀ d, d < n → og d < 3) (hc : c < n) (hn : num og c = k (og c) + 1) (hsn : ∀ o, o < 3 → sn c o ≤ k o) (hu : kUp og c k k')
    (hA' : ∀ el o, el < 8 → o < 3 → (tA so ar el c ∧ o = og c ∧ la' el o = num og c) ∨ (¬ (tA so ar el c ∧ o = og c) ∧ kA so ar el c ∧ la' el o = if la el o ≤ sn c o then 0 else la el o) ∨ (¬ (tA so ar el c ∧ o = og c) ∧ ¬ kA so ar el c ∧ la' el o = la el o))
    (hS' : ∀ o, o < 3 → (tS so c ∧ o = og c ∧ lx' o = num og c) ∨ (¬ (tS so c ∧ o = og c) ∧ kS so c ∧ lx' o = if lx o ≤ sn c o then 0 else lx o) ∨ (¬ (tS so c ∧ o = og c) ∧ ¬ kS so c ∧ lx' o = lx o))
    (hV' : ∀ o, o < 3 → (so c = 4 ∧ cv' o = if cv o < sn c o then sn c o else cv o) ∨ (so c ≠ 4 ∧ cv' o = cv o))
    (h : Rep n og so ar sn k la lx cv) : Rep n og so ar sn k' la' lx' cv' := by
  obtain ⟨h1, h2, hA, hS, hV⟩ := h
  have kk := fun d => (kw_up (d := d) h3 hc hu hn)
  refine ⟨fun o ho => ?_, fun d hd o ho => ?_, fun el o h8 ho => ?_, fun o ho => ?_, fun o ho => ?_⟩
  · rw [hu o ho]
    split
    · next q => rw [q]; exact num_le hc
    · exact h1 o ho
  · have hle := kUp_le (o := o) hu hn ho
    rcases (kk d).mp hd with hd | hd
    · exact Nat.le_trans (h2 d hd o ho) hle
    · subst hd; exact Nat.le_trans (hsn o ho) hle
  · rcases hA' el o h8 ho with ⟨a1, a2, a3⟩ | ⟨a1, a2, a3⟩ | ⟨a1, a2, a3⟩
    · rw [a3]; exact z_LV_set h3 ho hc hu hn (fun d hd => h2 d hd o ho) (hsn o ho) a1 a2
    · rw [a3]; exact z_LV_drop h3 ho hc hu hn a1 a2 (hA el o h8 ho)
    · rw [a3]; exact z_LV_same h3 ho hc hu hn a1 a2 (hA el o h8 ho)
  · rcases hS' o ho with ⟨a1, a2, a3⟩ | ⟨a1, a2, a3⟩ | ⟨a1, a2, a3⟩
    · rw [a3]; exact z_LV_set h3 ho hc hu hn (fun d hd => h2 d hd o ho) (hsn o ho) a1 a2
    · rw [a3]; exact z_LV_drop h3 ho hc hu hn a1 a2 (hS o ho)
    · rw [a3]; exact z_LV_same h3 ho hc hu hn a1 a2 (hS o ho)
  · obtain ⟨v1, v2⟩ := hV o ho
    rcases hV' o ho with ⟨a1, a2⟩ | ⟨a1, a2⟩
    · rw [a2]
      refine ⟨fun d hd h4 => ?_, fun hx => ?_⟩
      · rcases (kk d).mp hd with hd | hd
        · have := v1 d hd h4
          split <;> omega
        · subst hd
          split <;> omega
      · by_cases q : cv o < sn c o
        · rw [if_pos q]
          exact ⟨c, (kk c).mpr (Or.inr rfl), a1, Nat.le_refl _⟩
        · rw [if_neg q] at hx ⊢
          obtain ⟨d, b1, b2, b3⟩ := v2 hx
          exact ⟨d, (kk d).mpr (Or.inl b1), b2, b3⟩
    · rw [a2]
      refine ⟨fun d hd h4 => ?_, fun hx => ?_⟩
      · rcases (kk d).mp hd with hd | hd
        · exact v1 d hd h4
        · subst hd; exact absurd h4 a1
      · obtain ⟨d, b1, b2, b3⟩ := v2 hx
        exact ⟨d, (kk d).mpr (Or.inl b1), b2, b3⟩
/-- two replicas' things are joined -/
theorem Rep_join {la1 la2 la' : Nat → Nat → Nat} {lx1 lx2 lx' cv1 cv2 cv' : Nat → Nat} (h3 : ∀ d, d < n → og d < 3) (hu : kMx k1 k2 k')
    (hA' : ∀ el o, el < 8 → o < 3 → la' el o = x_sur (la1 el o) (k1 o) (la2 el o) (k2 o)) (hS' : ∀ o, o < 3 → lx' o = x_sur (lx1 o) (k1 o) (lx2 o) (k2 o)) (hV' : ∀ o, o < 3 → cv' o = x_mx (cv2 o) (cv1 o))
    (p1 : Rep n og so ar sn k1 la1 lx1 cv1) (p2 : Rep n og so ar sn k2 la2 lx2 cv2) : Rep n og so ar sn k' la' lx' cv' := by
  obtain ⟨h1, h2, hA, hS, hV⟩ := p1
  obtain ⟨i1, i2, iA, iS, iV⟩ := p2
  have kk := fun d => (kw_mx (d := d) h3 hu)
  refine ⟨fun o ho => ?_, fun d hd o ho => ?_, fun el o h8 ho => ?_, fun o ho => ?_, fun o ho => ?_⟩
  · rw [hu o ho]
    unfold x_mx
    split
    · exact i1 o ho
    · exact h1 o ho
  · rcases (kk d).mp hd with hd | hd
    · exact Nat.le_trans (h2 d hd o ho) (kMx_l hu ho)
    · exact Nat.le_trans (i2 d hd o ho) (kMx_r hu ho)
  · rw [hA' el o h8 ho]
    exact z_LV_join h3 ho hu (fun d hd => h2 d hd o ho) (fun d hd => i2 d hd o ho) (hA el o h8 ho) (iA el o h8 ho)
  · rw [hS' o ho]
    exact z_LV_join h3 ho hu (fun d hd => h2 d hd o ho) (fun d hd => i2 d hd o ho) (hS o ho) (iS o ho)
  · rw [hV' o ho]
    obtain ⟨v1, v2⟩ := hV o ho
    obtain ⟨w1, w2⟩ := iV o ho
    refine ⟨fun d hd h4 => ?_, fun hx => ?_⟩
    · unfold x_mx
      rcases (kk d).mp hd with hd | hd
      · have := v1 d hd h4; split <;> omega
      · have := w1 d hd h4; split <;> omega
    · unfold x_mx at hx ⊢
      by_cases q : cv1 o < cv2 o
      · rw [if_pos q] at hx ⊢
        obtain ⟨d, b1, b2, b3⟩ := w2 hx
        exact ⟨d, (kk d).mpr (Or.inr b1), b2, b3⟩
      · rw [if_neg q] at hx ⊢
        obtain ⟨d, b1, b2, b3⟩ := v2 hx
        exact ⟨d, (kk d).mpr (Or.inl b1), b2, b3⟩
end REP
end
section
/-! what the functions on the arrays do, place by place -/
section CH
variable {g : Nat → Nat → Nat} {r r' el el' ch o i k j f t n : Nat}
theorem x_dA_ne (hk : k ≠ 9) : ∀ o, x_dA g r el ch o k j = g k j
  | 0 => rfl
  | o + 1 => by
    have ih := x_dA_ne hk o
    unfold x_dA
    split
    · rw [x_su_ne (by omega), ih]
    · exact ih
theorem x_dA_out : ∀ o, ¬ (24 * r + 3 * el ≤ j ∧ j < 24 * r + 3 * el + o) → x_dA g r el ch o 9 j = g 9 j
  | 0, _ => rfl
  | o + 1, h => by
    have ih := x_dA_out o (by omega)
    unfold x_dA
    split
    · rw [x_su_ne (by omega), ih]
    · exact ih
theorem x_dA_in : ∀ o, i < o → x_dA g r el ch o 9 (24 * r + 3 * el + i) = if g 9 (24 * r + 3 * el + i) ≤ g 3 (3 * ch + i) then 0 else g 9 (24 * r + 3 * el + i)
  | 0, h => absurd h (by omega)
  | o + 1, h => by
    by_cases hi : i = o
    · subst hi
      have e1 := x_dA_out (g := g) (r := r) (el := el) (ch := ch) (j := 24 * r + 3 * el + i) i (by omega)
      have e2 := x_dA_ne (g := g) (r := r) (el := el) (ch := ch) (k := 3) (j := 3 * ch + i) (by omega) i
      unfold x_dA
      rw [e1, e2]
      split
      · rw [x_su_eq]
      · rw [e1]
    · have ih := x_dA_in o (show i < o by omega)
      unfold x_dA
      split
      · rw [x_su_ne (by omega), ih]
      · exact ih
theorem x_dA_at (hr : r < 3) (hr' : r' < 3) (hel : el < 8) (hel' : el' < 8) (ho : o < 3) : x_dA g r el ch 3 9 (24 * r' + 3 * el' + o) = if r' = r ∧ el' = el ∧ g 9 (24 * r' + 3 * el' + o) ≤ g 3 (3 * ch + o) then 0 else g 9 (24 * r' + 3 * el' + o) := by
  by_cases h : r' = r ∧ el' = el
  · obtain ⟨rfl, rfl⟩ := h
    rw [x_dA_in 3 ho]
    simp
  · rw [x_dA_out 3 (by omega), if_neg (fun q => h ⟨q.1, q.2.1⟩)]
theorem x_dE_ne (hk : k ≠ 9) : ∀ E, x_dE g r ch E k j = g k j
  | 0 => rfl
  | E + 1 => by
    unfold x_dE
    rw [x_dA_ne hk, x_dE_ne hk E]
theorem x_dE_at (hr : r < 3) (hr' : r' < 3) (hel' : el' < 8) (ho : o < 3) : ∀ E, E ≤ 8 → x_dE g r ch E 9 (24 * r' + 3 * el' + o) = if r' = r ∧ el' < E ∧ g 9 (24 * r' + 3 * el' + o) ≤ g 3 (3 * ch + o) then 0 else g 9 (24 * r' + 3 * el' + o)
  | 0, _ => by
    rw [if_neg (by omega)]
    rfl
  | E + 1, hE => by
    have ih := x_dE_at hr hr' hel' ho E (by omega)
    unfold x_dE
    rw [x_dA_at hr hr' (by omega) hel' ho, x_dE_ne (k := 3) (by omega), ih]
    by_cases h1 : r' = r
    · by_cases h2 : el' = E
      · subst h2
        rw [if_neg (show ¬ (r' = r ∧ el' < el' ∧ _) by omega)]
        by_cases h3 : g 9 (24 * r' + 3 * el' + o) ≤ g 3 (3 * ch + o)
        · rw [if_pos ⟨h1, rfl, h3⟩, if_pos ⟨h1, by omega, h3⟩]
        · rw [if_neg (fun q => h3 q.2.2), if_neg (fun q => h3 q.2.2)]
      · rw [if_neg (show ¬ (r' = r ∧ el' = E ∧ _) from fun q => h2 q.2.1)]
        by_cases h4 : el' < E
        · by_cases h3 : g 9 (24 * r' + 3 * el' + o) ≤ g 3 (3 * ch + o)
          · rw [if_pos ⟨h1, h4, h3⟩, if_pos ⟨h1, by omega, h3⟩]
          · rw [if_neg (fun q => h3 q.2.2), if_neg (fun q => h3 q.2.2)]
        · rw [if_neg (fun q => h4 q.2.1), if_neg (fun q => by omega)]
    · rw [if_neg (fun q => h1 q.1), if_neg (fun q => h1 q.1), if_neg (fun q => h1 q.1)]
theorem x_dS_ne (hk : k ≠ 10) : ∀ o, x_dS g r ch o k j = g k j
  | 0 => rfl
  | o + 1 => by
    have ih := x_dS_ne hk o
    unfold x_dS
    split
    · rw [x_su_ne (by omega), ih]
    · exact ih
theorem x_dS_out : ∀ o, ¬ (3 * r ≤ j ∧ j < 3 * r + o) → x_dS g r ch o 10 j = g 10 j
  | 0, _ => rfl
  | o + 1, h => by
    have ih := x_dS_out o (by omega)
    unfold x_dS
    split
    · rw [x_su_ne (by omega), ih]
    · exact ih
theorem x_dS_in : ∀ o, i < o → x_dS g r ch o 10 (3 * r + i) = if g 10 (3 * r + i) ≤ g 3 (3 * ch + i) then 0 else g 10 (3 * r + i)
  | 0, h => absurd h (by omega)
  | o + 1, h => by
    by_cases hi : i = o
    · subst hi
      have e1 := x_dS_out (g := g) (r := r) (ch := ch) (j := 3 * r + i) i (by omega)
      have e2 := x_dS_ne (g := g) (r := r) (ch := ch) (k := 3) (j := 3 * ch + i) (by omega) i
      unfold x_dS
      rw [e1, e2]
      split
      · rw [x_su_eq]
      · rw [e1]
    · have ih := x_dS_in o (show i < o by omega)
      unfold x_dS
      split
      · rw [x_su_ne (by omega), ih]
      · exact ih
theorem x_dS_at (hr : r < 3) (hr' : r' < 3) (ho : o < 3) : x_dS g r ch 3 10 (3 * r' + o) = if r' = r ∧ g 10 (3 * r' + o) ≤ g 3 (3 * ch + o) then 0 else g 10 (3 * r' + o) := by
  by_cases h : r' = r
  · subst h
    rw [x_dS_in 3 ho]
    simp
  · rw [x_dS_out 3 (by omega), if_neg (fun q => h q.1)]
theorem x_cV_ne (hk : k ≠ 8) : ∀ o, x_cV g r ch o k j = g k j
  | 0 => rfl
  | o + 1 => by
    have ih := x_cV_ne hk o
    unfold x_cV
    split
    · rw [x_su_ne (by omega), ih]
    · exact ih
theorem x_cV_out : ∀ o, ¬ (3 * r ≤ j ∧ j < 3 * r + o) → x_cV g r ch o 8 j = g 8 j
  | 0, _ => rfl
  | o + 1, h => by
    have ih := x_cV_out o (by omega)
    unfold x_cV
    split
    · rw [x_su_ne (by omega), ih]
    · exact ih
theorem x_cV_in : ∀ o, i < o → x_cV g r ch o 8 (3 * r + i) = if g 8 (3 * r + i) < g 3 (3 * ch + i) then g 3 (3 * ch + i) else g 8 (3 * r + i)
  | 0, h => absurd h (by omega)
  | o + 1, h => by
    by_cases hi : i = o
    · subst hi
      have e1 := x_cV_out (g := g) (r := r) (ch := ch) (j := 3 * r + i) i (by omega)
      have e2 := x_cV_ne (g := g) (r := r) (ch := ch) (k := 3) (j := 3 * ch + i) (by omega) i
      unfold x_cV
      rw [e1, e2]
      split
      · rw [x_su_eq]
      · rw [e1]
    · have ih := x_cV_in o (show i < o by omega)
      unfold x_cV
      split
      · rw [x_su_ne (by omega), ih]
      · exact ih
theorem x_cV_at (hr : r < 3) (hr' : r' < 3) (ho : o < 3) : x_cV g r ch 3 8 (3 * r' + o) = if r' = r ∧ g 8 (3 * r' + o) < g 3 (3 * ch + o) then g 3 (3 * ch + o) else g 8 (3 * r' + o) := by
  by_cases h : r' = r
  · subst h
    rw [x_cV_in 3 ho]
    simp
  · rw [x_cV_out 3 (by omega), if_neg (fun q => h q.1)]
-- joins
theorem x_jI_ne (hk : k ≠ 9) : ∀ o, x_jI g f t el o k j = g k j
  | 0 => rfl
  | o + 1 => by
    unfold x_jI
    rw [x_su_ne (by omega), x_jI_ne hk o]
theorem x_jI_out : ∀ o, ¬ (24 * t + 3 * el ≤ j ∧ j < 24 * t + 3 * el + o) → x_jI g f t el o 9 j = g 9 j
  | 0, _ => rfl
  | o + 1, h => by
    unfold x_jI
    rw [x_su_ne (by omega), x_jI_out o (by omega)]
theorem x_jI_in (hf : f < 3) (ht : t < 3) (hne : f ≠ t) (hel : el < 8) : ∀ o, o ≤ 3 → i < o → x_jI g f t el o 9 (24 * t + 3 * el + i) = x_sur (g 9 (24 * t + 3 * el + i)) (g 7 (3 * t + i)) (g 9 (24 * f + 3 * el + i)) (g 7 (3 * f + i))
  | 0, _, h => absurd h (by omega)
  | o + 1, h3, h => by
    unfold x_jI
    by_cases hi : i = o
    · subst hi
      rw [x_su_eq, x_jI_out i (by omega), x_jI_ne (by omega), x_jI_out i (by omega), x_jI_ne (by omega)]
    · rw [x_su_ne (by omega), x_jI_in hf ht hne hel o (by omega) (by omega)]
theorem x_jA_ne (hk : k ≠ 9) : ∀ E, x_jA g f t E k j = g k j
  | 0 => rfl
  | E + 1 => by
    unfold x_jA
    rw [x_jI_ne hk, x_jA_ne hk E]
theorem x_jA_out (ht : t < 3) (hr : r < 3) (hel : el < 8) (ho : o < 3) : ∀ E, ¬ (r = t ∧ el < E) → E ≤ 8 → x_jA g f t E 9 (24 * r + 3 * el + o) = g 9 (24 * r + 3 * el + o)
  | 0, _, _ => rfl
  | E + 1, h, hE => by
    unfold x_jA
    rw [x_jI_out 3 (by omega), x_jA_out ht hr hel ho E (by omega) (by omega)]
theorem x_jA_in (hf : f < 3) (ht : t < 3) (hne : f ≠ t) (hel : el < 8) (ho : o < 3) : ∀ E, E ≤ 8 → el < E → x_jA g f t E 9 (24 * t + 3 * el + o) = x_sur (g 9 (24 * t + 3 * el + o)) (g 7 (3 * t + o)) (g 9 (24 * f + 3 * el + o)) (g 7 (3 * f + o))
  | 0, _, h => absurd h (by omega)
  | E + 1, hE, h => by
    unfold x_jA
    by_cases he : el = E
    · subst he
      rw [x_jI_in hf ht hne hel 3 (by omega) ho, x_jA_out ht ht hel ho el (by omega) (by omega), x_jA_ne (by omega), x_jA_out ht hf hel ho el (by omega) (by omega), x_jA_ne (by omega)]
    · rw [x_jI_out 3 (by omega), x_jA_in hf ht hne hel ho E (by omega) (by omega)]
theorem x_jS_ne (hk : k ≠ 10) : ∀ o, x_jS g f t o k j = g k j
  | 0 => rfl
  | o + 1 => by
    unfold x_jS
    rw [x_su_ne (by omega), x_jS_ne hk o]
theorem x_jS_out : ∀ o, ¬ (3 * t ≤ j ∧ j < 3 * t + o) → x_jS g f t o 10 j = g 10 j
  | 0, _ => rfl
  | o + 1, h => by
    unfold x_jS
    rw [x_su_ne (by omega), x_jS_out o (by omega)]
theorem x_jS_in (hf : f < 3) (ht : t < 3) (hne : f ≠ t) : ∀ o, o ≤ 3 → i < o → x_jS g f t o 10 (3 * t + i) = x_sur (g 10 (3 * t + i)) (g 7 (3 * t + i)) (g 10 (3 * f + i)) (g 7 (3 * f + i))
  | 0, _, h => absurd h (by omega)
  | o + 1, h3, h => by
    unfold x_jS
    by_cases hi : i = o
    · subst hi
      rw [x_su_eq, x_jS_out i (by omega), x_jS_ne (by omega), x_jS_out i (by omega), x_jS_ne (by omega)]
    · rw [x_su_ne (by omega), x_jS_in hf ht hne o (by omega) (by omega)]
theorem x_jK_ne {k2 : Nat} (hk : k ≠ k2) : x_jK g k2 f t o k j = g k j := by
  unfold x_jK
  rw [x_su_ne (by omega)]
theorem x_jV_ne (hk : k ≠ 7) (hk8 : k ≠ 8) : ∀ o, x_jV g f t o k j = g k j
  | 0 => rfl
  | o + 1 => by
    unfold x_jV
    rw [x_jK_ne hk8, x_jK_ne hk, x_jV_ne hk hk8 o]
theorem x_jV_out (hk : k = 7 ∨ k = 8) : ∀ o, ¬ (3 * t ≤ j ∧ j < 3 * t + o) → x_jV g f t o k j = g k j
  | 0, _ => rfl
  | o + 1, h => by
    unfold x_jV
    unfold x_jK
    rw [x_su_ne (by omega), x_su_ne (by omega), x_jV_out hk o (by omega)]
theorem x_jV_in (hk : k = 7 ∨ k = 8) (hf : f < 3) (ht : t < 3) (hne : f ≠ t) : ∀ o, o ≤ 3 → i < o → x_jV g f t o k (3 * t + i) = x_mx (g k (3 * f + i)) (g k (3 * t + i))
  | 0, _, h => absurd h (by omega)
  | o + 1, h3, h => by
    unfold x_jV
    by_cases hi : i = o
    · subst hi
      have e1 := x_jV_out (g := g) (f := f) (t := t) (j := 3 * t + i) hk i (by omega)
      have e2 := x_jV_out (g := g) (f := f) (t := t) (j := 3 * f + i) hk i (by omega)
      rcases hk with rfl | rfl
      · rw [x_jK_ne (by omega)]
        unfold x_jK
        rw [x_su_eq, e1, e2]
      · rw [show x_jK (x_jK (x_jV g f t i) 7 f t i) 8 f t i 8 (3 * t + i) = x_mx (x_jK (x_jV g f t i) 7 f t i 8 (3 * f + i)) (x_jK (x_jV g f t i) 7 f t i 8 (3 * t + i)) from x_su_eq _ _ _ _, x_jK_ne (by omega), x_jK_ne (by omega), e1, e2]
    · have ih := x_jV_in hk hf ht hne o (by omega) (show i < o by omega)
      unfold x_jK
      rw [x_su_ne (by omega), x_su_ne (by omega), ih]
-- apply
theorem x_ap_lo {nu : Nat} (hk : k < 7) : x_ap g el r ch o nu k j = g k j := by
  unfold x_ap x_ap0
  rw [x_su_ne (by omega)]
  split
  · rw [x_su_ne (by omega)]
  split
  · rw [x_dA_ne (by omega)]
  split
  · rw [x_su_ne (by omega), x_dS_ne (by omega)]
  split
  · rw [x_cV_ne (by omega), x_dS_ne (by omega), x_dE_ne (by omega)]
  · rfl
theorem x_ap_7 {nu : Nat} : x_ap g el r ch o nu 7 j = if j = 3 * r + o then nu else g 7 j := by
  unfold x_ap
  by_cases h : j = 3 * r + o
  · rw [if_pos h, h, x_su_eq]
  · rw [if_neg h, x_su_ne (by omega)]
    unfold x_ap0
    split
    · rw [x_su_ne (by omega)]
    split
    · rw [x_dA_ne (by omega)]
    split
    · rw [x_su_ne (by omega), x_dS_ne (by omega)]
    split
    · rw [x_cV_ne (by omega), x_dS_ne (by omega), x_dE_ne (by omega)]
    · rfl
theorem x_ap_8 {nu : Nat} (hr : r < 3) (hr' : r' < 3) (hi : i < 3) : x_ap g el r ch o nu 8 (3 * r' + i) = if g 1 ch = 4 ∧ r' = r ∧ g 8 (3 * r' + i) < g 3 (3 * ch + i) then g 3 (3 * ch + i) else g 8 (3 * r' + i) := by
  unfold x_ap x_ap0
  rw [x_su_ne (by omega)]
  by_cases h0 : g 1 ch = 0
  · rw [if_pos h0, x_su_ne (by omega), if_neg (by omega)]
  by_cases h1 : g 1 ch = 1
  · rw [if_neg h0, if_pos h1, x_dA_ne (by omega), if_neg (by omega)]
  by_cases h2 : g 1 ch = 2
  · rw [if_neg h0, if_neg h1, if_pos h2, x_su_ne (by omega), x_dS_ne (by omega), if_neg (by omega)]
  by_cases h4 : g 1 ch = 4
  · rw [if_neg h0, if_neg h1, if_neg h2, if_pos h4, x_cV_at hr hr' hi, x_dS_ne (by omega), x_dE_ne (by omega), x_dS_ne (by omega), x_dE_ne (by omega)]
    simp [h4]
  · rw [if_neg h0, if_neg h1, if_neg h2, if_neg h4, if_neg (fun q => h4 q.1)]
theorem x_ap_10 {nu : Nat} (hr : r < 3) (hr' : r' < 3) (hi : i < 3) (ho : o < 3) : x_ap g el r ch o nu 10 (3 * r' + i) = if r' = r then (if g 1 ch = 2 ∧ i = o then nu else if (g 1 ch = 4 ∨ g 1 ch = 2) ∧ g 10 (3 * r + i) ≤ g 3 (3 * ch + i) then 0 else g 10 (3 * r + i)) else g 10 (3 * r' + i) := by
  unfold x_ap x_ap0
  rw [x_su_ne (by omega)]
  by_cases h0 : g 1 ch = 0
  · rw [if_pos h0, x_su_ne (by omega), if_neg (show ¬ (g 1 ch = 2 ∧ i = o) by omega), if_neg (show ¬ ((g 1 ch = 4 ∨ g 1 ch = 2) ∧ _) by omega)]
    split
    · next h => rw [h]
    · rfl
  by_cases h1 : g 1 ch = 1
  · rw [if_neg h0, if_pos h1, x_dA_ne (by omega), if_neg (show ¬ (g 1 ch = 2 ∧ i = o) by omega), if_neg (show ¬ ((g 1 ch = 4 ∨ g 1 ch = 2) ∧ _) by omega)]
    split
    · next h => rw [h]
    · rfl
  by_cases h2 : g 1 ch = 2
  · rw [if_neg h0, if_neg h1, if_pos h2]
    by_cases hrr : r' = r
    · subst hrr
      rw [if_pos rfl]
      by_cases hio : i = o
      · subst hio
        rw [x_su_eq, if_pos ⟨h2, rfl⟩]
      · rw [x_su_ne (by omega), x_dS_at hr hr hi]
        simp [h2, hio]
    · rw [if_neg hrr, x_su_ne (by omega), x_dS_at hr hr' hi, if_neg (fun q => hrr q.1)]
  by_cases h4 : g 1 ch = 4
  · rw [if_neg h0, if_neg h1, if_neg h2, if_pos h4, x_cV_ne (by omega), x_dS_at hr hr' hi, x_dE_ne (by omega), x_dE_ne (by omega), if_neg (show ¬ (g 1 ch = 2 ∧ i = o) by omega)]
    by_cases hrr : r' = r
    · subst hrr
      simp [h4]
    · rw [if_neg (fun q => hrr q.1), if_neg hrr]
  · rw [if_neg h0, if_neg h1, if_neg h2, if_neg h4, if_neg (show ¬ (g 1 ch = 2 ∧ i = o) by omega), if_neg (show ¬ ((g 1 ch = 4 ∨ g 1 ch = 2) ∧ _) by omega)]
    split
    · next h => rw [h]
    · rfl
theorem x_ap_9 {nu : Nat} (hr : r < 3) (hr' : r' < 3) (hel' : el' < 8) (hi : i < 3) (ho : o < 3) (hel : g 1 ch = 0 ∨ g 1 ch = 1 → el < 8) : x_ap g el r ch o nu 9 (24 * r' + 3 * el' + i) = if r' = r then (if g 1 ch = 0 ∧ el' = el ∧ i = o then nu else if (g 1 ch = 4 ∨ g 1 ch = 1 ∧ el' = el) ∧ g 9 (24 * r + 3 * el' + i) ≤ g 3 (3 * ch + i) then 0 else g 9 (24 * r + 3 * el' + i)) else g 9 (24 * r' + 3 * el' + i) := by
  unfold x_ap x_ap0
  rw [x_su_ne (by omega)]
  by_cases h0 : g 1 ch = 0
  · have hel := hel (Or.inl h0)
    rw [if_pos h0, if_neg (show ¬ ((g 1 ch = 4 ∨ g 1 ch = 1 ∧ el' = el) ∧ _) by omega)]
    by_cases hrr : r' = r
    · subst hrr
      rw [if_pos rfl]
      by_cases hq : el' = el ∧ i = o
      · obtain ⟨rfl, rfl⟩ := hq
        rw [x_su_eq, if_pos ⟨h0, rfl, rfl⟩]
      · rw [x_su_ne (by omega), if_neg (fun q => hq q.2)]
    · rw [if_neg hrr, x_su_ne (by omega)]
  by_cases h1 : g 1 ch = 1
  · have hel := hel (Or.inr h1)
    rw [if_neg h0, if_pos h1, x_dA_at hr hr' hel hel' hi, if_neg (show ¬ (g 1 ch = 0 ∧ _) by omega)]
    by_cases hrr : r' = r
    · subst hrr
      simp [h1]
    · rw [if_neg (fun q => hrr q.1), if_neg hrr]
  by_cases h2 : g 1 ch = 2
  · rw [if_neg h0, if_neg h1, if_pos h2, x_su_ne (by omega), x_dS_ne (by omega), if_neg (show ¬ (g 1 ch = 0 ∧ _) by omega), if_neg (show ¬ ((g 1 ch = 4 ∨ g 1 ch = 1 ∧ el' = el) ∧ _) by omega)]
    split
    · next h => rw [h]
    · rfl
  by_cases h4 : g 1 ch = 4
  · rw [if_neg h0, if_neg h1, if_neg h2, if_pos h4, x_cV_ne (by omega), x_dS_ne (by omega), x_dE_at hr hr' hel' hi 8 (by omega), if_neg (show ¬ (g 1 ch = 0 ∧ _) by omega)]
    by_cases hrr : r' = r
    · subst hrr
      simp [h4, hel']
    · rw [if_neg (fun q => hrr q.1), if_neg hrr]
  · rw [if_neg h0, if_neg h1, if_neg h2, if_neg h4, if_neg (show ¬ (g 1 ch = 0 ∧ _) by omega), if_neg (show ¬ ((g 1 ch = 4 ∨ g 1 ch = 1 ∧ el' = el) ∧ _) by omega)]
    split
    · next h => rw [h]
    · rfl
end CH
end
section
/-! the relation between the two objects, kept by every change -/
section REL
variable {n : Nat} {og so : Nat → Nat} {ar : Nat → Int32} {sn sn' : Nat → Nat → Nat} {k k' : Nat → Nat} {T Kl : Nat → Prop} {o x : Nat}
theorem kw_congr (h3 : ∀ d, d < n → og d < 3) (hk : ∀ o, o < 3 → k' o = k o) {d : Nat} : kw n og k' d ↔ kw n og k d := by
  unfold kw
  constructor
  · rintro ⟨h1, h2⟩
    rw [hk _ (h3 d h1)] at h2
    exact ⟨h1, h2⟩
  · rintro ⟨h1, h2⟩
    rw [hk _ (h3 d h1)]
    exact ⟨h1, h2⟩
theorem z_LV_congr (h3 : ∀ d, d < n → og d < 3) (hk : ∀ o, o < 3 → k' o = k o) (hs : ∀ d o, d < n → o < 3 → sn' d o = sn d o) (ho : o < 3) (h : z_LV n og sn k T Kl o x) : z_LV n og sn' k' T Kl o x := by
  have kk := fun d => (kw_congr (d := d) h3 hk)
  refine ⟨fun hx => ?_, fun c h1 h2 hT h4 h5 => ?_⟩
  · obtain ⟨a1, a2, a3⟩ := h.1 hx
    refine ⟨a1, by rw [hk o ho]; exact a2, fun d hd hK => ?_⟩
    rw [hs d o hd.1 ho]
    exact a3 d ((kk d).mp hd) hK
  · rw [hk o ho] at h5
    obtain ⟨d, b1, b2, b3⟩ := h.2 c h1 h2 hT h4 h5
    exact ⟨d, (kk d).mpr b1, b2, by rw [hs d o b1.1 ho]; exact b3⟩
theorem Rep_congr {la la' : Nat → Nat → Nat} {lx lx' cv cv' : Nat → Nat} (h3 : ∀ d, d < n → og d < 3) (hk : ∀ o, o < 3 → k' o = k o) (hs : ∀ d o, d < n → o < 3 → sn' d o = sn d o) (hA' : ∀ el o, el < 8 → o < 3 → la' el o = la el o) (hS' : ∀ o, o < 3 → lx' o = lx o) (hV' : ∀ o, o < 3 → cv' o = cv o)
    (h : Rep n og so ar sn k la lx cv) : Rep n og so ar sn' k' la' lx' cv' := by
  obtain ⟨h1, h2, hA, hS, hV⟩ := h
  have kk := fun d => (kw_congr (d := d) h3 hk)
  refine ⟨fun o ho => ?_, fun d hd o ho => ?_, fun el o h8 ho => ?_, fun o ho => ?_, fun o ho => ?_⟩
  · rw [hk o ho]; exact h1 o ho
  · rw [hs d o hd.1 ho, hk o ho]; exact h2 d ((kk d).mp hd) o ho
  · rw [hA' el o h8 ho]; exact z_LV_congr h3 hk hs ho (hA el o h8 ho)
  · rw [hS' o ho]; exact z_LV_congr h3 hk hs ho (hS o ho)
  · rw [hV' o ho]
    refine ⟨fun d hd h4 => ?_, fun hx => ?_⟩
    · rw [hs d o hd.1 ho]; exact (hV o ho).1 d ((kk d).mp hd) h4
    · obtain ⟨d, b1, b2, b3⟩ := (hV o ho).2 hx
      exact ⟨d, (kk d).mpr b1, b2, by rw [hs d o b1.1 ho]; exact b3⟩
end REL
/-- all but what an origin knows of itself -/
def Rel0 (g : Nat → Nat → Nat) (v : Nat → Nat → Int32) (h : Nat → Nat → Nat) (w : Nat → Nat → Int32) (b : Nat → Nat → Int64) : Prop :=
  (x_Bd g ∧ x_Bd h ∧ g 0 0 = h 0 0 ∧ ∀ j, g 5 j < 48) ∧
  (∀ c, c < h 0 0 → g 1 c = h 1 c ∧ v 2 c = w 2 c ∧ h 3 c < 3 ∧ (h 1 c = 0 ∨ h 1 c = 1 → ∃ el, el < 8 ∧ w 2 c = nI el)) ∧
  (∀ o, o < 3 → g 4 o = oc (h 3) o (h 0 0)) ∧
  (∀ c, c < h 0 0 → g 5 (49 * h 3 c + num (h 3) c) = c) ∧
  ((∀ o, o < 3 → v 6 (49 * o + 0) = 0) ∧ ∀ c, c < h 0 0 → v 6 (49 * h 3 c + num (h 3) c) = v 6 (49 * h 3 c + (num (h 3) c - 1)) + bW (h 1 c = 3) (w 2 c)) ∧
  (∀ d, d < h 0 0 → (∀ o, o < 3 → g 3 (3 * d + o) ≤ oc (h 3) o (h 0 0)) ∧ g 3 (3 * d + h 3 d) + 1 = num (h 3) d) ∧
  (∀ r, r < 3 → Rep (h 0 0) (h 3) (h 1) (w 2) (fun d o => g 3 (3 * d + o)) (fun o => g 7 (3 * r + o)) (fun el o => g 9 (24 * r + 3 * el + o)) (fun o => g 10 (3 * r + o)) (fun o => g 8 (3 * r + o))) ∧
  (∀ r c, r < 3 → c < 64 → (tb (b 5 r) c = true ↔ kw (h 0 0) (h 3) (fun o => g 7 (3 * r + o)) c)) ∧
  ∀ d c, d < h 0 0 → c < 64 → (tb (b 4 d) c = true ↔ c < h 0 0 ∧ num (h 3) c ≤ g 3 (3 * d + h 3 c))
def Rel (g : Nat → Nat → Nat) (v : Nat → Nat → Int32) (h : Nat → Nat → Nat) (w : Nat → Nat → Int32) (b : Nat → Nat → Int64) : Prop := Rel0 g v h w b ∧ ∀ o, o < 3 → g 7 (3 * o + o) = oc (h 3) o (h 0 0)
section REL2
variable {g h : Nat → Nat → Nat} {v w : Nat → Nat → Int32} {b : Nat → Nat → Int64} {r c el : Nat}
theorem Rel0_apply (R : Rel0 g v h w b) (hr : r < 3) (hc : c < h 0 0) (hn : num (h 3) c = g 7 (3 * r + h 3 c) + 1) (hs : ∀ o, o < 3 → g 3 (3 * c + o) ≤ g 7 (3 * r + o)) (hel : h 1 c = 0 ∨ h 1 c = 1 → el < 8 ∧ w 2 c = nI el) :
    Rel0 (x_ap g el r c (h 3 c) (num (h 3) c)) v h w (x_sb b 5 r (b 5 r ||| ((1 : Int64) <<< ((nI c).toInt64 &&& 63)))) := by
  obtain ⟨⟨hB, hBh, h00, h5⟩, hcc, h4, h5c, hv6, hsn, hrep, hK, hP⟩ := R
  have h3 : ∀ d, d < h 0 0 → h 3 d < 3 := fun d hd => (hcc d hd).2.2.1
  have ho := h3 c hc
  have g1c : g 1 c = h 1 c := (hcc c hc).1
  have hn48 : h 0 0 ≤ 48 := hBh 0 0
  have hnum : num (h 3) c ≤ 48 := Nat.le_trans (num_le hc) (Nat.le_trans (oc_le _ _ _) hn48)
  have hlo : ∀ k j, k < 7 → x_ap g el r c (h 3 c) (num (h 3) c) k j = g k j := fun k j hk => x_ap_lo hk
  have hkup : kUp (h 3) c (fun o => g 7 (3 * r + o)) (fun o => x_ap g el r c (h 3 c) (num (h 3) c) 7 (3 * r + o)) := by
    intro a ha
    show x_ap g el r c (h 3 c) (num (h 3) c) 7 (3 * r + a) = _
    rw [x_ap_7]
    by_cases q : a = h 3 c
    · rw [if_pos (by omega), if_pos q]
    · rw [if_neg (by omega), if_neg q]
  have hkoth : ∀ r', r' < 3 → r' ≠ r → ∀ o, o < 3 → x_ap g el r c (h 3 c) (num (h 3) c) 7 (3 * r' + o) = g 7 (3 * r' + o) := by
    intro r' hr' hne o ho'
    rw [x_ap_7, if_neg (by omega)]
  refine ⟨⟨x_ap_le hB hnum, hBh, by rw [hlo 0 0 (by omega)]; exact h00, fun j => by rw [hlo 5 j (by omega)]; exact h5 j⟩, fun d hd => ?_, fun o ho' => by rw [hlo 4 o (by omega)]; exact h4 o ho', fun d hd => by rw [hlo 5 _ (by omega)]; exact h5c d hd, hv6, fun d hd => ?_, fun r' hr' => ?_, fun r' d hr' hd => ?_, fun d c' hd hc' => ?_⟩
  · rw [hlo 1 d (by omega)]; exact hcc d hd
  · refine ⟨fun o ho' => by rw [hlo 3 _ (by omega)]; exact (hsn d hd).1 o ho', by rw [hlo 3 _ (by omega)]; exact (hsn d hd).2⟩
  · have e3 : (fun d o => x_ap g el r c (h 3 c) (num (h 3) c) 3 (3 * d + o)) = fun d o => g 3 (3 * d + o) := by
      funext d o
      exact hlo 3 _ (by omega)
    rw [e3]
    by_cases hrr : r' = r
    · subst hrr
      refine Rep_apply (c := c) h3 hc hn hs hkup (fun el' o hel' ho' => ?_) (fun o ho' => ?_) (fun o ho' => ?_) (hrep r' hr)
      · show (_ ∧ _ ∧ x_ap g el r' c (h 3 c) (num (h 3) c) 9 (24 * r' + 3 * el' + o) = _) ∨ (_ ∧ _ ∧ x_ap g el r' c (h 3 c) (num (h 3) c) 9 (24 * r' + 3 * el' + o) = _) ∨ (_ ∧ _ ∧ x_ap g el r' c (h 3 c) (num (h 3) c) 9 (24 * r' + 3 * el' + o) = _)
        rw [x_ap_9 hr hr hel' ho' ho (by rw [g1c]; exact fun q => (hel q).1), if_pos rfl, g1c]
        have small : ∀ a b : Nat, a < 8 → b < 8 → (nI a = nI b ↔ a = b) := fun a b h1 h2 => nI_eq (nI_small (by omega)) (nI_small (by omega))
        by_cases q0 : h 1 c = 0
        · obtain ⟨e8, ew⟩ := hel (Or.inl q0)
          by_cases q1 : el' = el ∧ o = h 3 c
          · exact Or.inl ⟨⟨q0, by rw [ew, q1.1]⟩, q1.2, if_pos ⟨q0, q1⟩⟩
          · refine Or.inr (Or.inr ⟨fun z => q1 ⟨((small _ _ hel' e8).mp (by rw [← z.1.2, ew])), z.2⟩, fun z => ?_, ?_⟩)
            · rcases z with z | z
              · omega
              · omega
            · rw [if_neg (fun z => q1 z.2), if_neg (by omega)]
        · rw [if_neg (fun z => q0 z.1)]
          have nt : ¬ (tA (h 1) (w 2) el' c ∧ o = h 3 c) := fun z => q0 z.1.1
          by_cases q4 : h 1 c = 4
          · refine Or.inr (Or.inl ⟨nt, Or.inl q4, ?_⟩)
            simp [q4]
          · by_cases q1 : h 1 c = 1
            · obtain ⟨e8, ew⟩ := hel (Or.inr q1)
              by_cases qe : el' = el
              · refine Or.inr (Or.inl ⟨nt, Or.inr ⟨q1, by rw [ew, qe]⟩, ?_⟩)
                simp [q1, qe]
              · refine Or.inr (Or.inr ⟨nt, fun z => ?_, ?_⟩)
                · rcases z with z | z
                  · exact q4 z
                  · exact qe ((small _ _ hel' e8).mp (by rw [← z.2, ew]))
                · rw [if_neg (fun z => z.1.elim q4 (fun y => qe y.2))]
            · refine Or.inr (Or.inr ⟨nt, fun z => z.elim q4 (fun y => q1 y.1), ?_⟩)
              rw [if_neg (fun z => z.1.elim q4 (fun y => q1 y.1))]
      · show (_ ∧ _ ∧ x_ap g el r' c (h 3 c) (num (h 3) c) 10 (3 * r' + o) = _) ∨ (_ ∧ _ ∧ x_ap g el r' c (h 3 c) (num (h 3) c) 10 (3 * r' + o) = _) ∨ (_ ∧ _ ∧ x_ap g el r' c (h 3 c) (num (h 3) c) 10 (3 * r' + o) = _)
        rw [x_ap_10 hr hr ho' ho, if_pos rfl, g1c]
        by_cases q2 : h 1 c = 2
        · by_cases q1 : o = h 3 c
          · exact Or.inl ⟨q2, q1, if_pos ⟨q2, q1⟩⟩
          · refine Or.inr (Or.inl ⟨fun z => q1 z.2, Or.inr q2, ?_⟩)
            rw [if_neg (fun z => q1 z.2)]
            simp [q2]
        · rw [if_neg (fun z => q2 z.1)]
          by_cases q4 : h 1 c = 4
          · refine Or.inr (Or.inl ⟨fun z => q2 z.1, Or.inl q4, ?_⟩)
            simp [q4]
          · refine Or.inr (Or.inr ⟨fun z => q2 z.1, fun z => z.elim q4 q2, ?_⟩)
            rw [if_neg (fun z => z.1.elim q4 q2)]
      · show (_ ∧ x_ap g el r' c (h 3 c) (num (h 3) c) 8 (3 * r' + o) = _) ∨ (_ ∧ x_ap g el r' c (h 3 c) (num (h 3) c) 8 (3 * r' + o) = _)
        rw [x_ap_8 hr hr ho', g1c]
        by_cases q4 : h 1 c = 4
        · refine Or.inl ⟨q4, ?_⟩
          simp [q4]
        · exact Or.inr ⟨q4, if_neg (fun z => q4 z.1)⟩
    · refine Rep_congr h3 (hkoth r' hr' hrr) (fun _ _ _ _ => rfl) (fun el' o hel' ho' => ?_) (fun o ho' => ?_) (fun o ho' => ?_) (hrep r' hr')
      · show x_ap g el r c (h 3 c) (num (h 3) c) 9 (24 * r' + 3 * el' + o) = _
        rw [x_ap_9 hr hr' hel' ho' ho (by rw [g1c]; exact fun q => (hel q).1), if_neg hrr]
      · show x_ap g el r c (h 3 c) (num (h 3) c) 10 (3 * r' + o) = _
        rw [x_ap_10 hr hr' ho' ho, if_neg hrr]
      · show x_ap g el r c (h 3 c) (num (h 3) c) 8 (3 * r' + o) = _
        rw [x_ap_8 hr hr' ho', if_neg (fun z => hrr z.2.1)]
  · by_cases hrr : r' = r
    · subst hrr
      rw [x_sb_eq, tb_or, Bool.or_eq_true, tb_one (by omega) hd, decide_eq_true_eq, hK r' d hr hd]
      exact (kw_up (k := fun o => g 7 (3 * r' + o)) h3 hc hkup hn).symm
    · rw [x_sb_ne (by omega), hK r' d hr' hd]
      exact (kw_congr (k := fun o => g 7 (3 * r' + o)) h3 (hkoth r' hr' hrr)).symm
  · rw [x_sb_ne (by omega), hP d c' hd hc', hlo 3 _ (by omega)]
end REL2
end
section
/-! the relation is kept by making a change -/
section MK
variable {g h : Nat → Nat → Nat} {v w : Nat → Nat → Int32} {b : Nat → Nat → Int64} {r sn el o i j k d : Nat} {a : Int32}
theorem x_mS_out {n : Nat} : ∀ o, ¬ (3 * n ≤ j ∧ j < 3 * n + o) → x_mS g r n o 3 j = g 3 j
  | 0, _ => rfl
  | o + 1, hh => by
    unfold x_mS
    rw [x_su_ne (by omega), x_mS_out o (by omega)]
theorem x_mS_in {n : Nat} : ∀ o, i < o → x_mS g r n o 3 (3 * n + i) = g 7 (3 * r + i)
  | 0, hh => absurd hh (by omega)
  | o + 1, hh => by
    unfold x_mS
    by_cases hi : i = o
    · subst hi
      rw [x_su_eq, x_mS_ne (by omega)]
    · rw [x_su_ne (by omega), x_mS_in o (by omega)]
theorem x_m2_0 : x_m2 g r sn 0 0 = g 0 0 + 1 := by
  unfold x_m2 x_m1 x_m0
  rw [x_su_ne (by omega), x_su_ne (by omega), x_mS_ne (by omega), x_su_ne (by omega), x_su_eq]
theorem x_m2_1o (hd : d ≠ g 0 0) : x_m2 g r sn 1 d = g 1 d := by
  unfold x_m2 x_m1 x_m0
  rw [x_su_ne (by omega), x_su_ne (by omega), x_mS_ne (by omega), x_su_ne (by omega), x_su_ne (by omega)]
theorem x_m2_3n (ho : o < 3) : x_m2 g r sn 3 (3 * g 0 0 + o) = g 7 (3 * r + o) := by
  unfold x_m2 x_m1 x_m0
  rw [x_su_ne (by omega), x_su_ne (by omega), x_mS_in 3 ho, x_su_ne (by omega), x_su_ne (by omega)]
theorem x_m2_3o (hd : d ≠ g 0 0) (ho : o < 3) : x_m2 g r sn 3 (3 * d + o) = g 3 (3 * d + o) := by
  unfold x_m2 x_m1 x_m0
  rw [x_su_ne (by omega), x_su_ne (by omega), x_mS_out 3 (by omega), x_su_ne (by omega), x_su_ne (by omega)]
theorem x_m2_4r : x_m2 g r sn 4 r = g 4 r + 1 := by
  unfold x_m2
  rw [x_su_ne (by omega), x_su_eq]
theorem x_m2_4o (ho : o ≠ r) : x_m2 g r sn 4 o = g 4 o := by
  unfold x_m2 x_m1 x_m0
  rw [x_su_ne (by omega), x_su_ne (by omega), x_mS_ne (by omega), x_su_ne (by omega), x_su_ne (by omega)]
theorem x_m2_5n : x_m2 g r sn 5 (49 * r + (g 4 r + 1)) = g 0 0 := by
  unfold x_m2
  rw [x_su_eq]
theorem x_m2_5o (hj : j ≠ 49 * r + (g 4 r + 1)) : x_m2 g r sn 5 j = g 5 j := by
  unfold x_m2 x_m1 x_m0
  rw [x_su_ne (by omega), x_su_ne (by omega), x_mS_ne (by omega), x_su_ne (by omega), x_su_ne (by omega)]
theorem x_m2_hi (hk : 7 ≤ k) : x_m2 g r sn k j = g k j := by
  unfold x_m2 x_m1 x_m0
  rw [x_su_ne (by omega), x_su_ne (by omega), x_mS_ne (by omega), x_su_ne (by omega), x_su_ne (by omega)]
theorem x_mkv_2o (hd : d ≠ g 0 0) : x_mkv g v r sn a 2 d = v 2 d := by
  unfold x_mkv
  rw [x_sv_ne (by omega), x_sv_ne (by omega)]
theorem x_mkv_6o (hj : j ≠ 49 * r + (g 4 r + 1)) : x_mkv g v r sn a 6 j = v 6 j := by
  unfold x_mkv
  rw [x_sv_ne (by omega), x_sv_ne (by omega)]
theorem x_mkv_6n : x_mkv g v r sn a 6 (49 * r + (g 4 r + 1)) = v 6 (49 * r + g 4 r) + bW (sn = 3) a := by
  unfold x_mkv
  rw [x_sv_eq, x_sv_ne (by omega)]
  by_cases q : sn = 3
  · rw [if_pos q, bW_t q]
    rfl
  · rw [if_neg q, bW_f q]
    rfl
theorem y_mk_0 : y_mk h r sn 0 0 = h 0 0 + 1 := by
  unfold y_mk
  rw [x_su_eq]
theorem y_mk_1n : y_mk h r sn 1 (h 0 0) = sn := by
  unfold y_mk
  rw [x_su_ne (by omega), x_su_ne (by omega), x_su_eq]
theorem y_mk_1o (hd : d ≠ h 0 0) : y_mk h r sn 1 d = h 1 d := by
  unfold y_mk
  rw [x_su_ne (by omega), x_su_ne (by omega), x_su_ne (by omega)]
theorem y_mk_3n : y_mk h r sn 3 (h 0 0) = r := by
  unfold y_mk
  rw [x_su_ne (by omega), x_su_eq]
theorem y_mk_3o (hd : d ≠ h 0 0) : y_mk h r sn 3 d = h 3 d := by
  unfold y_mk
  rw [x_su_ne (by omega), x_su_ne (by omega), x_su_ne (by omega)]
theorem Rel_make (RR : Rel g v h w b) (hr : r < 3) (hsn : sn ≤ 4) (hm : h 0 0 < 48) (hel : sn = 0 ∨ sn = 1 → el < 8 ∧ a = nI el) :
    Rel (x_mk g el r sn) (x_mkv g v r sn a) (y_mk h r sn) (x_sv w 2 (h 0 0) a) (y_mkb h b r) := by
  obtain ⟨⟨⟨hB, hBh, h00, h5⟩, hcc, h4, h5c, hv6, hsn', hrep, hK, hP⟩, hown⟩ := RR
  have h3 : ∀ d, d < h 0 0 → h 3 d < 3 := fun d hd => (hcc d hd).2.2.1
  have h4r := h4 r hr
  have h4le : g 4 r ≤ h 0 0 := by rw [h4r]; exact oc_le _ _ _
  -- the origins
  obtain ⟨og, eog⟩ : ∃ z, z = y_mk h r sn 3 := ⟨_, rfl⟩
  have ogn : og (h 0 0) = r := by rw [eog, y_mk_3n]
  have ogo : ∀ i, i < h 0 0 → og i = h 3 i := fun i hi => by rw [eog, y_mk_3o (by omega)]
  have numn : num og (h 0 0) = g 4 r + 1 := by
    unfold num
    rw [ogn, oc_congr ogo, h4r]
  have numo : ∀ c, c < h 0 0 → num og c = num (h 3) c := fun c hc => num_congr ogo hc
  have ocn : ∀ o, o ≠ r → oc og o (h 0 0 + 1) = oc (h 3) o (h 0 0) := fun o ho => by rw [oc_f (by rw [ogn]; exact Ne.symm ho), oc_congr ogo]
  have ocr : oc og r (h 0 0 + 1) = g 4 r + 1 := by rw [oc_t ogn, oc_congr ogo, h4r]
  have ocm : ∀ o, oc (h 3) o (h 0 0) ≤ oc og o (h 0 0 + 1) := fun o => by
    have := oc_s og o (h 0 0)
    rw [oc_congr ogo] at this
    exact this
  have nle : ∀ c, c < h 0 0 → num (h 3) c ≤ 48 := fun c hc => Nat.le_trans (num_le hc) (Nat.le_trans (oc_le _ _ _) (hBh 0 0))
  have nne : ∀ c, c < h 0 0 → 49 * h 3 c + num (h 3) c ≠ 49 * r + (g 4 r + 1) := fun c hc q => by
    have h1 := nle c hc
    have h2 : num (h 3) c ≤ oc (h 3) (h 3 c) (h 0 0) := num_le hc
    have h3' : h 3 c = r := by omega
    rw [h3'] at h2
    omega
  have nne' : ∀ c, c < h 0 0 → 49 * h 3 c + (num (h 3) c - 1) ≠ 49 * r + (g 4 r + 1) := fun c hc q => by
    have h1 := nle c hc
    have h2 : num (h 3) c ≤ oc (h 3) (h 3 c) (h 0 0) := num_le hc
    have h3' : h 3 c = r := by omega
    rw [h3'] at h2
    omega
  have kout : ∀ r', r' < 3 → g 7 (3 * r' + og (h 0 0)) < num og (h 0 0) := fun r' hr' => by
    rw [numn, ogn]
    have := (hrep r' hr').1 r hr
    rw [← h4r] at this
    exact Nat.lt_succ_of_le this
  have og3 : ∀ c, c < h 0 0 + 1 → og c < 3 := fun c hc => by
    by_cases y : c = h 0 0
    · rw [y, ogn]; exact hr
    · rw [ogo c (by omega)]; exact h3 c (by omega)
  have hg5 : ∀ j, x_m2 g r sn 5 j < 48 := fun j => by
    by_cases q : j = 49 * r + (g 4 r + 1)
    · rw [q, x_m2_5n]; omega
    · rw [x_m2_5o q]; exact h5 j
  have R0 : Rel0 (x_m2 g r sn) (x_mkv g v r sn a) (y_mk h r sn) (x_sv w 2 (h 0 0) a) (x_sb b 4 (h 0 0) (b 5 r)) := by
    unfold Rel0
    rw [← eog, y_mk_0]
    refine ⟨⟨x_m2_le hB (by omega) hsn (by omega), ?_, ?_, hg5⟩, fun c hc => ?_, fun o ho => ?_, fun c hc => ?_, ⟨fun o ho => ?_, fun c hc => ?_⟩, fun d hd => ?_, fun r' hr' => ?_, fun r' c hr' hc => ?_, fun d c hd hc => ?_⟩
    · unfold y_mk
      exact ((hBh.su (by omega)).su (by omega)).su (by omega)
    · rw [x_m2_0, h00]
    · by_cases q : c = h 0 0
      · subst q
        refine ⟨?_, ?_, by rw [ogn]; exact hr, fun z => ?_⟩
        · rw [← h00, x_m2_1, h00, y_mk_1n]
        · rw [← h00, x_mkv_2, x_sv_eq]
        · rw [y_mk_1n] at z
          exact ⟨el, (hel z).1, by rw [x_sv_eq]; exact (hel z).2⟩
      · have hc' : c < h 0 0 := by omega
        rw [x_m2_1o (by omega), y_mk_1o q, x_mkv_2o (by omega), x_sv_ne (by omega), ogo c hc']
        exact hcc c hc'
    · by_cases q : o = r
      · subst q
        rw [x_m2_4r, ocr]
      · rw [x_m2_4o q, ocn o q]
        exact h4 o ho
    · by_cases q : c = h 0 0
      · subst q
        rw [ogn, numn, x_m2_5n, h00]
      · have hc' : c < h 0 0 := by omega
        rw [ogo c hc', numo c hc', x_m2_5o (nne c hc')]
        exact h5c c hc'
    · rw [x_mkv_6o (by omega)]
      exact hv6.1 o ho
    · by_cases q : c = h 0 0
      · subst q
        rw [ogn, numn, x_mkv_6n, y_mk_1n, x_sv_eq, Nat.add_sub_cancel, x_mkv_6o (by omega)]
      · have hc' : c < h 0 0 := by omega
        rw [ogo c hc', numo c hc', x_mkv_6o (nne c hc'), x_mkv_6o (nne' c hc'), y_mk_1o q, x_sv_ne (by omega)]
        exact hv6.2 c hc'
    · by_cases q : d = h 0 0
      · subst q
        refine ⟨fun o ho => ?_, ?_⟩
        · rw [← h00, x_m2_3n ho, h00]
          exact Nat.le_trans ((hrep r hr).1 o ho) (ocm o)
        · rw [ogn, ← h00, x_m2_3n hr, h00, numn, hown r hr, h4r]
      · have hd' : d < h 0 0 := by omega
        refine ⟨fun o ho => ?_, ?_⟩
        · rw [x_m2_3o (by omega) ho]
          exact Nat.le_trans ((hsn' d hd').1 o ho) (ocm o)
        · rw [ogo d hd', numo d hd', x_m2_3o (by omega) (h3 d hd')]
          exact (hsn' d hd').2
    · have e7 : ∀ k, 7 ≤ k → x_m2 g r sn k = g k := fun k hk => funext fun j => x_m2_hi hk
      rw [e7 7 (by omega), e7 8 (by omega), e7 9 (by omega), e7 10 (by omega)]
      exact Rep_grow ogo (fun i hi => y_mk_1o (by omega)) (fun i hi => x_sv_ne (by omega)) (fun i a hi ha => x_m2_3o (by omega) ha) (by rw [ogn]; exact hr) (hrep r' hr')
    · have e7 : x_m2 g r sn 7 = g 7 := funext fun j => x_m2_hi (by omega)
      rw [x_sb_ne (by omega), e7, hK r' c hr' hc]
      exact (kw_grow (k := fun o => g 7 (3 * r' + o)) ogo (kout r' hr')).symm
    · by_cases q : d = h 0 0
      · subst q
        rw [x_sb_eq, hK r c hr hc]
        have kg := kw_grow (k := fun o => g 7 (3 * r + o)) (d := c) ogo (kout r hr)
        rw [← kg]
        unfold kw
        constructor
        · rintro ⟨z1, z2⟩
          refine ⟨z1, ?_⟩
          rw [← h00, x_m2_3n (og3 c z1)]
          exact z2
        · rintro ⟨z1, z2⟩
          refine ⟨z1, ?_⟩
          rw [← h00, x_m2_3n (og3 c z1)] at z2
          exact z2
      · have hd' : d < h 0 0 := by omega
        rw [x_sb_ne (by omega), hP d c hd' hc]
        constructor
        · rintro ⟨z1, z2⟩
          refine ⟨by omega, ?_⟩
          rw [ogo c z1, numo c z1, x_m2_3o (by omega) (h3 c z1)]
          exact z2
        · rintro ⟨z1, z2⟩
          by_cases y : c = h 0 0
          · subst y
            rw [ogn, numn, x_m2_3o (by omega) hr] at z2
            have := (hsn' d hd').1 r hr
            omega
          · have z1' : c < h 0 0 := by omega
            rw [ogo c z1', numo c z1', x_m2_3o (by omega) (h3 c z1')] at z2
            exact ⟨z1', z2⟩
  have ogn' : y_mk h r sn 3 (h 0 0) = r := y_mk_3n
  have numn' : num (y_mk h r sn 3) (h 0 0) = g 4 r + 1 := by rw [← eog]; exact numn
  have A := Rel0_apply (r := r) (c := h 0 0) (el := el) R0 hr (by rw [y_mk_0]; omega) (by rw [numn', ogn', x_m2_hi (by omega), hown r hr, h4r]) (fun o ho => by rw [← h00, x_m2_3n ho, x_m2_hi (by omega)]; exact Nat.le_refl _) (by rw [y_mk_1n, x_sv_eq]; exact hel)
  rw [numn', ogn', x_sb_ne (show ¬ (5 = 4 ∧ r = h 0 0) by omega)] at A
  refine ⟨?_, fun o ho => ?_⟩
  · unfold x_mk y_mkb
    rw [h00]
    exact A
  · unfold x_mk
    rw [x_ap_7, x_m2_hi (by omega), ← eog, y_mk_0]
    by_cases q : o = r
    · subst q
      rw [if_pos rfl, ocr]
    · rw [if_neg (by omega), ocn o q]
      exact hown o ho
theorem x_mk_0 : x_mk g el r sn 0 0 = g 0 0 + 1 := by
  unfold x_mk
  rw [x_ap_lo (by omega), x_m2_0]
end MK
end
section
/-! the relation is kept by delivering and by joining -/
section DS
variable {g h : Nat → Nat → Nat} {v w : Nat → Nat → Int32} {b : Nat → Nat → Int64} {r f t el o : Nat}
theorem dl_ch (RR : Rel g v h w b) (hf : f < 3) (hlt : g 7 (3 * t + f) < g 4 f) : ∃ c, c < h 0 0 ∧ h 3 c = f ∧ num (h 3) c = g 7 (3 * t + f) + 1 ∧ g 5 (49 * f + (g 7 (3 * t + f) + 1)) = c := by
  obtain ⟨⟨-, -, h4, h5c, -⟩, -⟩ := RR
  rw [h4 f hf] at hlt
  obtain ⟨c, h1, h2, h3⟩ := oc_ex (Nat.succ_pos (g 7 (3 * t + f))) hlt
  refine ⟨c, h1, h2, h3, ?_⟩
  have := h5c c h1
  rw [h2, h3] at this
  exact this
theorem dl_el (RR : Rel g v h w b) (hf : f < 3) : ∃ el, g 7 (3 * t + f) < g 4 f → g 1 (g 5 (49 * f + (g 7 (3 * t + f) + 1))) = 0 ∨ g 1 (g 5 (49 * f + (g 7 (3 * t + f) + 1))) = 1 → el < 8 ∧ v 2 (g 5 (49 * f + (g 7 (3 * t + f) + 1))) = nI el := by
  by_cases hlt : g 7 (3 * t + f) < g 4 f
  · obtain ⟨c, h1, h2, h3, h4⟩ := dl_ch RR hf hlt
    rw [h4]
    obtain ⟨e1, e2, -, e4⟩ := RR.1.2.1 c h1
    rw [e1, e2]
    by_cases q : h 1 c = 0 ∨ h 1 c = 1
    · obtain ⟨el, z1, z2⟩ := e4 q
      exact ⟨el, fun _ _ => ⟨z1, z2⟩⟩
    · exact ⟨0, fun _ z => absurd z q⟩
  · exact ⟨0, fun z => absurd z hlt⟩
theorem Rel_deliver (RR : Rel g v h w b) (hf : f < 3) (ht : t < 3) (hel : g 7 (3 * t + f) < g 4 f → g 1 (g 5 (49 * f + (g 7 (3 * t + f) + 1))) = 0 ∨ g 1 (g 5 (49 * f + (g 7 (3 * t + f) + 1))) = 1 → el < 8 ∧ v 2 (g 5 (49 * f + (g 7 (3 * t + f) + 1))) = nI el)
    {x x' : Int32} {u : Nat → Nat → Nat} {u' : Nat → Nat → Int64} (hX : x_dlv g el f t x u) (hY : y_dlv h b f t x' u') : x = x' ∧ Rel u v h w u' := by
  have RR0 := RR
  obtain ⟨R0, hown⟩ := RR
  have R1 := R0
  obtain ⟨⟨hB, hBh, h00, h5⟩, hcc, h4, h5c, hv6, hsn', hrep, hK, hP⟩ := R0
  have hn48 : h 0 0 ≤ 48 := hBh 0 0
  have known : ∀ c, c < h 0 0 → h 3 c = f → (tb (b 5 t) c = true ↔ num (h 3) c ≤ g 7 (3 * t + f)) := fun c hc hcf => by
    rw [hK t c ht (by omega)]
    unfold kw
    rw [hcf]
    exact ⟨fun z => z.2, fun z => ⟨hc, z⟩⟩
  rcases hX with ⟨a1, rfl, rfl⟩ | ⟨a1, a2, rfl, rfl⟩ | ⟨a1, a2, rfl, rfl⟩
  · have all : ∀ i, i < h 0 0 → h 3 i = f → tb (b 5 t) i = true := fun i hi hif => by
      rw [known i hi hif]
      have := num_le (og := h 3) hi
      rw [hif, ← h4 f hf] at this
      omega
    rcases hY with ⟨c, c1, c2, c3, -⟩ | ⟨-, rfl, rfl⟩
    · rw [all c c1 c2] at c3; cases c3
    · exact ⟨rfl, RR0⟩
  · obtain ⟨ch, d1, d2, d3, d4⟩ := dl_ch RR0 hf a1
    rw [d4] at a2
    have unk : ¬ tb (b 5 t) ch = true := by rw [known ch d1 d2]; omega
    rcases hY with ⟨c, c1, c2, c3, c4, c5⟩ | ⟨all, -⟩
    · have e : c = ch := by
        rcases Nat.lt_trichotomy c ch with q | q | q
        · have := num_lt (og := h 3) (c2.trans d2.symm) q
          exact absurd ((known c c1 c2).mpr (by omega)) (by rw [c3]; decide)
        · exact q
        · exact absurd (c4 ch q d2) unk
      subst e
      obtain ⟨o, o3, olt⟩ := a2
      rcases c5 with ⟨z, -⟩ | ⟨-, rfl, rfl⟩
      · rw [tb_sub] at z
        obtain ⟨d, e1, e2, e3⟩ := oc_ex (Nat.lt_of_le_of_lt (Nat.zero_le _) olt) ((hsn' c c1).1 o o3)
        have := z d (by omega) ((hP c d c1 (by omega)).mpr ⟨e1, by rw [e2, e3]; exact Nat.le_refl _⟩)
        rw [hK t d ht (by omega)] at this
        have := this.2
        rw [e3] at this
        rw [e2] at this
        exact absurd this (Nat.not_le.mpr olt)
      · exact ⟨rfl, RR0⟩
    · exact absurd (all ch d1 d2) unk
  · obtain ⟨ch, d1, d2, d3, d4⟩ := dl_ch RR0 hf a1
    have hel := hel a1
    rw [d4] at a2 hel ⊢
    have unk : ¬ tb (b 5 t) ch = true := by rw [known ch d1 d2]; omega
    rcases hY with ⟨c, c1, c2, c3, c4, c5⟩ | ⟨all, -⟩
    · have e : c = ch := by
        rcases Nat.lt_trichotomy c ch with q | q | q
        · have := num_lt (og := h 3) (c2.trans d2.symm) q
          exact absurd ((known c c1 c2).mpr (by omega)) (by rw [c3]; decide)
        · exact q
        · exact absurd (c4 ch q d2) unk
      subst e
      rcases c5 with ⟨-, rfl, rfl⟩ | ⟨z, -⟩
      · refine ⟨rfl, ?_, fun o ho => ?_⟩
        · have e1 := (hcc c c1).1
          have e2 := (hcc c c1).2.1
          rw [e1, e2] at hel
          have A := Rel0_apply (r := t) (c := c) (el := el) R1 ht c1 (by rw [d2, d3]) a2 hel
          rw [d2, d3] at A
          exact A
        · rw [x_ap_7, if_neg]
          · exact hown o ho
          · intro q
            have q1 : o = t := by omega
            have q2 : o = f := by omega
            rw [← q1, q2, hown f hf, ← h4 f hf] at a1
            omega
      · exfalso
        apply z
        rw [tb_sub]
        intro i hi hti
        rw [hP c i c1 hi] at hti
        rw [hK t i ht hi]
        exact ⟨hti.1, Nat.le_trans hti.2 (a2 _ ((hcc i hti.1).2.2.1))⟩
    · exact absurd (all ch d1 d2) unk
theorem Rel_sync_same (RR : Rel g v h w b) : Rel g v h w (x_sb b 5 t (b 5 t ||| b 5 t)) := by
  obtain ⟨⟨hB, hcc, h4, h5c, hv6, hsn', hrep, hK, hP⟩, hown⟩ := RR
  refine ⟨⟨hB, hcc, h4, h5c, hv6, hsn', hrep, fun r c hr hc => ?_, fun d c hd hc => ?_⟩, hown⟩
  · rw [← hK r c hr hc]
    by_cases q : r = t
    · rw [q, x_sb_eq, tb_or, Bool.or_self]
    · rw [x_sb_ne (by omega)]
  · rw [x_sb_ne (by omega)]
    exact hP d c hd hc
theorem Rel_sync (RR : Rel g v h w b) (hf : f < 3) (ht : t < 3) (hne : f ≠ t) : Rel (x_jV (x_jS (x_jA g f t 8) f t 3) f t 3) v h w (x_sb b 5 t (b 5 t ||| b 5 f)) := by
  obtain ⟨⟨⟨hB, hBh, h00, h5⟩, hcc, h4, h5c, hv6, hsn', hrep, hK, hP⟩, hown⟩ := RR
  have h3 : ∀ d, d < h 0 0 → h 3 d < 3 := fun d hd => (hcc d hd).2.2.1
  obtain ⟨G, eG⟩ : ∃ z, z = x_jV (x_jS (x_jA g f t 8) f t 3) f t 3 := ⟨_, rfl⟩
  rw [← eG]
  have lo : ∀ k j, k < 7 → G k j = g k j := fun k j hk => by rw [eG, x_jV_ne (by omega) (by omega), x_jS_ne (by omega), x_jA_ne (by omega)]
  have k7t : ∀ o, o < 3 → G 7 (3 * t + o) = x_mx (g 7 (3 * f + o)) (g 7 (3 * t + o)) := fun o ho => by rw [eG, x_jV_in (Or.inl rfl) hf ht hne 3 (by omega) ho, x_jS_ne (by omega), x_jA_ne (by omega), x_jS_ne (by omega), x_jA_ne (by omega)]
  have k8t : ∀ o, o < 3 → G 8 (3 * t + o) = x_mx (g 8 (3 * f + o)) (g 8 (3 * t + o)) := fun o ho => by rw [eG, x_jV_in (Or.inr rfl) hf ht hne 3 (by omega) ho, x_jS_ne (by omega), x_jA_ne (by omega), x_jS_ne (by omega), x_jA_ne (by omega)]
  have k7o : ∀ r, r < 3 → r ≠ t → ∀ o, o < 3 → G 7 (3 * r + o) = g 7 (3 * r + o) := fun r hr hrt o ho => by rw [eG, x_jV_out (Or.inl rfl) 3 (by omega), x_jS_ne (by omega), x_jA_ne (by omega)]
  have k8o : ∀ r, r < 3 → r ≠ t → ∀ o, o < 3 → G 8 (3 * r + o) = g 8 (3 * r + o) := fun r hr hrt o ho => by rw [eG, x_jV_out (Or.inr rfl) 3 (by omega), x_jS_ne (by omega), x_jA_ne (by omega)]
  have k9t : ∀ el o, el < 8 → o < 3 → G 9 (24 * t + 3 * el + o) = x_sur (g 9 (24 * t + 3 * el + o)) (g 7 (3 * t + o)) (g 9 (24 * f + 3 * el + o)) (g 7 (3 * f + o)) := fun el o hel ho => by rw [eG, x_jV_ne (by omega) (by omega), x_jS_ne (by omega), x_jA_in hf ht hne hel ho 8 (by omega) hel]
  have k9o : ∀ r, r < 3 → r ≠ t → ∀ el o, el < 8 → o < 3 → G 9 (24 * r + 3 * el + o) = g 9 (24 * r + 3 * el + o) := fun r hr hrt el o hel ho => by rw [eG, x_jV_ne (by omega) (by omega), x_jS_ne (by omega), x_jA_out ht hr hel ho 8 (by omega) (by omega)]
  have k10t : ∀ o, o < 3 → G 10 (3 * t + o) = x_sur (g 10 (3 * t + o)) (g 7 (3 * t + o)) (g 10 (3 * f + o)) (g 7 (3 * f + o)) := fun o ho => by rw [eG, x_jV_ne (by omega) (by omega), x_jS_in hf ht hne 3 (by omega) ho, x_jA_ne (by omega), x_jA_ne (by omega), x_jA_ne (by omega), x_jA_ne (by omega)]
  have k10o : ∀ r, r < 3 → r ≠ t → ∀ o, o < 3 → G 10 (3 * r + o) = g 10 (3 * r + o) := fun r hr hrt o ho => by rw [eG, x_jV_ne (by omega) (by omega), x_jS_out 3 (by omega), x_jA_ne (by omega)]
  have hB' : x_Bd G := by rw [eG]; exact x_jV_le (x_jS_le (x_jA_le hB _ _ _) _ _ _) _ _ _
  have hmx : kMx (fun o => g 7 (3 * t + o)) (fun o => g 7 (3 * f + o)) (fun o => G 7 (3 * t + o)) := fun a ha => k7t a ha
  have e3 : (fun d o => G 3 (3 * d + o)) = fun d o => g 3 (3 * d + o) := by
    funext d o
    exact lo 3 _ (by omega)
  refine ⟨⟨⟨hB', hBh, by rw [lo 0 0 (by omega)]; exact h00, fun j => by rw [lo 5 j (by omega)]; exact h5 j⟩, fun c hc => by rw [lo 1 c (by omega)]; exact hcc c hc, fun o ho => by rw [lo 4 o (by omega)]; exact h4 o ho, fun c hc => by rw [lo 5 _ (by omega)]; exact h5c c hc, hv6, fun d hd => ⟨fun o ho => by rw [lo 3 _ (by omega)]; exact (hsn' d hd).1 o ho, by rw [lo 3 _ (by omega)]; exact (hsn' d hd).2⟩, fun r hr => ?_, fun r c hr hc => ?_, fun d c hd hc => ?_⟩, fun o ho => ?_⟩
  · rw [e3]
    by_cases q : r = t
    · subst q
      exact Rep_join h3 hmx (fun el o hel ho => k9t el o hel ho) (fun o ho => k10t o ho) (fun o ho => k8t o ho) (hrep r hr) (hrep f hf)
    · exact Rep_congr h3 (k7o r hr q) (fun _ _ _ _ => rfl) (k9o r hr q) (k10o r hr q) (k8o r hr q) (hrep r hr)
  · by_cases q : r = t
    · subst q
      rw [x_sb_eq, tb_or, Bool.or_eq_true, hK r c hr hc, hK f c hf hc]
      exact (kw_mx h3 hmx).symm
    · rw [x_sb_ne (by omega), hK r c hr hc]
      exact (kw_congr (k := fun o => g 7 (3 * r + o)) h3 (k7o r hr q)).symm
  · rw [x_sb_ne (by omega), lo 3 _ (by omega)]
    exact hP d c hd hc
  · by_cases q : o = t
    · subst q
      rw [k7t o ho]
      have h1 := hown o ho
      have h2 := (hrep f hf).1 o ho
      have h2' : g 7 (3 * f + o) ≤ oc (h 3) o (h 0 0) := h2
      unfold x_mx
      rw [if_neg (by omega)]
      exact h1
    · rw [k7o o ho q o ho]
      exact hown o ho
end DS
end
section
/-! the two objects answer alike -/
section AN
variable {g h : Nat → Nat → Nat} {v w : Nat → Nat → Int32} {b : Nat → Nat → Int64} {r o el c : Nat}
theorem an_known (RR : Rel g v h w b) (hr : r < 3) (ho : o < 3) : cN (y_kp h b r o) (h 0 0) = g 7 (3 * r + o) := by
  obtain ⟨⟨⟨hB, hBh, h00, h5⟩, hcc, h4, h5c, hv6, hsn', hrep, hK, hP⟩, hown⟩ := RR
  have hn48 : h 0 0 ≤ 48 := hBh 0 0
  have e : cN (y_kp h b r o) (h 0 0) = cN (fun c => h 3 c = o ∧ num (h 3) c ≤ g 7 (3 * r + o)) (h 0 0) := cN_congr fun i hi => by
    unfold y_kp
    rw [hK r i hr (by omega)]
    unfold kw
    constructor
    · rintro ⟨z1, z2, z3⟩
      rw [z1] at z3
      exact ⟨z1, z3⟩
    · rintro ⟨z1, z2⟩
      rw [← z1] at z2
      exact ⟨z1, hi, z2⟩
  rw [e, cN_upto, if_pos]
  exact (hrep r hr).1 o ho
theorem st_iff (RR : Rel g v h w b) (hr : r < 3) (hc : c < h 0 0) : y_st h w b r c ↔ kw (h 0 0) (h 3) (fun o => g 7 (3 * r + o)) c ∧ ∀ d, kw (h 0 0) (h 3) (fun o => g 7 (3 * r + o)) d → num (h 3) c ≤ g 3 (3 * d + h 3 c) → ¬ (h 1 d = 4 ∨ (h 1 c = 0 ∧ h 1 d = 1 ∧ w 2 d = w 2 c) ∨ (h 1 c = 2 ∧ h 1 d = 2)) := by
  obtain ⟨⟨⟨hB, hBh, h00, h5⟩, hcc, h4, h5c, hv6, hsn', hrep, hK, hP⟩, hown⟩ := RR
  have hn48 : h 0 0 ≤ 48 := hBh 0 0
  unfold y_st
  rw [hK r c hr (by omega)]
  constructor
  · rintro ⟨z1, z2⟩
    refine ⟨z1, fun d hd hn hk => z2 d hd.1 ⟨(hK r d hr (by have := hd.1; omega)).mpr hd, (hP d c hd.1 (by omega)).mpr ⟨hc, hn⟩, hk⟩⟩
  · rintro ⟨z1, z2⟩
    refine ⟨z1, fun d hd hk => ?_⟩
    obtain ⟨k1, k2, k3⟩ := hk
    exact z2 d ((hK r d hr (by omega)).mp k1) ((hP d c hd (by omega)).mp k2).2 k3
theorem an_has (RR : Rel g v h w b) (hr : r < 3) (hel : el < 8) : x_hs g r el = bI (∃ i, i < h 0 0 ∧ y_hp h w b r (nI el) i) := by
  have hrep := RR.1.2.2.2.2.2.2.1 r hr
  have h3 : ∀ d, d < h 0 0 → h 3 d < 3 := fun d hd => (RR.1.2.1 d hd).2.2.1
  by_cases E : ∃ o, o < 3 ∧ 0 < g 9 (24 * r + 3 * el + o)
  · obtain ⟨o, ho, hx⟩ := E
    rw [x_hs_1 ho hx, bI_t]
    obtain ⟨⟨c, c1, c2, c3, c4⟩, c5, c6⟩ := (hrep.2.2.1 el o hel ho).1 hx
    have c5' : g 9 (24 * r + 3 * el + o) ≤ g 7 (3 * r + o) := c5
    have c3' : num (h 3) c = g 9 (24 * r + 3 * el + o) := c3
    refine ⟨c, c1, c4.1, c4.2, (st_iff RR hr c1).mpr ⟨⟨c1, ?_⟩, fun d hd hn hk => ?_⟩⟩
    · show num (h 3) c ≤ g 7 (3 * r + h 3 c)
      rw [c2]; omega
    · have c6' : g 3 (3 * d + o) < g 9 (24 * r + 3 * el + o) := by
        refine c6 d hd ?_
        rcases hk with hk | hk | hk
        · exact Or.inl hk
        · exact Or.inr ⟨hk.2.1, by rw [hk.2.2]; exact c4.2⟩
        · have := c4.1; omega
      rw [c2] at hn
      omega
  · rw [x_hs_0 (fun o ho => Nat.eq_zero_of_not_pos fun q => E ⟨o, ho, q⟩), bI_f]
    rintro ⟨c, c1, c2, c3, c4⟩
    obtain ⟨s1, s2⟩ := (st_iff RR hr c1).mp c4
    have hz : g 9 (24 * r + 3 * el + h 3 c) = 0 := Nat.eq_zero_of_not_pos fun q => E ⟨_, h3 c c1, q⟩
    obtain ⟨d, d1, d2, d3⟩ := (hrep.2.2.1 el (h 3 c) hel (h3 c c1)).2 c c1 rfl ⟨c2, c3⟩ (by show g 9 (24 * r + 3 * el + h 3 c) < _; rw [hz]; exact num_pos _ _) s1.2
    refine s2 d d1 d3 ?_
    rcases d2 with d2 | d2
    · exact Or.inl d2
    · exact Or.inr (Or.inl ⟨c2, d2.1, by rw [d2.2, c3]⟩)
theorem an_as (RR : Rel g v h w b) (hr : r < 3) (hc : c < h 0 0) : (h 1 c = 2 ∧ y_st h w b r c) ↔ num (h 3) c = g 10 (3 * r + h 3 c) := by
  have hrep := RR.1.2.2.2.2.2.2.1 r hr
  have hsn := RR.1.2.2.2.2.2.1
  have h3 : ∀ d, d < h 0 0 → h 3 d < 3 := fun d hd => (RR.1.2.1 d hd).2.2.1
  have L := hrep.2.2.2.1 (h 3 c) (h3 c hc)
  rw [st_iff RR hr hc]
  constructor
  · rintro ⟨c2, s1, s2⟩
    rcases Nat.lt_trichotomy (num (h 3) c) (g 10 (3 * r + h 3 c)) with q | q | q
    · obtain ⟨⟨e, e1, e2, e3, e4⟩, e5, -⟩ := L.1 (show 0 < g 10 (3 * r + h 3 c) by omega)
      have e3' : num (h 3) e = g 10 (3 * r + h 3 c) := e3
      have e5' : g 10 (3 * r + h 3 c) ≤ g 7 (3 * r + h 3 c) := e5
      have := (hsn e e1).2
      rw [e2] at this
      exact absurd (Or.inr (Or.inr ⟨c2, e4⟩)) (s2 e ⟨e1, by show num (h 3) e ≤ g 7 (3 * r + h 3 e); rw [e2]; omega⟩ (by omega))
    · exact q
    · obtain ⟨d, d1, d2, d3⟩ := L.2 c hc rfl c2 q s1.2
      refine absurd ?_ (s2 d d1 d3)
      rcases d2 with d2 | d2
      · exact Or.inl d2
      · exact Or.inr (Or.inr ⟨c2, d2⟩)
  · intro q
    have hp := num_pos (h 3) c
    obtain ⟨⟨e, e1, e2, e3, e4⟩, e5, e6⟩ := L.1 (show 0 < g 10 (3 * r + h 3 c) by omega)
    have ee : e = c := num_inj e2 (by rw [e3, q])
    subst ee
    have e5' : g 10 (3 * r + h 3 e) ≤ g 7 (3 * r + h 3 e) := e5
    refine ⟨e4, ⟨e1, by show num (h 3) e ≤ g 7 (3 * r + h 3 e); omega⟩, fun d hd hn hk => ?_⟩
    have : g 3 (3 * d + h 3 e) < g 10 (3 * r + h 3 e) := by
      refine e6 d hd ?_
      rcases hk with hk | hk | hk
      · exact Or.inl hk
      · have := e4; unfold tS at this; omega
      · exact Or.inr hk.2
    omega
theorem an_live (RR : Rel g v h w b) (hr : r < 3) (ho : o < 3) (hx : 0 < g 10 (3 * r + o)) : ∃ c, c < h 0 0 ∧ h 3 c = o ∧ num (h 3) c = g 10 (3 * r + o) ∧ x_vf g v r o = w 2 c := by
  have hrep := RR.1.2.2.2.2.2.2.1 r hr
  obtain ⟨⟨e, e1, e2, e3, e4⟩, -, -⟩ := (hrep.2.2.2.1 o ho).1 hx
  have e3' : num (h 3) e = g 10 (3 * r + o) := e3
  refine ⟨e, e1, e2, e3', ?_⟩
  have h5c := RR.1.2.2.2.1 e e1
  unfold x_vf
  rw [← e3', ← e2, h5c]
  exact (RR.1.2.1 e e1).2.1
theorem an_cnt (RR : Rel g v h w b) (hr : r < 3) (F : Int32 → Prop) : cN (fun c => h 1 c = 2 ∧ F (w 2 c) ∧ y_st h w b r c) (h 0 0) = bI (0 < g 10 (3 * r + 0) ∧ F (x_vf g v r 0)) + bI (0 < g 10 (3 * r + 1) ∧ F (x_vf g v r 1)) + bI (0 < g 10 (3 * r + 2) ∧ F (x_vf g v r 2)) := by
  have h3 : ∀ d, d < h 0 0 → h 3 d < 3 := fun d hd => (RR.1.2.1 d hd).2.2.1
  have one : ∀ o, o < 3 → cN (fun c => h 3 c = o ∧ (h 1 c = 2 ∧ F (w 2 c) ∧ y_st h w b r c)) (h 0 0) = bI (0 < g 10 (3 * r + o) ∧ F (x_vf g v r o)) := by
    intro o ho
    by_cases hx : 0 < g 10 (3 * r + o)
    · obtain ⟨c, c1, c2, c3, c4⟩ := an_live RR hr ho hx
      refine cN_one (c := c) c1 fun i hi => ?_
      constructor
      · rintro ⟨z1, z2, z3, z4⟩
        have := (an_as RR hr hi).mp ⟨z2, z4⟩
        have ei : i = c := num_inj (z1.trans c2.symm) (by rw [this, z1, c3])
        subst ei
        exact ⟨rfl, hx, by rw [c4]; exact z3⟩
      · rintro ⟨rfl, -, z⟩
        have := (an_as RR hr hi).mpr (by rw [c2, c3])
        exact ⟨c2, this.1, by rw [← c4]; exact z, this.2⟩
    · rw [bI_f (fun z => hx z.1)]
      refine cN_none fun i hi z => ?_
      have := (an_as RR hr hi).mp ⟨z.2.1, z.2.2.2⟩
      rw [z.1] at this
      have hp := num_pos (h 3) i
      omega
  rw [cN_split (og := h 3) h3, one 0 (by omega), one 1 (by omega), one 2 (by omega)]
theorem an_values (RR : Rel g v h w b) (hr : r < 3) : x_vl g r 3 = cN (y_vp h w b r 2) (h 0 0) := by
  have e := an_cnt RR hr (fun _ => True)
  have e2 : cN (y_vp h w b r 2) (h 0 0) = cN (fun c => h 1 c = 2 ∧ True ∧ y_st h w b r c) (h 0 0) := cN_congr fun i _ => by
    unfold y_vp
    simp
  have one : ∀ o, (if 0 < g 10 (3 * r + o) then 1 else 0) = bI (0 < g 10 (3 * r + o) ∧ True) := fun o => by
    by_cases q : 0 < g 10 (3 * r + o)
    · rw [if_pos q, bI_t ⟨q, trivial⟩]
    · rw [if_neg q, bI_f (fun z => q z.1)]
  rw [e2, e]
  show ((0 + (if 0 < g 10 (3 * r + 0) then 1 else 0)) + (if 0 < g 10 (3 * r + 1) then 1 else 0)) + (if 0 < g 10 (3 * r + 2) then 1 else 0) = _
  rw [one, one, one]
  omega
theorem an_total (RR : Rel g v h w b) (hr : r < 3) : x_tt g v r 3 = sI (y_vp h w b r 3) (w 2) (h 0 0) := by
  have hrep := RR.1.2.2.2.2.2.2.1 r hr
  have h3 : ∀ d, d < h 0 0 → h 3 d < 3 := fun d hd => (RR.1.2.1 d hd).2.2.1
  have hv6 := RR.1.2.2.2.2.1
  obtain ⟨k1, k2, -, -, kV⟩ := hrep
  have cvk : ∀ o, o < 3 → g 8 (3 * r + o) ≤ g 7 (3 * r + o) := fun o ho => by
    by_cases q : 0 < g 8 (3 * r + o)
    · obtain ⟨d, d1, d2, d3⟩ := (kV o ho).2 q
      exact Nat.le_trans d3 (k2 d d1 o ho)
    · omega
  have k1' : ∀ o, o < 3 → g 7 (3 * r + o) ≤ oc (h 3) o (h 0 0) := k1
  have e : sI (y_vp h w b r 3) (w 2) (h 0 0) = sI (fun c => h 1 c = 3 ∧ num (h 3) c ≤ (fun o => g 7 (3 * r + o)) (h 3 c)) (w 2) (h 0 0) - sI (fun c => h 1 c = 3 ∧ num (h 3) c ≤ (fun o => g 8 (3 * r + o)) (h 3 c)) (w 2) (h 0 0) := by
    refine sI_diff (fun i hi => ?_) (fun i hi z => ⟨z.1, Nat.le_trans z.2 (cvk _ (h3 i hi))⟩)
    unfold y_vp
    rw [st_iff RR hr hi]
    constructor
    · rintro ⟨z1, z2, z3⟩
      refine ⟨⟨z1, z2.2⟩, fun z => ?_⟩
      have z4 : num (h 3) i ≤ g 8 (3 * r + h 3 i) := z.2
      have hp := num_pos (h 3) i
      obtain ⟨d, d1, d2, d3⟩ := (kV (h 3 i) (h3 i hi)).2 (show 0 < g 8 (3 * r + h 3 i) by omega)
      exact z3 d d1 (Nat.le_trans z4 d3) (Or.inl d2)
    · rintro ⟨⟨z1, z2⟩, z3⟩
      refine ⟨z1, ⟨hi, z2⟩, fun d hd hn hk => ?_⟩
      rcases hk with hk | hk | hk
      · exact z3 ⟨z1, Nat.le_trans hn ((kV (h 3 i) (h3 i hi)).1 d hd hk)⟩
      · omega
      · omega
  have u1 := sI_upto (og := h 3) (so := h 1) (ar := w 2) (A := fun o i => v 6 (49 * o + i)) (q := fun o => g 7 (3 * r + o)) (N := h 0 0) h3 hv6.1 hv6.2 (h 0 0) (Nat.le_refl _)
  have u2 := sI_upto (og := h 3) (so := h 1) (ar := w 2) (A := fun o i => v 6 (49 * o + i)) (q := fun o => g 8 (3 * r + o)) (N := h 0 0) h3 hv6.1 hv6.2 (h 0 0) (Nat.le_refl _)
  have a0 := k1' 0 (by omega)
  have a1 := k1' 1 (by omega)
  have a2 := k1' 2 (by omega)
  rw [e, u1, u2]
  rw [if_pos a0, if_pos a1, if_pos a2, if_pos (Nat.le_trans (cvk 0 (by omega)) a0), if_pos (Nat.le_trans (cvk 1 (by omega)) a1), if_pos (Nat.le_trans (cvk 2 (by omega)) a2)]
  show ((0 + (v 6 (49 * 0 + g 7 (3 * r + 0)) - v 6 (49 * 0 + g 8 (3 * r + 0)))) + (v 6 (49 * 1 + g 7 (3 * r + 1)) - v 6 (49 * 1 + g 8 (3 * r + 1)))) + (v 6 (49 * 2 + g 7 (3 * r + 2)) - v 6 (49 * 2 + g 8 (3 * r + 2))) = _
  grind
end AN
end
section
/-! the register's values by place -/
section VAL9
variable {g h : Nat → Nat → Nat} {v w : Nat → Nat → Int32} {b : Nat → Nat → Int64} {r o : Nat}
theorem bI_mono {P Q : Prop} (h : P → Q) : bI P ≤ bI Q := by
  by_cases k : P
  · rw [bI_t k, bI_t (h k)]; omega
  · rw [bI_f k]; omega
theorem bI_sum {L P Q : Prop} (h : ¬ (P ∧ Q)) : bI (L ∧ (P ∨ Q)) = bI (L ∧ P) + bI (L ∧ Q) := by
  by_cases l : L
  · by_cases p : P
    · rw [bI_t ⟨l, Or.inl p⟩, bI_t ⟨l, p⟩, bI_f (fun z => h ⟨p, z.2⟩)]
    · by_cases q : Q
      · rw [bI_t ⟨l, Or.inr q⟩, bI_f (fun z => p z.2), bI_t ⟨l, q⟩]
      · rw [bI_f (fun z => z.2.elim p q), bI_f (fun z => p z.2), bI_f (fun z => q z.2)]
  · rw [bI_f (fun z => l z.1), bI_f (fun z => l z.1), bI_f (fun z => l z.1)]
/-- before a value, and at it -/
noncomputable def q_s (g : Nat → Nat → Nat) (v : Nat → Nat → Int32) (r : Nat) (x : Int32) (i : Nat) : Nat := bI (0 < g 10 (3 * r + i) ∧ x_vf g v r i < x)
noncomputable def q_e (g : Nat → Nat → Nat) (v : Nat → Nat → Int32) (r : Nat) (x : Int32) (i : Nat) : Nat := bI (0 < g 10 (3 * r + i) ∧ x_vf g v r i = x)
theorem i32_ne {a x : Int32} : ¬ (a < x ∧ a = x) := fun z => by rw [z.2] at z; exact Int32.lt_irrefl z.1
theorem q_lo (RR : Rel g v h w b) (hr : r < 3) (x : Int32) : cN (y_up h w b r x 0) (h 0 0) = q_s g v r x 0 + q_s g v r x 1 + q_s g v r x 2 := by
  have e := an_cnt RR hr (fun z => z < x ∨ 0 ≠ 0 ∧ z = x)
  have one : ∀ i, bI (0 < g 10 (3 * r + i) ∧ (x_vf g v r i < x ∨ 0 ≠ 0 ∧ x_vf g v r i = x)) = q_s g v r x i := fun i => bI_iff ⟨fun z => ⟨z.1, z.2.elim id (fun k => absurd rfl k.1)⟩, fun z => ⟨z.1, Or.inl z.2⟩⟩
  rw [one, one, one] at e
  exact e
theorem q_hi (RR : Rel g v h w b) (hr : r < 3) (x : Int32) : cN (y_up h w b r x 1) (h 0 0) = (q_s g v r x 0 + q_e g v r x 0) + (q_s g v r x 1 + q_e g v r x 1) + (q_s g v r x 2 + q_e g v r x 2) := by
  have e := an_cnt RR hr (fun z => z < x ∨ 1 ≠ 0 ∧ z = x)
  have one : ∀ i, bI (0 < g 10 (3 * r + i) ∧ (x_vf g v r i < x ∨ 1 ≠ 0 ∧ x_vf g v r i = x)) = q_s g v r x i + q_e g v r x i := fun i => by
    rw [bI_sum (fun z => i32_ne ⟨z.1, z.2.2⟩)]
    unfold q_s q_e
    rw [bI_iff (show (0 < g 10 (3 * r + i) ∧ 1 ≠ 0 ∧ x_vf g v r i = x) ↔ (0 < g 10 (3 * r + i) ∧ x_vf g v r i = x) from ⟨fun z => ⟨z.1, z.2.2⟩, fun z => ⟨z.1, by decide, z.2⟩⟩)]
  rw [one, one, one] at e
  exact e
theorem q_le (x : Int32) (i : Nat) : q_s g v r x i + q_e g v r x i ≤ 1 := by
  unfold q_s q_e
  rw [← bI_sum i32_ne]
  exact bI_le _
theorem q_step {x x' : Int32} (hx : x < x') (i : Nat) : q_s g v r x i + q_e g v r x i ≤ q_s g v r x' i := by
  unfold q_s q_e
  rw [← bI_sum i32_ne]
  refine bI_mono fun z => ⟨z.1, ?_⟩
  rcases z.2 with k | k
  · exact Int32.lt_trans k hx
  · rw [k]; exact hx
theorem q_pl {x : Int32} (hl : 0 < g 10 (3 * r + o)) (hx : x_vf g v r o = x) (i : Nat) : bI (x_plc g v r o i) = if i = o then 0 else if i < o then q_s g v r x i + q_e g v r x i else q_s g v r x i := by
  unfold x_plc
  rw [hx]
  by_cases h1 : i = o
  · rw [if_pos h1, bI_f (fun z => z.1 h1)]
  · rw [if_neg h1]
    by_cases h2 : i < o
    · rw [if_pos h2]
      unfold q_s q_e
      rw [← bI_sum i32_ne]
      exact bI_iff ⟨fun z => ⟨z.2.1, z.2.2.elim Or.inl (fun k => Or.inr k.1)⟩, fun z => ⟨h1, z.1, z.2.elim Or.inl (fun k => Or.inr ⟨k, h2⟩)⟩⟩
    · rw [if_neg h2]
      exact bI_iff ⟨fun z => ⟨z.2.1, z.2.2.elim id (fun k => absurd k.2 h2)⟩, fun z => ⟨h1, z.1, Or.inl z.2⟩⟩
theorem q_plc {x : Int32} (ho : o < 3) (hl : 0 < g 10 (3 * r + o)) (hx : x_vf g v r o = x) : q_e g v r x o = 1 ∧ x_pl g v r o 3 = q_s g v r x 0 + q_s g v r x 1 + q_s g v r x 2 + (if 0 < o then q_e g v r x 0 else 0) + (if 1 < o then q_e g v r x 1 else 0) := by
  have e1 : q_e g v r x o = 1 := bI_t ⟨hl, hx⟩
  have e2 : q_s g v r x o = 0 := bI_f (fun z => i32_ne ⟨z.2, hx⟩)
  refine ⟨e1, ?_⟩
  show ((0 + bI (x_plc g v r o 0)) + bI (x_plc g v r o 1)) + bI (x_plc g v r o 2) = _
  rw [q_pl hl hx, q_pl hl hx, q_pl hl hx]
  rcases (show o = 0 ∨ o = 1 ∨ o = 2 by omega) with rfl | rfl | rfl
  · simp [e2]
  · simp [e2]
    omega
  · simp [e2]
    omega
theorem i32_le {k : Nat} (hk : k ≤ 1000) {y : Int32} : nI k ≤ y ↔ (k : Int) ≤ y.toInt := by rw [Int32.le_iff_toInt_le, nI_toInt (nI_small hk)]
theorem i32_lt {k : Nat} (hk : k ≤ 1000) {y : Int32} : y < nI k ↔ y.toInt < (k : Int) := by rw [Int32.lt_iff_toInt_lt, nI_toInt (nI_small hk)]
theorem i32_eq {k : Nat} (hk : k ≤ 1000) {y : Int32} : nI k = y ↔ (k : Int) = y.toInt := by rw [← Int32.toInt_inj, nI_toInt (nI_small hk)]
theorem least_lt {P : Nat → Prop} {N : Nat} (hh : ∃ c, c < N ∧ P c) : ∃ c, c < N ∧ (∀ i, i < c → ¬ P i) ∧ P c := by
  obtain ⟨k, ⟨h1, h2⟩, h3⟩ := pk_least (fun c => c < N ∧ P c) hh
  exact ⟨k, h1, fun i hi z => h3 i hi ⟨by omega, z⟩, h2⟩
theorem an_value (RR : Rel g v h w b) (hr : r < 3) (y : Int32) : ∃ z, x_vv g v r y z ∧ y_vv h w b r y z := by
  -- a change that answers is the surviving one of its origin
  have back : ∀ c, c < h 0 0 → y_vc h w b r y c → h 3 c < 3 ∧ 0 < g 10 (3 * r + h 3 c) ∧ x_vf g v r (h 3 c) = w 2 c ∧ ((q_s g v r (w 2 c) 0 + q_s g v r (w 2 c) 1 + q_s g v r (w 2 c) 2 : Nat) : Int) ≤ y.toInt ∧ y.toInt < (((q_s g v r (w 2 c) 0 + q_e g v r (w 2 c) 0) + (q_s g v r (w 2 c) 1 + q_e g v r (w 2 c) 1) + (q_s g v r (w 2 c) 2 + q_e g v r (w 2 c) 2) : Nat) : Int) := by
    intro c hc hv
    obtain ⟨v1, v2, v3, v4⟩ := hv
    have h3 := (RR.1.2.1 c hc).2.2.1
    have hn := (an_as RR hr hc).mp ⟨v1, v2⟩
    have hp := num_pos (h 3) c
    have hx : 0 < g 10 (3 * r + h 3 c) := by omega
    obtain ⟨e, e1, e2, e3, e4⟩ := an_live RR hr h3 hx
    have ee : e = c := num_inj e2 (by rw [e3, hn])
    subst ee
    rw [q_lo RR hr] at v3
    rw [q_hi RR hr] at v4
    have l0 := q_le (g := g) (v := v) (r := r) (w 2 e) 0
    have l1 := q_le (g := g) (v := v) (r := r) (w 2 e) 1
    have l2 := q_le (g := g) (v := v) (r := r) (w 2 e) 2
    rw [i32_le (by omega)] at v3
    rw [i32_lt (by omega)] at v4
    exact ⟨h3, hx, e4, v3, v4⟩
  have fwd : ∀ c x, c < h 0 0 → h 1 c = 2 → y_st h w b r c → w 2 c = x → ((q_s g v r x 0 + q_s g v r x 1 + q_s g v r x 2 : Nat) : Int) ≤ y.toInt → y.toInt < (((q_s g v r x 0 + q_e g v r x 0) + (q_s g v r x 1 + q_e g v r x 1) + (q_s g v r x 2 + q_e g v r x 2) : Nat) : Int) → y_vc h w b r y c := by
    intro c x hc h1 h2 hx z1 z2
    have l0 := q_le (g := g) (v := v) (r := r) x 0
    have l1 := q_le (g := g) (v := v) (r := r) x 1
    have l2 := q_le (g := g) (v := v) (r := r) x 2
    refine ⟨h1, h2, ?_, ?_⟩
    · rw [hx, q_lo RR hr, i32_le (by omega)]; exact z1
    · rw [hx, q_hi RR hr, i32_lt (by omega)]; exact z2
  by_cases E : ∃ o, o < 3 ∧ x_vc g v r y o
  · obtain ⟨o, o3, omin, ohit⟩ := least_lt E
    obtain ⟨x, hx⟩ : ∃ x, x_vf g v r o = x := ⟨_, rfl⟩
    refine ⟨x, Or.inl ⟨o, o3, omin, ohit, hx.symm⟩, Or.inl ?_⟩
    obtain ⟨ol, op⟩ := ohit
    obtain ⟨p1, p2⟩ := q_plc (x := x) o3 ol hx
    have l0 := q_le (g := g) (v := v) (r := r) x 0
    have l1 := q_le (g := g) (v := v) (r := r) x 1
    have l2 := q_le (g := g) (v := v) (r := r) x 2
    have hpl := x_pl_le g v r o 3
    rw [i32_eq (by omega)] at op
    have in1 : ((q_s g v r x 0 + q_s g v r x 1 + q_s g v r x 2 : Nat) : Int) ≤ y.toInt := by
      rw [← op, p2]
      omega
    have in2 : y.toInt < (((q_s g v r x 0 + q_e g v r x 0) + (q_s g v r x 1 + q_e g v r x 1) + (q_s g v r x 2 + q_e g v r x 2) : Nat) : Int) := by
      rw [← op, p2]
      rcases (show o = 0 ∨ o = 1 ∨ o = 2 by omega) with rfl | rfl | rfl
      · simp only [Nat.lt_irrefl, if_false]
        rw [if_neg (by omega)]
        omega
      · rw [if_pos (by omega), if_neg (by omega)]
        omega
      · rw [if_pos (by omega), if_pos (by omega)]
        omega
    obtain ⟨c, c1, c2, c3, c4⟩ := an_live RR hr o3 ol
    have cs := (an_as RR hr c1).mpr (by rw [c2, c3])
    obtain ⟨d, d1, d2, d3⟩ := least_lt ⟨c, c1, fwd c x c1 cs.1 cs.2 (by rw [← c4, hx]) in1 in2⟩
    refine ⟨d, d1, d2, d3, ?_⟩
    obtain ⟨b1, b2, b3, b4, b5⟩ := back d d1 d3
    rcases Int.lt_trichotomy x.toInt (w 2 d).toInt with q | q | q
    · have q' : x < w 2 d := Int32.lt_iff_toInt_lt.mpr q
      have m0 := q_step (g := g) (v := v) (r := r) q' 0
      have m1 := q_step (g := g) (v := v) (r := r) q' 1
      have m2 := q_step (g := g) (v := v) (r := r) q' 2
      omega
    · exact Int32.toInt_inj.mp q
    · have q' : w 2 d < x := Int32.lt_iff_toInt_lt.mpr q
      have m0 := q_step (g := g) (v := v) (r := r) q' 0
      have m1 := q_step (g := g) (v := v) (r := r) q' 1
      have m2 := q_step (g := g) (v := v) (r := r) q' 2
      omega
  · refine ⟨0, Or.inr ⟨fun o ho z => E ⟨o, ho, z⟩, rfl⟩, Or.inr ⟨fun c hc z => ?_, rfl⟩⟩
    obtain ⟨b1, b2, b3, b4, b5⟩ := back c hc z
    obtain ⟨x, hx⟩ : ∃ x, x = w 2 c := ⟨_, rfl⟩
    rw [← hx] at b4 b5
    have l0 := q_le (g := g) (v := v) (r := r) x 0
    have l1 := q_le (g := g) (v := v) (r := r) x 1
    have l2 := q_le (g := g) (v := v) (r := r) x 2
    have live : ∀ i, q_e g v r x i = 1 → 0 < g 10 (3 * r + i) ∧ x_vf g v r i = x := fun i hi => bI_n0 (by unfold q_e at hi; omega)
    have hit : ∀ i, i < 3 → q_e g v r x i = 1 → ((q_s g v r x 0 + q_s g v r x 1 + q_s g v r x 2 + (if 0 < i then q_e g v r x 0 else 0) + (if 1 < i then q_e g v r x 1 else 0) : Nat) : Int) = y.toInt → False := by
      intro i hi he hy
      obtain ⟨k1, k2⟩ := live i he
      obtain ⟨p1, p2⟩ := q_plc (x := x) hi k1 k2
      have hpl := x_pl_le g v r i 3
      refine E ⟨i, hi, k1, ?_⟩
      rw [i32_eq (by omega), p2]
      exact hy
    have f0 : ¬ (q_e g v r x 0 = 1 ∧ ((q_s g v r x 0 + q_s g v r x 1 + q_s g v r x 2 : Nat) : Int) = y.toInt) := fun k => hit 0 (by omega) k.1 (by rw [if_neg (by omega), if_neg (by omega)]; exact k.2)
    have f1 : ¬ (q_e g v r x 1 = 1 ∧ ((q_s g v r x 0 + q_s g v r x 1 + q_s g v r x 2 + q_e g v r x 0 : Nat) : Int) = y.toInt) := fun k => hit 1 (by omega) k.1 (by rw [if_pos (by omega), if_neg (by omega)]; exact k.2)
    have f2 : ¬ (q_e g v r x 2 = 1 ∧ ((q_s g v r x 0 + q_s g v r x 1 + q_s g v r x 2 + q_e g v r x 0 + q_e g v r x 1 : Nat) : Int) = y.toInt) := fun k => hit 2 (by omega) k.1 (by rw [if_pos (by omega), if_pos (by omega)]; exact k.2)
    generalize q_e g v r x 0 = e0 at *
    generalize q_e g v r x 1 = e1 at *
    generalize q_e g v r x 2 = e2 at *
    generalize q_s g v r x 0 = s0 at *
    generalize q_s g v r x 1 = s1 at *
    generalize q_s g v r x 2 = s2 at *
    clear hit live back fwd
    omega
end VAL9
end
section
/-! the constructors, and the relation at the start -/
section NW
variable {p : Program} {l : Launch} {e : Env} {R : Room} {s : State} {m : MethodId} {args : Array Value} {below : List Frame} {meth : Method} {c : Code} {H : Heap} {locs : List Loc} {cells slots : Nat} {Q : State → Prop}
variable {cc : ByteArray} {pc : Nat} {ls : Array Slot} {rest : List Value} {D : va_G} {A : Nat → Prop} {H0 : Heap} {cI cL : ClassId} {nL : Nat} {own : String} {ws : va_W}
theorem z_newi (C : z_C p s m args c cc nL own D cI cL) (P : z_W D A H0 H locs ws) {n : Nat} (hn : n ≤ 1000) (hcells : cells + 1 ≤ R.cells) (hslots : slots + n ≤ R.slots) (hdg : decode cc pc = .ok (.newarray .int, 2))
    (kk : ∀ (q : Nat) (H1 : Heap), z_W D A H0 H1 locs (ws ++ [(q, .inl (cI, n, .inl (fun _ => 0)))]) → W p l e R s m args below meth c H1 locs (cells + 1) (slots + n) Q (F0 m (pc + 2) ls (.ref q :: rest))) : W p l e R s m args below meth c H locs cells slots Q (F0 m pc ls (.int (nI n) :: rest)) := by
  refine va_newa (atype := .int) (ty := .int) (a0 := (n, .inl (fun _ => 0))) C.1 C.2.1 (C.2.2.2.2.1 _ ac_int) rfl C.2.2.2.2.2 P.1 P.2.1 P.2.2.1 P.2.2.2 (fun _ => rfl) (nI_pos (nI_small hn)) (nI_clamp (nI_small hn)) (Nat.le_trans (Nat.mul_le_mul_right _ hn) (by decide)) hcells hslots hdg (fun q cA H1 hK hP hD hS => ?_)
  have e1 : s.vm.findClass ("[" ++ FieldType.int.toString) = some cI := (hK.2 0 (cI, .int) rfl).2
  have e2 : s.vm.findClass ("[" ++ FieldType.int.toString) = some cA := (hK.2 2 (cA, .int) rfl).2
  have e3 : cA = cI := Option.some.inj (e2.symm.trans e1)
  subst e3
  exact kk q H1 ⟨hP, hD, hS, P.2.2.2⟩
theorem z_newl (C : z_C p s m args c cc nL own D cI cL) (P : z_W D A H0 H locs ws) {n : Nat} (hn : n ≤ 1000) (hcells : cells + 1 ≤ R.cells) (hslots : slots + n ≤ R.slots) (hdg : decode cc pc = .ok (.newarray .long, 2))
    (kk : ∀ (q : Nat) (H1 : Heap), z_W D A H0 H1 locs (ws ++ [(q, .inl (cL, n, .inr (.inl (fun _ => 0))))]) → W p l e R s m args below meth c H1 locs (cells + 1) (slots + n) Q (F0 m (pc + 2) ls (.ref q :: rest))) : W p l e R s m args below meth c H locs cells slots Q (F0 m pc ls (.int (nI n) :: rest)) := by
  refine va_newa (atype := .long) (ty := .long) (a0 := (n, .inr (.inl (fun _ => 0)))) C.1 C.2.1 (C.2.2.2.2.1 _ ac_long) rfl C.2.2.2.2.2 P.1 P.2.1 P.2.2.1 P.2.2.2 (fun _ => rfl) (nI_pos (nI_small hn)) (nI_clamp (nI_small hn)) (Nat.le_trans (Nat.mul_le_mul_right _ hn) (by decide)) hcells hslots hdg (fun q cA H1 hK hP hD hS => ?_)
  have e1 : s.vm.findClass ("[" ++ FieldType.long.toString) = some cL := (hK.2 1 (cL, .long) rfl).2
  have e2 : s.vm.findClass ("[" ++ FieldType.long.toString) = some cA := (hK.2 2 (cA, .long) rfl).2
  have e3 : cA = cL := Option.some.inj (e2.symm.trans e1)
  subst e3
  exact kk q H1 ⟨hP, hD, hS, P.2.2.2⟩
end NW
abbrev g_0 : Nat → Nat → Nat := fun _ _ => 0
abbrev v_0 : Nat → Nat → Int32 := fun _ _ => 0
abbrev b_0 : Nat → Nat → Int64 := fun _ _ => 0
set_option maxHeartbeats 4000000 in
set_option maxRecDepth 100000 in
theorem c_X_init (l : Launch) (D : va_G) (cI cL : ClassId) (h0 sz : Nat) : Met l y_X_init (.code y_X_init b_X_init 1 none :: lw_g) ({ frames := 1, cells := 10, slots := 636, locals := 12 }) (va_Pc [.ref h0] (fun U => U.heap.size = sz ∧ z_B D cI cL [(h0, .inr (0, [.int 0, .null, .null, .null, .null, .null, .null, .null, .null, .null, .null]))] U)) (z_Qv D cI cL (fun q : Nat → Nat => q 0 = h0) (fun q => (x_ws q cI g_0 v_0)) (va_A [(h0, .inr (0, [.int 0, .null, .null, .null, .null, .null, .null, .null, .null, .null, .null]))] sz)) 10 636 (va_A [(h0, .inr (0, [.int 0, .null, .null, .null, .null, .null, .null, .null, .null, .null, .null]))] sz) := by
  refine Met.ofW (cc := b_X_init) (maxL := 1) (ret := none) (by decide) rfl ?_
  intro p e s m args below meth c s₁ B hml hv
  obtain ⟨rfl, rfl, hP, hK, hD⟩ := hv
  have hts := atoms_spec (ws := .code y_X_init b_X_init 1 none :: lw_g) B.pre
  have hown : s.vm.findClass R_X = some m.cls := findClass_of_methodNamed B.named
  have hin : meth.name = "<init>" := (name_of_methodNamed B.named B.method).1
  have hlk := B.notSynchronized
  have hr := B.returns
  have C : z_C p s m _ c b_X_init 1 R_X D cI cL := ⟨B.exec, B.bytes, hml, hown, fun w hw => hts w (List.mem_cons_of_mem _ hw), hK⟩
  have P : z_W D (va_A [(h0, .inr (0, [.int 0, .null, .null, .null, .null, .null, .null, .null, .null, .null, .null]))] s.heap.size) s.heap s.heap [] [(h0, .inr (0, [.int 0, .null, .null, .null, .null, .null, .null, .null, .null, .null, .null]))] := ⟨hP, hD.self, va_S.rf, fun z h => Or.inr h⟩
  have hx := C.1
  have hb := C.2.1
  rw [lg_entry_eq]
  have hl := lv_entry ([.ref h0]) (n := 1) (Nat.le_of_ble_eq_true rfl)
  generalize (lg_sl ([.ref h0]) ++ List.replicate (1 - (lg_sl ([.ref h0])).length) Slot.unset).toArray = ls at hl ⊢
  have hl : lv_has ls 1 [(0, .ref h0)] := hl
  refine lv_aload_n hx hb d_X_init_0 rfl (lv_at hl 0 rfl) ?_
  refine W.objInit hx hb hown (C.2.2.2.2.1 _ ml_X_1) (C.2.2.2.2.1 _ im_objectInit) (C.2.2.2.2.1 _ k_objectInit) rfl (by rw [hml]; exact hl.1) rfl d_X_init_1 (Nat.le_of_ble_eq_true rfl) (Nat.le_of_ble_eq_true rfl) ?_
  refine W.eq (g2 := F0 m 4 ls []) rfl ?_
  refine lv_aload_n hx hb d_X_init_4 rfl (lv_at hl 0 rfl) ?_
  refine lv_bipush (v := nI 48) hx hb d_X_init_5 rfl ?_
  refine z_newi C P (by decide) (Nat.le_of_ble_eq_true rfl) (Nat.le_of_ble_eq_true rfl) d_X_init_7 (fun q1 H P => ?_)
  refine W.widen (k := 1) (n := 48) (by omega) (by omega) ?_
  have P : z_W D _ _ H _ [(h0, .inr (0, [.int 0, .null, .null, .null, .null, .null, .null, .null, .null, .null, .null])), (q1, .inl (cI, 48, .inl (fun _ => 0)))] := P
  refine va_putF (D := D) (cl := classes) (ci := 0) (v := .ref q1) (ty := .array .int) (C := R_X) (T := F_X) (N := 11) hx hb C.2.2.2.2.1 i_X t_X t_X_ok n_X hown C.2.2.2.2.2 P.1 P.2.1 P.2.2.1 0 rfl rfl 1 (by decide) (C.2.2.2.2.1 _ fl_X_7) (fun _ h9 => h9) rfl hin rfl (by decide +kernel) rfl rfl (Nat.le_of_ble_eq_true rfl) d_X_init_9 (fun H locs hP hD hS => ?_)
  have P : z_W D (va_A [(h0, .inr (0, [.int 0, .null, .null, .null, .null, .null, .null, .null, .null, .null, .null]))] s.heap.size) s.heap H locs [(h0, .inr (0, [.int 0, .ref q1, .null, .null, .null, .null, .null, .null, .null, .null, .null])), (q1, .inl (cI, 48, .inl (fun _ => 0)))] := ⟨hP, hD, hS, P.2.2.2⟩
  refine lv_aload_n hx hb d_X_init_12 rfl (lv_at hl 0 rfl) ?_
  refine lv_bipush (v := nI 48) hx hb d_X_init_13 rfl ?_
  refine z_newi C P (by decide) (Nat.le_of_ble_eq_true rfl) (Nat.le_of_ble_eq_true rfl) d_X_init_15 (fun q2 H P => ?_)
  refine W.widen (k := 2) (n := 96) (by omega) (by omega) ?_
  have P : z_W D _ _ H _ [(h0, .inr (0, [.int 0, .ref q1, .null, .null, .null, .null, .null, .null, .null, .null, .null])), (q1, .inl (cI, 48, .inl (fun _ => 0))), (q2, .inl (cI, 48, .inl (fun _ => 0)))] := P
  refine va_putF (D := D) (cl := classes) (ci := 0) (v := .ref q2) (ty := .array .int) (C := R_X) (T := F_X) (N := 11) hx hb C.2.2.2.2.1 i_X t_X t_X_ok n_X hown C.2.2.2.2.2 P.1 P.2.1 P.2.2.1 0 rfl rfl 2 (by decide) (C.2.2.2.2.1 _ fl_X_13) (fun _ h9 => h9) rfl hin rfl (by decide +kernel) rfl rfl (Nat.le_of_ble_eq_true rfl) d_X_init_17 (fun H locs hP hD hS => ?_)
  have P : z_W D (va_A [(h0, .inr (0, [.int 0, .null, .null, .null, .null, .null, .null, .null, .null, .null, .null]))] s.heap.size) s.heap H locs [(h0, .inr (0, [.int 0, .ref q1, .ref q2, .null, .null, .null, .null, .null, .null, .null, .null])), (q1, .inl (cI, 48, .inl (fun _ => 0))), (q2, .inl (cI, 48, .inl (fun _ => 0)))] := ⟨hP, hD, hS, P.2.2.2⟩
  refine lv_aload_n hx hb d_X_init_20 rfl (lv_at hl 0 rfl) ?_
  refine lv_sipush (v := nI 144) hx hb d_X_init_21 rfl ?_
  refine z_newi C P (by decide) (Nat.le_of_ble_eq_true rfl) (Nat.le_of_ble_eq_true rfl) d_X_init_24 (fun q3 H P => ?_)
  refine W.widen (k := 3) (n := 240) (by omega) (by omega) ?_
  have P : z_W D _ _ H _ [(h0, .inr (0, [.int 0, .ref q1, .ref q2, .null, .null, .null, .null, .null, .null, .null, .null])), (q1, .inl (cI, 48, .inl (fun _ => 0))), (q2, .inl (cI, 48, .inl (fun _ => 0))), (q3, .inl (cI, 144, .inl (fun _ => 0)))] := P
  refine va_putF (D := D) (cl := classes) (ci := 0) (v := .ref q3) (ty := .array .int) (C := R_X) (T := F_X) (N := 11) hx hb C.2.2.2.2.1 i_X t_X t_X_ok n_X hown C.2.2.2.2.2 P.1 P.2.1 P.2.2.1 0 rfl rfl 3 (by decide) (C.2.2.2.2.1 _ fl_X_16) (fun _ h9 => h9) rfl hin rfl (by decide +kernel) rfl rfl (Nat.le_of_ble_eq_true rfl) d_X_init_26 (fun H locs hP hD hS => ?_)
  have P : z_W D (va_A [(h0, .inr (0, [.int 0, .null, .null, .null, .null, .null, .null, .null, .null, .null, .null]))] s.heap.size) s.heap H locs [(h0, .inr (0, [.int 0, .ref q1, .ref q2, .ref q3, .null, .null, .null, .null, .null, .null, .null])), (q1, .inl (cI, 48, .inl (fun _ => 0))), (q2, .inl (cI, 48, .inl (fun _ => 0))), (q3, .inl (cI, 144, .inl (fun _ => 0)))] := ⟨hP, hD, hS, P.2.2.2⟩
  refine lv_aload_n hx hb d_X_init_29 rfl (lv_at hl 0 rfl) ?_
  refine lv_iconst (v := nI 3) hx hb d_X_init_30 rfl ?_
  refine z_newi C P (by decide) (Nat.le_of_ble_eq_true rfl) (Nat.le_of_ble_eq_true rfl) d_X_init_31 (fun q4 H P => ?_)
  refine W.widen (k := 4) (n := 243) (by omega) (by omega) ?_
  have P : z_W D _ _ H _ [(h0, .inr (0, [.int 0, .ref q1, .ref q2, .ref q3, .null, .null, .null, .null, .null, .null, .null])), (q1, .inl (cI, 48, .inl (fun _ => 0))), (q2, .inl (cI, 48, .inl (fun _ => 0))), (q3, .inl (cI, 144, .inl (fun _ => 0))), (q4, .inl (cI, 3, .inl (fun _ => 0)))] := P
  refine va_putF (D := D) (cl := classes) (ci := 0) (v := .ref q4) (ty := .array .int) (C := R_X) (T := F_X) (N := 11) hx hb C.2.2.2.2.1 i_X t_X t_X_ok n_X hown C.2.2.2.2.2 P.1 P.2.1 P.2.2.1 0 rfl rfl 4 (by decide) (C.2.2.2.2.1 _ fl_X_19) (fun _ h9 => h9) rfl hin rfl (by decide +kernel) rfl rfl (Nat.le_of_ble_eq_true rfl) d_X_init_33 (fun H locs hP hD hS => ?_)
  have P : z_W D (va_A [(h0, .inr (0, [.int 0, .null, .null, .null, .null, .null, .null, .null, .null, .null, .null]))] s.heap.size) s.heap H locs [(h0, .inr (0, [.int 0, .ref q1, .ref q2, .ref q3, .ref q4, .null, .null, .null, .null, .null, .null])), (q1, .inl (cI, 48, .inl (fun _ => 0))), (q2, .inl (cI, 48, .inl (fun _ => 0))), (q3, .inl (cI, 144, .inl (fun _ => 0))), (q4, .inl (cI, 3, .inl (fun _ => 0)))] := ⟨hP, hD, hS, P.2.2.2⟩
  refine lv_aload_n hx hb d_X_init_36 rfl (lv_at hl 0 rfl) ?_
  refine lv_sipush (v := nI 147) hx hb d_X_init_37 rfl ?_
  refine z_newi C P (by decide) (Nat.le_of_ble_eq_true rfl) (Nat.le_of_ble_eq_true rfl) d_X_init_40 (fun q5 H P => ?_)
  refine W.widen (k := 5) (n := 390) (by omega) (by omega) ?_
  have P : z_W D _ _ H _ [(h0, .inr (0, [.int 0, .ref q1, .ref q2, .ref q3, .ref q4, .null, .null, .null, .null, .null, .null])), (q1, .inl (cI, 48, .inl (fun _ => 0))), (q2, .inl (cI, 48, .inl (fun _ => 0))), (q3, .inl (cI, 144, .inl (fun _ => 0))), (q4, .inl (cI, 3, .inl (fun _ => 0))), (q5, .inl (cI, 147, .inl (fun _ => 0)))] := P
  refine va_putF (D := D) (cl := classes) (ci := 0) (v := .ref q5) (ty := .array .int) (C := R_X) (T := F_X) (N := 11) hx hb C.2.2.2.2.1 i_X t_X t_X_ok n_X hown C.2.2.2.2.2 P.1 P.2.1 P.2.2.1 0 rfl rfl 5 (by decide) (C.2.2.2.2.1 _ fl_X_22) (fun _ h9 => h9) rfl hin rfl (by decide +kernel) rfl rfl (Nat.le_of_ble_eq_true rfl) d_X_init_42 (fun H locs hP hD hS => ?_)
  have P : z_W D (va_A [(h0, .inr (0, [.int 0, .null, .null, .null, .null, .null, .null, .null, .null, .null, .null]))] s.heap.size) s.heap H locs [(h0, .inr (0, [.int 0, .ref q1, .ref q2, .ref q3, .ref q4, .ref q5, .null, .null, .null, .null, .null])), (q1, .inl (cI, 48, .inl (fun _ => 0))), (q2, .inl (cI, 48, .inl (fun _ => 0))), (q3, .inl (cI, 144, .inl (fun _ => 0))), (q4, .inl (cI, 3, .inl (fun _ => 0))), (q5, .inl (cI, 147, .inl (fun _ => 0)))] := ⟨hP, hD, hS, P.2.2.2⟩
  refine lv_aload_n hx hb d_X_init_45 rfl (lv_at hl 0 rfl) ?_
  refine lv_sipush (v := nI 147) hx hb d_X_init_46 rfl ?_
  refine z_newi C P (by decide) (Nat.le_of_ble_eq_true rfl) (Nat.le_of_ble_eq_true rfl) d_X_init_49 (fun q6 H P => ?_)
  refine W.widen (k := 6) (n := 537) (by omega) (by omega) ?_
  have P : z_W D _ _ H _ [(h0, .inr (0, [.int 0, .ref q1, .ref q2, .ref q3, .ref q4, .ref q5, .null, .null, .null, .null, .null])), (q1, .inl (cI, 48, .inl (fun _ => 0))), (q2, .inl (cI, 48, .inl (fun _ => 0))), (q3, .inl (cI, 144, .inl (fun _ => 0))), (q4, .inl (cI, 3, .inl (fun _ => 0))), (q5, .inl (cI, 147, .inl (fun _ => 0))), (q6, .inl (cI, 147, .inl (fun _ => 0)))] := P
  refine va_putF (D := D) (cl := classes) (ci := 0) (v := .ref q6) (ty := .array .int) (C := R_X) (T := F_X) (N := 11) hx hb C.2.2.2.2.1 i_X t_X t_X_ok n_X hown C.2.2.2.2.2 P.1 P.2.1 P.2.2.1 0 rfl rfl 6 (by decide) (C.2.2.2.2.1 _ fl_X_25) (fun _ h9 => h9) rfl hin rfl (by decide +kernel) rfl rfl (Nat.le_of_ble_eq_true rfl) d_X_init_51 (fun H locs hP hD hS => ?_)
  have P : z_W D (va_A [(h0, .inr (0, [.int 0, .null, .null, .null, .null, .null, .null, .null, .null, .null, .null]))] s.heap.size) s.heap H locs [(h0, .inr (0, [.int 0, .ref q1, .ref q2, .ref q3, .ref q4, .ref q5, .ref q6, .null, .null, .null, .null])), (q1, .inl (cI, 48, .inl (fun _ => 0))), (q2, .inl (cI, 48, .inl (fun _ => 0))), (q3, .inl (cI, 144, .inl (fun _ => 0))), (q4, .inl (cI, 3, .inl (fun _ => 0))), (q5, .inl (cI, 147, .inl (fun _ => 0))), (q6, .inl (cI, 147, .inl (fun _ => 0)))] := ⟨hP, hD, hS, P.2.2.2⟩
  refine lv_aload_n hx hb d_X_init_54 rfl (lv_at hl 0 rfl) ?_
  refine lv_bipush (v := nI 9) hx hb d_X_init_55 rfl ?_
  refine z_newi C P (by decide) (Nat.le_of_ble_eq_true rfl) (Nat.le_of_ble_eq_true rfl) d_X_init_57 (fun q7 H P => ?_)
  refine W.widen (k := 7) (n := 546) (by omega) (by omega) ?_
  have P : z_W D _ _ H _ [(h0, .inr (0, [.int 0, .ref q1, .ref q2, .ref q3, .ref q4, .ref q5, .ref q6, .null, .null, .null, .null])), (q1, .inl (cI, 48, .inl (fun _ => 0))), (q2, .inl (cI, 48, .inl (fun _ => 0))), (q3, .inl (cI, 144, .inl (fun _ => 0))), (q4, .inl (cI, 3, .inl (fun _ => 0))), (q5, .inl (cI, 147, .inl (fun _ => 0))), (q6, .inl (cI, 147, .inl (fun _ => 0))), (q7, .inl (cI, 9, .inl (fun _ => 0)))] := P
  refine va_putF (D := D) (cl := classes) (ci := 0) (v := .ref q7) (ty := .array .int) (C := R_X) (T := F_X) (N := 11) hx hb C.2.2.2.2.1 i_X t_X t_X_ok n_X hown C.2.2.2.2.2 P.1 P.2.1 P.2.2.1 0 rfl rfl 7 (by decide) (C.2.2.2.2.1 _ fl_X_28) (fun _ h9 => h9) rfl hin rfl (by decide +kernel) rfl rfl (Nat.le_of_ble_eq_true rfl) d_X_init_59 (fun H locs hP hD hS => ?_)
  have P : z_W D (va_A [(h0, .inr (0, [.int 0, .null, .null, .null, .null, .null, .null, .null, .null, .null, .null]))] s.heap.size) s.heap H locs [(h0, .inr (0, [.int 0, .ref q1, .ref q2, .ref q3, .ref q4, .ref q5, .ref q6, .ref q7, .null, .null, .null])), (q1, .inl (cI, 48, .inl (fun _ => 0))), (q2, .inl (cI, 48, .inl (fun _ => 0))), (q3, .inl (cI, 144, .inl (fun _ => 0))), (q4, .inl (cI, 3, .inl (fun _ => 0))), (q5, .inl (cI, 147, .inl (fun _ => 0))), (q6, .inl (cI, 147, .inl (fun _ => 0))), (q7, .inl (cI, 9, .inl (fun _ => 0)))] := ⟨hP, hD, hS, P.2.2.2⟩
  refine lv_aload_n hx hb d_X_init_62 rfl (lv_at hl 0 rfl) ?_
  refine lv_bipush (v := nI 9) hx hb d_X_init_63 rfl ?_
  refine z_newi C P (by decide) (Nat.le_of_ble_eq_true rfl) (Nat.le_of_ble_eq_true rfl) d_X_init_65 (fun q8 H P => ?_)
  refine W.widen (k := 8) (n := 555) (by omega) (by omega) ?_
  have P : z_W D _ _ H _ [(h0, .inr (0, [.int 0, .ref q1, .ref q2, .ref q3, .ref q4, .ref q5, .ref q6, .ref q7, .null, .null, .null])), (q1, .inl (cI, 48, .inl (fun _ => 0))), (q2, .inl (cI, 48, .inl (fun _ => 0))), (q3, .inl (cI, 144, .inl (fun _ => 0))), (q4, .inl (cI, 3, .inl (fun _ => 0))), (q5, .inl (cI, 147, .inl (fun _ => 0))), (q6, .inl (cI, 147, .inl (fun _ => 0))), (q7, .inl (cI, 9, .inl (fun _ => 0))), (q8, .inl (cI, 9, .inl (fun _ => 0)))] := P
  refine va_putF (D := D) (cl := classes) (ci := 0) (v := .ref q8) (ty := .array .int) (C := R_X) (T := F_X) (N := 11) hx hb C.2.2.2.2.1 i_X t_X t_X_ok n_X hown C.2.2.2.2.2 P.1 P.2.1 P.2.2.1 0 rfl rfl 8 (by decide) (C.2.2.2.2.1 _ fl_X_31) (fun _ h9 => h9) rfl hin rfl (by decide +kernel) rfl rfl (Nat.le_of_ble_eq_true rfl) d_X_init_67 (fun H locs hP hD hS => ?_)
  have P : z_W D (va_A [(h0, .inr (0, [.int 0, .null, .null, .null, .null, .null, .null, .null, .null, .null, .null]))] s.heap.size) s.heap H locs [(h0, .inr (0, [.int 0, .ref q1, .ref q2, .ref q3, .ref q4, .ref q5, .ref q6, .ref q7, .ref q8, .null, .null])), (q1, .inl (cI, 48, .inl (fun _ => 0))), (q2, .inl (cI, 48, .inl (fun _ => 0))), (q3, .inl (cI, 144, .inl (fun _ => 0))), (q4, .inl (cI, 3, .inl (fun _ => 0))), (q5, .inl (cI, 147, .inl (fun _ => 0))), (q6, .inl (cI, 147, .inl (fun _ => 0))), (q7, .inl (cI, 9, .inl (fun _ => 0))), (q8, .inl (cI, 9, .inl (fun _ => 0)))] := ⟨hP, hD, hS, P.2.2.2⟩
  refine lv_aload_n hx hb d_X_init_70 rfl (lv_at hl 0 rfl) ?_
  refine lv_bipush (v := nI 72) hx hb d_X_init_71 rfl ?_
  refine z_newi C P (by decide) (Nat.le_of_ble_eq_true rfl) (Nat.le_of_ble_eq_true rfl) d_X_init_73 (fun q9 H P => ?_)
  refine W.widen (k := 9) (n := 627) (by omega) (by omega) ?_
  have P : z_W D _ _ H _ [(h0, .inr (0, [.int 0, .ref q1, .ref q2, .ref q3, .ref q4, .ref q5, .ref q6, .ref q7, .ref q8, .null, .null])), (q1, .inl (cI, 48, .inl (fun _ => 0))), (q2, .inl (cI, 48, .inl (fun _ => 0))), (q3, .inl (cI, 144, .inl (fun _ => 0))), (q4, .inl (cI, 3, .inl (fun _ => 0))), (q5, .inl (cI, 147, .inl (fun _ => 0))), (q6, .inl (cI, 147, .inl (fun _ => 0))), (q7, .inl (cI, 9, .inl (fun _ => 0))), (q8, .inl (cI, 9, .inl (fun _ => 0))), (q9, .inl (cI, 72, .inl (fun _ => 0)))] := P
  refine va_putF (D := D) (cl := classes) (ci := 0) (v := .ref q9) (ty := .array .int) (C := R_X) (T := F_X) (N := 11) hx hb C.2.2.2.2.1 i_X t_X t_X_ok n_X hown C.2.2.2.2.2 P.1 P.2.1 P.2.2.1 0 rfl rfl 9 (by decide) (C.2.2.2.2.1 _ fl_X_34) (fun _ h9 => h9) rfl hin rfl (by decide +kernel) rfl rfl (Nat.le_of_ble_eq_true rfl) d_X_init_75 (fun H locs hP hD hS => ?_)
  have P : z_W D (va_A [(h0, .inr (0, [.int 0, .null, .null, .null, .null, .null, .null, .null, .null, .null, .null]))] s.heap.size) s.heap H locs [(h0, .inr (0, [.int 0, .ref q1, .ref q2, .ref q3, .ref q4, .ref q5, .ref q6, .ref q7, .ref q8, .ref q9, .null])), (q1, .inl (cI, 48, .inl (fun _ => 0))), (q2, .inl (cI, 48, .inl (fun _ => 0))), (q3, .inl (cI, 144, .inl (fun _ => 0))), (q4, .inl (cI, 3, .inl (fun _ => 0))), (q5, .inl (cI, 147, .inl (fun _ => 0))), (q6, .inl (cI, 147, .inl (fun _ => 0))), (q7, .inl (cI, 9, .inl (fun _ => 0))), (q8, .inl (cI, 9, .inl (fun _ => 0))), (q9, .inl (cI, 72, .inl (fun _ => 0)))] := ⟨hP, hD, hS, P.2.2.2⟩
  refine lv_aload_n hx hb d_X_init_78 rfl (lv_at hl 0 rfl) ?_
  refine lv_bipush (v := nI 9) hx hb d_X_init_79 rfl ?_
  refine z_newi C P (by decide) (Nat.le_of_ble_eq_true rfl) (Nat.le_of_ble_eq_true rfl) d_X_init_81 (fun q10 H P => ?_)
  refine W.widen (k := 10) (n := 636) (by omega) (by omega) ?_
  have P : z_W D _ _ H _ [(h0, .inr (0, [.int 0, .ref q1, .ref q2, .ref q3, .ref q4, .ref q5, .ref q6, .ref q7, .ref q8, .ref q9, .null])), (q1, .inl (cI, 48, .inl (fun _ => 0))), (q2, .inl (cI, 48, .inl (fun _ => 0))), (q3, .inl (cI, 144, .inl (fun _ => 0))), (q4, .inl (cI, 3, .inl (fun _ => 0))), (q5, .inl (cI, 147, .inl (fun _ => 0))), (q6, .inl (cI, 147, .inl (fun _ => 0))), (q7, .inl (cI, 9, .inl (fun _ => 0))), (q8, .inl (cI, 9, .inl (fun _ => 0))), (q9, .inl (cI, 72, .inl (fun _ => 0))), (q10, .inl (cI, 9, .inl (fun _ => 0)))] := P
  refine va_putF (D := D) (cl := classes) (ci := 0) (v := .ref q10) (ty := .array .int) (C := R_X) (T := F_X) (N := 11) hx hb C.2.2.2.2.1 i_X t_X t_X_ok n_X hown C.2.2.2.2.2 P.1 P.2.1 P.2.2.1 0 rfl rfl 10 (by decide) (C.2.2.2.2.1 _ fl_X_37) (fun _ h9 => h9) rfl hin rfl (by decide +kernel) rfl rfl (Nat.le_of_ble_eq_true rfl) d_X_init_83 (fun H locs hP hD hS => ?_)
  have P : z_W D (va_A [(h0, .inr (0, [.int 0, .null, .null, .null, .null, .null, .null, .null, .null, .null, .null]))] s.heap.size) s.heap H locs [(h0, .inr (0, [.int 0, .ref q1, .ref q2, .ref q3, .ref q4, .ref q5, .ref q6, .ref q7, .ref q8, .ref q9, .ref q10])), (q1, .inl (cI, 48, .inl (fun _ => 0))), (q2, .inl (cI, 48, .inl (fun _ => 0))), (q3, .inl (cI, 144, .inl (fun _ => 0))), (q4, .inl (cI, 3, .inl (fun _ => 0))), (q5, .inl (cI, 147, .inl (fun _ => 0))), (q6, .inl (cI, 147, .inl (fun _ => 0))), (q7, .inl (cI, 9, .inl (fun _ => 0))), (q8, .inl (cI, 9, .inl (fun _ => 0))), (q9, .inl (cI, 72, .inl (fun _ => 0))), (q10, .inl (cI, 9, .inl (fun _ => 0)))] := ⟨hP, hD, hS, P.2.2.2⟩
  have P : z_W D (va_A [(h0, .inr (0, [.int 0, .null, .null, .null, .null, .null, .null, .null, .null, .null, .null]))] s.heap.size) s.heap H locs ((fun q => (x_ws q cI g_0 v_0)) (fun k => match k with | 0 => h0 | 1 => q1 | 2 => q2 | 3 => q3 | 4 => q4 | 5 => q5 | 6 => q6 | 7 => q7 | 8 => q8 | 9 => q9 | _ => q10)) := P
  exact W.vret (hlocks := hlk) hx hb hr (fun t ht hW => ⟨⟨_, rfl, rfl, by rw [ht]; exact P.1, va_K.moved hW.alike C.2.2.2.2.2, P.2.1⟩, P.2.2.1.F ht⟩) P.2.2.1.2.2 d_X_init_86
set_option maxHeartbeats 4000000 in
set_option maxRecDepth 100000 in
theorem c_Y_init (l : Launch) (D : va_G) (cI cL : ClassId) (h0 sz : Nat) : Met l y_Y_init (.code y_Y_init b_Y_init 1 none :: lw_g) ({ frames := 1, cells := 5, slots := 195, locals := 12 }) (va_Pc [.ref h0] (fun U => U.heap.size = sz ∧ z_B D cI cL [(h0, .inr (1, [.int 0, .null, .null, .null, .null, .null]))] U)) (z_Qv D cI cL (fun q : Nat → Nat => q 0 = h0) (fun q => (y_ws q cI cL g_0 v_0 b_0)) (va_A [(h0, .inr (1, [.int 0, .null, .null, .null, .null, .null]))] sz)) 5 195 (va_A [(h0, .inr (1, [.int 0, .null, .null, .null, .null, .null]))] sz) := by
  refine Met.ofW (cc := b_Y_init) (maxL := 1) (ret := none) (by decide) rfl ?_
  intro p e s m args below meth c s₁ B hml hv
  obtain ⟨rfl, rfl, hP, hK, hD⟩ := hv
  have hts := atoms_spec (ws := .code y_Y_init b_Y_init 1 none :: lw_g) B.pre
  have hown : s.vm.findClass R_Y = some m.cls := findClass_of_methodNamed B.named
  have hin : meth.name = "<init>" := (name_of_methodNamed B.named B.method).1
  have hlk := B.notSynchronized
  have hr := B.returns
  have C : z_C p s m _ c b_Y_init 1 R_Y D cI cL := ⟨B.exec, B.bytes, hml, hown, fun w hw => hts w (List.mem_cons_of_mem _ hw), hK⟩
  have P : z_W D (va_A [(h0, .inr (1, [.int 0, .null, .null, .null, .null, .null]))] s.heap.size) s.heap s.heap [] [(h0, .inr (1, [.int 0, .null, .null, .null, .null, .null]))] := ⟨hP, hD.self, va_S.rf, fun z h => Or.inr h⟩
  have hx := C.1
  have hb := C.2.1
  rw [lg_entry_eq]
  have hl := lv_entry ([.ref h0]) (n := 1) (Nat.le_of_ble_eq_true rfl)
  generalize (lg_sl ([.ref h0]) ++ List.replicate (1 - (lg_sl ([.ref h0])).length) Slot.unset).toArray = ls at hl ⊢
  have hl : lv_has ls 1 [(0, .ref h0)] := hl
  refine lv_aload_n hx hb d_Y_init_0 rfl (lv_at hl 0 rfl) ?_
  refine W.objInit hx hb hown (C.2.2.2.2.1 _ ml_Y_1) (C.2.2.2.2.1 _ im_objectInit) (C.2.2.2.2.1 _ k_objectInit) rfl (by rw [hml]; exact hl.1) rfl d_Y_init_1 (Nat.le_of_ble_eq_true rfl) (Nat.le_of_ble_eq_true rfl) ?_
  refine W.eq (g2 := F0 m 4 ls []) rfl ?_
  refine lv_aload_n hx hb d_Y_init_4 rfl (lv_at hl 0 rfl) ?_
  refine lv_bipush (v := nI 48) hx hb d_Y_init_5 rfl ?_
  refine z_newi C P (by decide) (Nat.le_of_ble_eq_true rfl) (Nat.le_of_ble_eq_true rfl) d_Y_init_7 (fun q1 H P => ?_)
  refine W.widen (k := 1) (n := 48) (by omega) (by omega) ?_
  have P : z_W D _ _ H _ [(h0, .inr (1, [.int 0, .null, .null, .null, .null, .null])), (q1, .inl (cI, 48, .inl (fun _ => 0)))] := P
  refine va_putF (D := D) (cl := classes) (ci := 1) (v := .ref q1) (ty := .array .int) (C := R_Y) (T := F_Y) (N := 6) hx hb C.2.2.2.2.1 i_Y t_Y t_Y_ok n_Y hown C.2.2.2.2.2 P.1 P.2.1 P.2.2.1 0 rfl rfl 1 (by decide) (C.2.2.2.2.1 _ fl_Y_7) (fun _ h9 => h9) rfl hin rfl (by decide +kernel) rfl rfl (Nat.le_of_ble_eq_true rfl) d_Y_init_9 (fun H locs hP hD hS => ?_)
  have P : z_W D (va_A [(h0, .inr (1, [.int 0, .null, .null, .null, .null, .null]))] s.heap.size) s.heap H locs [(h0, .inr (1, [.int 0, .ref q1, .null, .null, .null, .null])), (q1, .inl (cI, 48, .inl (fun _ => 0)))] := ⟨hP, hD, hS, P.2.2.2⟩
  refine lv_aload_n hx hb d_Y_init_12 rfl (lv_at hl 0 rfl) ?_
  refine lv_bipush (v := nI 48) hx hb d_Y_init_13 rfl ?_
  refine z_newi C P (by decide) (Nat.le_of_ble_eq_true rfl) (Nat.le_of_ble_eq_true rfl) d_Y_init_15 (fun q2 H P => ?_)
  refine W.widen (k := 2) (n := 96) (by omega) (by omega) ?_
  have P : z_W D _ _ H _ [(h0, .inr (1, [.int 0, .ref q1, .null, .null, .null, .null])), (q1, .inl (cI, 48, .inl (fun _ => 0))), (q2, .inl (cI, 48, .inl (fun _ => 0)))] := P
  refine va_putF (D := D) (cl := classes) (ci := 1) (v := .ref q2) (ty := .array .int) (C := R_Y) (T := F_Y) (N := 6) hx hb C.2.2.2.2.1 i_Y t_Y t_Y_ok n_Y hown C.2.2.2.2.2 P.1 P.2.1 P.2.2.1 0 rfl rfl 2 (by decide) (C.2.2.2.2.1 _ fl_Y_13) (fun _ h9 => h9) rfl hin rfl (by decide +kernel) rfl rfl (Nat.le_of_ble_eq_true rfl) d_Y_init_17 (fun H locs hP hD hS => ?_)
  have P : z_W D (va_A [(h0, .inr (1, [.int 0, .null, .null, .null, .null, .null]))] s.heap.size) s.heap H locs [(h0, .inr (1, [.int 0, .ref q1, .ref q2, .null, .null, .null])), (q1, .inl (cI, 48, .inl (fun _ => 0))), (q2, .inl (cI, 48, .inl (fun _ => 0)))] := ⟨hP, hD, hS, P.2.2.2⟩
  refine lv_aload_n hx hb d_Y_init_20 rfl (lv_at hl 0 rfl) ?_
  refine lv_bipush (v := nI 48) hx hb d_Y_init_21 rfl ?_
  refine z_newi C P (by decide) (Nat.le_of_ble_eq_true rfl) (Nat.le_of_ble_eq_true rfl) d_Y_init_23 (fun q3 H P => ?_)
  refine W.widen (k := 3) (n := 144) (by omega) (by omega) ?_
  have P : z_W D _ _ H _ [(h0, .inr (1, [.int 0, .ref q1, .ref q2, .null, .null, .null])), (q1, .inl (cI, 48, .inl (fun _ => 0))), (q2, .inl (cI, 48, .inl (fun _ => 0))), (q3, .inl (cI, 48, .inl (fun _ => 0)))] := P
  refine va_putF (D := D) (cl := classes) (ci := 1) (v := .ref q3) (ty := .array .int) (C := R_Y) (T := F_Y) (N := 6) hx hb C.2.2.2.2.1 i_Y t_Y t_Y_ok n_Y hown C.2.2.2.2.2 P.1 P.2.1 P.2.2.1 0 rfl rfl 3 (by decide) (C.2.2.2.2.1 _ fl_Y_16) (fun _ h9 => h9) rfl hin rfl (by decide +kernel) rfl rfl (Nat.le_of_ble_eq_true rfl) d_Y_init_25 (fun H locs hP hD hS => ?_)
  have P : z_W D (va_A [(h0, .inr (1, [.int 0, .null, .null, .null, .null, .null]))] s.heap.size) s.heap H locs [(h0, .inr (1, [.int 0, .ref q1, .ref q2, .ref q3, .null, .null])), (q1, .inl (cI, 48, .inl (fun _ => 0))), (q2, .inl (cI, 48, .inl (fun _ => 0))), (q3, .inl (cI, 48, .inl (fun _ => 0)))] := ⟨hP, hD, hS, P.2.2.2⟩
  refine lv_aload_n hx hb d_Y_init_28 rfl (lv_at hl 0 rfl) ?_
  refine lv_bipush (v := nI 48) hx hb d_Y_init_29 rfl ?_
  refine z_newl C P (by decide) (Nat.le_of_ble_eq_true rfl) (Nat.le_of_ble_eq_true rfl) d_Y_init_31 (fun q4 H P => ?_)
  refine W.widen (k := 4) (n := 192) (by omega) (by omega) ?_
  have P : z_W D _ _ H _ [(h0, .inr (1, [.int 0, .ref q1, .ref q2, .ref q3, .null, .null])), (q1, .inl (cI, 48, .inl (fun _ => 0))), (q2, .inl (cI, 48, .inl (fun _ => 0))), (q3, .inl (cI, 48, .inl (fun _ => 0))), (q4, .inl (cL, 48, .inr (.inl (fun _ => 0))))] := P
  refine va_putF (D := D) (cl := classes) (ci := 1) (v := .ref q4) (ty := .array .long) (C := R_Y) (T := F_Y) (N := 6) hx hb C.2.2.2.2.1 i_Y t_Y t_Y_ok n_Y hown C.2.2.2.2.2 P.1 P.2.1 P.2.2.1 0 rfl rfl 4 (by decide) (C.2.2.2.2.1 _ fl_Y_19) (fun _ h9 => h9) rfl hin rfl (by decide +kernel) rfl rfl (Nat.le_of_ble_eq_true rfl) d_Y_init_33 (fun H locs hP hD hS => ?_)
  have P : z_W D (va_A [(h0, .inr (1, [.int 0, .null, .null, .null, .null, .null]))] s.heap.size) s.heap H locs [(h0, .inr (1, [.int 0, .ref q1, .ref q2, .ref q3, .ref q4, .null])), (q1, .inl (cI, 48, .inl (fun _ => 0))), (q2, .inl (cI, 48, .inl (fun _ => 0))), (q3, .inl (cI, 48, .inl (fun _ => 0))), (q4, .inl (cL, 48, .inr (.inl (fun _ => 0))))] := ⟨hP, hD, hS, P.2.2.2⟩
  refine lv_aload_n hx hb d_Y_init_36 rfl (lv_at hl 0 rfl) ?_
  refine lv_iconst (v := nI 3) hx hb d_Y_init_37 rfl ?_
  refine z_newl C P (by decide) (Nat.le_of_ble_eq_true rfl) (Nat.le_of_ble_eq_true rfl) d_Y_init_38 (fun q5 H P => ?_)
  refine W.widen (k := 5) (n := 195) (by omega) (by omega) ?_
  have P : z_W D _ _ H _ [(h0, .inr (1, [.int 0, .ref q1, .ref q2, .ref q3, .ref q4, .null])), (q1, .inl (cI, 48, .inl (fun _ => 0))), (q2, .inl (cI, 48, .inl (fun _ => 0))), (q3, .inl (cI, 48, .inl (fun _ => 0))), (q4, .inl (cL, 48, .inr (.inl (fun _ => 0)))), (q5, .inl (cL, 3, .inr (.inl (fun _ => 0))))] := P
  refine va_putF (D := D) (cl := classes) (ci := 1) (v := .ref q5) (ty := .array .long) (C := R_Y) (T := F_Y) (N := 6) hx hb C.2.2.2.2.1 i_Y t_Y t_Y_ok n_Y hown C.2.2.2.2.2 P.1 P.2.1 P.2.2.1 0 rfl rfl 5 (by decide) (C.2.2.2.2.1 _ fl_Y_23) (fun _ h9 => h9) rfl hin rfl (by decide +kernel) rfl rfl (Nat.le_of_ble_eq_true rfl) d_Y_init_40 (fun H locs hP hD hS => ?_)
  have P : z_W D (va_A [(h0, .inr (1, [.int 0, .null, .null, .null, .null, .null]))] s.heap.size) s.heap H locs [(h0, .inr (1, [.int 0, .ref q1, .ref q2, .ref q3, .ref q4, .ref q5])), (q1, .inl (cI, 48, .inl (fun _ => 0))), (q2, .inl (cI, 48, .inl (fun _ => 0))), (q3, .inl (cI, 48, .inl (fun _ => 0))), (q4, .inl (cL, 48, .inr (.inl (fun _ => 0)))), (q5, .inl (cL, 3, .inr (.inl (fun _ => 0))))] := ⟨hP, hD, hS, P.2.2.2⟩
  have P : z_W D (va_A [(h0, .inr (1, [.int 0, .null, .null, .null, .null, .null]))] s.heap.size) s.heap H locs ((fun q => (y_ws q cI cL g_0 v_0 b_0)) (fun k => match k with | 0 => h0 | 1 => q1 | 2 => q2 | 3 => q3 | 4 => q4 | _ => q5)) := P
  exact W.vret (hlocks := hlk) hx hb hr (fun t ht hW => ⟨⟨_, rfl, rfl, by rw [ht]; exact P.1, va_K.moved hW.alike C.2.2.2.2.2, P.2.1⟩, P.2.2.1.F ht⟩) P.2.2.1.2.2 d_Y_init_43
theorem Rel_init : Rel g_0 v_0 g_0 v_0 b_0 := by
  have nk : ∀ k d, ¬ kw (g_0 0 0) (g_0 3) k d := fun k d h => absurd h.1 (Nat.not_lt_zero _)
  have z : ∀ T Kl o, z_LV (g_0 0 0) (g_0 3) (fun d o => g_0 3 (3 * d + o)) (fun o => g_0 7 (3 * 0 + o)) T Kl o 0 := fun T Kl o => ⟨fun h => absurd h (Nat.lt_irrefl _), fun c h => absurd h (Nat.not_lt_zero _)⟩
  refine ⟨⟨⟨fun _ _ => Nat.zero_le _, fun _ _ => Nat.zero_le _, rfl, fun _ => show 0 < 48 by decide⟩, fun c h => absurd h (Nat.not_lt_zero _), fun o _ => rfl, fun c h => absurd h (Nat.not_lt_zero _), ⟨fun _ _ => rfl, fun c h => absurd h (Nat.not_lt_zero _)⟩, fun c h => absurd h (Nat.not_lt_zero _), fun r hr => ⟨fun o _ => Nat.le_refl _, fun d h => absurd h (nk _ d), fun el o _ _ => z _ _ o, fun o _ => z _ _ o, fun o _ => ⟨fun d h => absurd h (nk _ d), fun h => absurd h (Nat.lt_irrefl _)⟩⟩, fun r c _ _ => ⟨fun h => ?_, fun h => absurd h (nk _ c)⟩, fun d c h => absurd h (Nat.not_lt_zero _)⟩, fun o _ => rfl⟩
  rw [show b_0 5 r = 0 from rfl, tb_zero] at h
  cases h
end
section
def lw_P (b : Addr) (xs : List Int32) (args : Array Value) (s : State) : Prop := args = #[.ref b] ∧ s.IntsAt b xs ∧ xs.length ≤ 1536 ∧ (Jvm.Cond.and given_1 narrow_1).before args s = true
def lw_Q (_ : Array Value) (s : State) (o : Outcome) (t : State) : Prop := o = .returned (some (.int 1)) ∧ Framed s o t [] 17 848
def lw_Z (below : List Frame) (a : Array Value) (s : State) : State → Prop := fun t => ∃ o, t.status = .running ∧ Ended t below o ∧ lw_Q a s o t
/-- the law's own end, with 1 on the stack, nothing written that was there before, its room as the claim has it -/
theorem lw_ret {p : Program} {l : Launch} {e : Env} {s : State} {m : MethodId} {below : List Frame} {meth : Method} {c : Code} {b : Nat} (hx : p.tables.exec = Jvm.exec) (hb : c.code = code) (hr : meth.sig.returnType = ret) (hlocks : meth.locks = false) {pc : Nat} {H : Heap} {ls : Array Slot} (hdg : decode code pc = .ok (.ireturn, 1)) : W p l e room_1 s m #[Value.ref b] below meth c H [] 17 848 (lw_Z below #[Value.ref b] s) (F0 m pc ls [.int 1]) := by
  intro T hT X
  obtain ⟨fs, hret, hrun, hended, hW, hframe⟩ := X.leave (v := some (.int 1)) (hlocks := hlocks) (fun h => by rw [hr] at h; cases h)
  have hmeth' : T.vm.method? m = some meth := X.method'
  refine ⟨T.setFrames fs, ?_, .returned (some (.int 1)), hrun, hended, rfl, ⟨_, rfl⟩, hW, hframe⟩
  jvm_step X.here [X.here.top, hx, hb, hdg, hmeth', hr, ret, narrow_b1]
  (try refine ⟨rfl, ?_⟩); (try refine ⟨rfl, ?_⟩)
  first | (intro acts; rw [hret _ acts rfl rfl rfl]) | rw [hret _ _ rfl rfl rfl]
  exact Steps.refl _
/-- what holds at the law's entry: the machine, the code, the tables' words (any of lw_tbl by 'hts w (by decide +kernel)'), the script of L ints xs at the cell b, what the Statement gives of the start (any of its parts by flat_of_before) -/
def lw_At (p : Program) (s : State) (m : MethodId) (meth : Method) (c : Code) (b L : Nat) (xs : Nat → Int32) : Prop :=
  p.tables.exec = Jvm.exec ∧ c.code = code ∧ meth.sig.returnType = ret ∧ c.maxLocals = 4 ∧ s.vm.findClass R_law = some m.cls ∧ (∀ w ∈ lw_tbl, w.before #[Value.ref b] s = true) ∧ va_X b L xs s s.heap ∧ b < s.heap.size ∧ meth.locks = false ∧ (Jvm.Cond.and given_1 narrow_1).before #[Value.ref b] s = true
/-! rows for a caller whose world has two parts -/
section L2
variable {p : Program} {l : Launch} {e : Env} {R : Room} {s : State} {m : MethodId} {args : Array Value} {below : List Frame} {meth : Method} {c : Code} {H : Heap} {locs : List Loc} {cells slots : Nat} {Q : State → Prop}
variable {cc : ByteArray} {pc : Nat} {ls : Array Slot} {rest : List Value} {D : va_G} {A : Nat → Prop} {H0 H1 : Heap} {cI cL : ClassId} {nL : Nat} {own : String} {wa wb wc : va_W} {locs1 : List Loc}
theorem z_gl {k : Nat} {x : Nat × va_E} (h : wa[k]? = some x) : (wa ++ wb)[k]? = some x := by
  have hk : k < wa.length := (List.getElem?_eq_some_iff.mp h).1
  rw [List.getElem?_append_left hk]
  exact h
theorem z_gr {k : Nat} {x : Nat × va_E} (h : wb[k]? = some x) : (wa ++ wb)[wa.length + k]? = some x := by
  rw [List.getElem?_append_right (Nat.le_add_right _ _), Nat.add_sub_cancel_left]
  exact h
theorem z_left (P : z_W D A H0 H locs (wa ++ wb)) : z_W D A H0 H locs wa :=
  ⟨fun k q h => P.1 k q (z_gl h), ⟨fun i j x y hi hj hxy => P.2.1.1 i j x y (z_gl hi) (z_gl hj) hxy, fun k q h => P.2.1.2 k q (z_gl h)⟩, P.2.2⟩
theorem z_right (P : z_W D A H0 H locs (wa ++ wb)) : z_W D A H0 H locs wb :=
  ⟨fun k q h => P.1 _ q (z_gr h), ⟨fun i j x y hi hj hxy => by have := P.2.1.1 _ _ x y (z_gr hi) (z_gr hj) hxy; omega, fun k q h => P.2.1.2 _ q (z_gr h)⟩, P.2.2⟩
theorem z_apart (P : z_W D A H0 H locs (wa ++ wb)) {i j : Nat} {x y : Nat × va_E} (hi : wa[i]? = some x) (hj : wb[j]? = some y) : x.1 ≠ y.1 := fun hxy => by
  have := P.2.1.1 _ _ x y (z_gl hi) (z_gr hj) hxy
  have hk : i < wa.length := (List.getElem?_eq_some_iff.mp hi).1
  omega
theorem z_joinL (P : z_W D A H0 H locs (wa ++ wb)) (hk : ∀ q : Nat, q < H.size → ¬ va_A wa H.size q → H1[q]? = H[q]?) (hP1 : va_P D classes wc H1) (hD1 : va_D (va_A wa H.size) wc) (hS : va_S A H0 H1 locs1) : z_W D A H0 H1 locs1 (wc ++ wb) := by
  have out : ∀ (j : Nat) (y : Nat × va_E), wb[j]? = some y → ¬ va_A wa H.size y.1 := fun j y hj h => by
    rcases h with ⟨k, x, h⟩ | h
    · exact z_apart P h hj rfl
    · exact absurd ((z_right P).1 j y hj).lt (Nat.not_lt.mpr h)
  refine ⟨va_P.app hP1 ((z_right P).1.kept fun j y hj => hk y.1 ((z_right P).1 j y hj).lt (out j y hj)), va_D.app (hD1.weaken fun k q _ h => z_fr (z_left P) q.1 h) (z_right P).2.1 fun i j x y hi hj hxy => ?_, hS, P.2.2.2⟩
  exact out j y hj (by rw [← hxy]; exact hD1.2 i x hi)
theorem z_joinR (P : z_W D A H0 H locs (wa ++ wb)) (hk : ∀ q : Nat, q < H.size → ¬ va_A wb H.size q → H1[q]? = H[q]?) (hP1 : va_P D classes wc H1) (hD1 : va_D (va_A wb H.size) wc) (hS : va_S A H0 H1 locs1) : z_W D A H0 H1 locs1 (wa ++ wc) := by
  have out : ∀ (j : Nat) (y : Nat × va_E), wa[j]? = some y → ¬ va_A wb H.size y.1 := fun j y hj h => by
    rcases h with ⟨k, x, h⟩ | h
    · exact z_apart P hj h rfl
    · exact absurd ((z_left P).1 j y hj).lt (Nat.not_lt.mpr h)
  refine ⟨va_P.app ((z_left P).1.kept fun j y hj => hk y.1 ((z_left P).1 j y hj).lt (out j y hj)) hP1, va_D.app (z_left P).2.1 (hD1.weaken fun k q _ h => z_fr (z_right P) q.1 h) fun i j x y hi hj hxy => ?_, hS, P.2.2.2⟩
  exact out i x hi (by rw [hxy]; exact hD1.2 j y hj)
theorem z_calliG {S : Type} {ws : va_W} (C : z_C p s m args c cc nL own D cI cL) (P : z_W D A H0 H locs ws) {Cn : String} {ci a idx n k lev : Nat} {y : MethodName} {b : ByteArray} {fs : List Value} {T : u_T} {N : Nat} {as : List Value} {post : Int32 → S → Prop} {f : S → va_W}
    (hL : z_L own Cn idx y b n (some .int) k) (hc : classes[ci]? = some (Cn, T, N)) (he : ws[0]? = some (a, .inr (ci, fs))) (hM : z_Mi l y b n lev D cI cL ws (.ref a :: as) post f)
    (hR : lev + 1 ≤ R.frames ∧ 8 + (n + 11) + 30 * lev ≤ R.locals) (hn : as.length = k) (hsz : ls.size = nL) (hr : (rest.map fun v => v.category).sum ≤ 8) (hf : cells ≤ R.cells ∧ slots ≤ R.slots) (hdg : decode cc pc = .ok (.invokevirtual idx, 3))
    {st : List Value} (hst : st = as.reverse ++ .ref a :: rest)
    (kk : ∀ (r : Int32) (u : S) (H1 : Heap) (locs1 : List Loc), post r u → va_P D classes (f u) H1 → va_D (va_A ws H.size) (f u) → (∀ q : Nat, q < H.size → ¬ va_A ws H.size q → H1[q]? = H[q]?) → va_S A H0 H1 locs1 → W p l e R s m args below meth c H1 locs1 cells slots Q (F0 m (pc + 3) ls (.int r :: rest))) : W p l e R s m args below meth c H locs cells slots Q (F0 m pc ls st) := by
  subst hst
  refine va_calli (va_runV (As := as) (rest := rest) ⟨C.1, C.2.1, C.2.2.1, C.2.2.2.1, C.2.2.2.2.1⟩ (hM H.size) (cwV k C.2.2.2.2.1 (z_goodV hL) rfl rfl rfl hL.2.2.2.2.2 hR) ⟨z_blindS, va_recv C.2.2.2.2.2 P.1 hc he, fun U hU hW => ⟨rfl, by rw [hU], by rw [hU]; exact P.1, va_K.moved hW.alike C.2.2.2.2.2, P.2.1.weaken (fun _ _ _ _ => trivial)⟩⟩ rfl hn hsz rfl (lv_room hr) hdg hf) P.2.2.1 (fun q _ h => z_fr P q h) (z_fr P) (fun r u t H1 locs ht hvm hw hB hz1 hk1 hS => ?_)
  exact kk r u H1 locs hw (by rw [← ht]; exact hB.1) hB.2.2 hk1 hS
theorem z_callI {S : Type} (C : z_C p s m args c cc nL own D cI cL) (P : z_W D A H0 H locs (wa ++ wb)) {a idx n mc ms : Nat} {y : MethodName} {b : ByteArray} {rm : Room} {post : S → Prop} {f : S → va_W}
    (hM : Met l y (.code y b n none :: lw_g) rm (va_Pc [.ref a] (fun U => U.heap.size = H.size ∧ z_B D cI cL wb U)) (z_Qv D cI cL post f (va_A wb H.size)) mc ms (va_A wb H.size)) (hrc : rm.cells = mc) (hrs : rm.slots = ms)
    (h1 : Cond.code y b n none ∈ lw_g) (h2 : Cond.initialized y.cls ∈ lw_g) (h3 : Cond.methodLink own idx y ∈ lw_g) (h4 : Cond.instanceMethod y ∈ lw_g) (hy : y.name = "<init>") (hd : y.cls ≠ "java/lang/invoke/MethodHandle" ∧ y.cls ≠ "java/lang/invoke/VarHandle" ∧ (parseMethodDescriptor y.desc).map (fun d => d.parameters.length) = some 0)
    (hR : rm.frames + 1 ≤ R.frames ∧ 8 + (n + 11) + rm.locals ≤ R.locals) (hsz : ls.size = nL) (hr : (rest.map fun v => v.category).sum ≤ 8) (hf : cells + mc ≤ R.cells ∧ slots + ms ≤ R.slots) (hdg : decode cc pc = .ok (.invokespecial idx, 3))
    (kk : ∀ (u : S) (H1 : Heap) (locs1 : List Loc), post u → z_W D A H0 H1 locs1 (wa ++ f u) → W p l e R s m args below meth c H1 locs1 (cells + mc) (slots + ms) Q (F0 m (pc + 3) ls rest)) : W p l e R s m args below meth c H locs cells slots Q (F0 m pc ls (.ref a :: rest)) := by
  have Pb := z_right P
  refine va_callv (va_runI (As := []) (rest := rest) ⟨C.1, C.2.1, C.2.2.1, C.2.2.2.1, C.2.2.2.2.1⟩ hM (cwI 0 C.2.2.2.2.1 (z_goodC h1) rfl hrc hrs (C.2.2.2.2.1 _ h2) (C.2.2.2.2.1 _ h3) (C.2.2.2.2.1 _ h4) hy hd hR) ⟨z_blindS, fun U hU hW => ⟨rfl, by rw [hU], by rw [hU]; exact Pb.1, va_K.moved hW.alike C.2.2.2.2.2, Pb.2.1.weaken (fun _ _ _ _ => trivial)⟩⟩ rfl rfl hsz rfl (lv_room hr) hdg hf) P.2.2.1 (fun q _ h => z_fr Pb q h) (z_fr Pb) (fun u t H1 locs ht hvm hw hB hz1 hk1 hS => ?_)
  exact kk u H1 locs hw (z_joinR P hk1 (by rw [← ht]; exact hB.1) hB.2.2 hS)
theorem l_ld (C : z_C p s m args c cc nL own D cI cL) {bs L : Nat} {xs : Nat → Int32} (hX : va_X bs L xs s H0) (hbl : bs < H0.size) (hbA : ¬ A bs) (hS : va_S A H0 H locs) (hL : L ≤ 1536) {j : Nat} (hj : j < L) (hdg : decode cc pc = .ok (.iaload, 1))
    (kk : W p l e R s m args below meth c H locs cells slots Q (F0 m (pc + 1) ls (.int (xs j) :: rest))) : W p l e R s m args below meth c H locs cells slots Q (F0 m pc ls (.int (nI j) :: .ref bs :: rest)) := by
  have hc : (nI j).toNatClampNeg = j := nI_clamp (Nat.lt_of_lt_of_le hj (Nat.le_trans hL (by decide)))
  refine va_sld C.1 C.2.1 hX hbl hbA hS (vp_in_nI hj (Nat.lt_of_le_of_lt hL (by decide))) hdg ?_
  rw [hc]
  exact kk
end L2
/-! each operation of the two objects, joined -/
def l_O2 (l : Launch) (D : va_G) (cI cL : ClassId) (qx qy : Nat → Nat) (g : Nat → Nat → Nat) (v : Nat → Nat → Int32) (h : Nat → Nat → Nat) (w : Nat → Nat → Int32) (b : Nat → Nat → Int64) (yx : MethodName) (bx : ByteArray) (yy : MethodName) (by_ : ByteArray) (nx ny lev : Nat) (as : List Value) : Prop :=
  ∃ (SX SY : Type) (pX : Int32 → SX → Prop) (pY : Int32 → SY → Prop) (fX : SX → va_W) (fY : SY → va_W), z_Mi l yx bx nx lev D cI cL (x_ws qx cI g v) (.ref (qx 0) :: as) pX fX ∧ z_Mi l yy by_ ny lev D cI cL (y_ws qy cI cL h w b) (.ref (qy 0) :: as) pY fY ∧
    ∀ r u r' u', pX r u → pY r' u' → r = r' ∧ ∃ g' v' h' w' b', fX u = x_ws qx cI g' v' ∧ fY u' = y_ws qy cI cL h' w' b' ∧ Rel g' v' h' w' b'
def l_O1 (l : Launch) (D : va_G) (cI cL : ClassId) (qx qy : Nat → Nat) (g : Nat → Nat → Nat) (v : Nat → Nat → Int32) (h : Nat → Nat → Nat) (w : Nat → Nat → Int32) (b : Nat → Nat → Int64) (yx : MethodName) (bx : ByteArray) (yy : MethodName) (by_ : ByteArray) (nx ny lev : Nat) (as : List Value) : Prop :=
  ∃ z : Int32, z_Mr l yx bx nx (some .int) lev D cI cL (x_ws qx cI g v) (.ref (qx 0) :: as) z ∧ z_Mr l yy by_ ny (some .int) lev D cI cL (y_ws qy cI cL h w b) (.ref (qy 0) :: as) z
section OPS
variable {l : Launch} {D : va_G} {cI cL : ClassId} {qx qy : Nat → Nat} {g : Nat → Nat → Nat} {v : Nat → Nat → Int32} {h : Nat → Nat → Nat} {w : Nat → Nat → Int32} {b : Nat → Nat → Int64}
theorem Rel.h4 (RR : Rel g v h w b) {r : Nat} (hr : r < 3) : g 4 r ≤ h 0 0 := by
  rw [RR.1.2.2.1 r hr]
  exact oc_le _ _ _
theorem op_add (RR : Rel g v h w b) (x y : Int32) : l_O2 l D cI cL qx qy g v h w b y_X_add b_X_add y_Y_add b_Y_add 3 3 3 [.int x, .int y] := by
  have hB := RR.1.1.1
  have hBh := RR.1.1.2.1
  have h00 := RR.1.1.2.2.1
  by_cases hok : x_ok x ∧ g 0 0 < 48
  · obtain ⟨hx, hm⟩ := hok
    obtain ⟨r, hr, rfl⟩ := x_ok_of hx
    have h4 := RR.h4 hr
    obtain ⟨el, hel, hy⟩ := pk_andE y (m := nI 7) 3 (by decide)
    exact ⟨Unit, Unit, _, _, _, _, c_X_add hr hm (by omega) hel hy hB, c_Y_add hr (by omega) hBh, fun r1 u r2 u2 e1 e2 => ⟨Eq.trans e1 (Eq.trans (by rw [x_mk_0, h00]) (Eq.symm e2)), _, _, _, _, _, rfl, rfl, Rel_make RR hr (by decide) (by omega) (fun _ => ⟨hel, hy⟩)⟩⟩
  · have hbx : ¬ x_ok x ∨ ¬ g 0 0 < 48 := Classical.not_and_iff_not_or_not.mp hok
    have hby : ¬ x_ok x ∨ ¬ h 0 0 < 48 := by rw [← h00]; exact hbx
    exact ⟨Unit, Unit, _, _, _, _, c_X_add_bad hbx hB, c_Y_add_bad hby hBh, fun r1 u r2 u2 e1 e2 => ⟨Eq.trans e1 (Eq.symm e2), g, v, h, w, b, rfl, rfl, RR⟩⟩
theorem op_remove (RR : Rel g v h w b) (x y : Int32) : l_O2 l D cI cL qx qy g v h w b y_X_remove b_X_remove y_Y_remove b_Y_remove 3 3 3 [.int x, .int y] := by
  have hB := RR.1.1.1
  have hBh := RR.1.1.2.1
  have h00 := RR.1.1.2.2.1
  by_cases hok : x_ok x ∧ g 0 0 < 48
  · obtain ⟨hx, hm⟩ := hok
    obtain ⟨r, hr, rfl⟩ := x_ok_of hx
    have h4 := RR.h4 hr
    obtain ⟨el, hel, hy⟩ := pk_andE y (m := nI 7) 3 (by decide)
    exact ⟨Unit, Unit, _, _, _, _, c_X_remove hr hm (by omega) hel hy hB, c_Y_remove hr (by omega) hBh, fun r1 u r2 u2 e1 e2 => ⟨Eq.trans e1 (Eq.trans (by rw [x_mk_0, h00]) (Eq.symm e2)), _, _, _, _, _, rfl, rfl, Rel_make RR hr (by decide) (by omega) (fun _ => ⟨hel, hy⟩)⟩⟩
  · have hbx : ¬ x_ok x ∨ ¬ g 0 0 < 48 := Classical.not_and_iff_not_or_not.mp hok
    have hby : ¬ x_ok x ∨ ¬ h 0 0 < 48 := by rw [← h00]; exact hbx
    exact ⟨Unit, Unit, _, _, _, _, c_X_remove_bad hbx hB, c_Y_remove_bad hby hBh, fun r1 u r2 u2 e1 e2 => ⟨Eq.trans e1 (Eq.symm e2), g, v, h, w, b, rfl, rfl, RR⟩⟩
theorem op_assign (RR : Rel g v h w b) (x y : Int32) : l_O2 l D cI cL qx qy g v h w b y_X_assign b_X_assign y_Y_assign b_Y_assign 3 3 3 [.int x, .int y] := by
  have hB := RR.1.1.1
  have hBh := RR.1.1.2.1
  have h00 := RR.1.1.2.2.1
  by_cases hok : x_ok x ∧ g 0 0 < 48
  · obtain ⟨hx, hm⟩ := hok
    obtain ⟨r, hr, rfl⟩ := x_ok_of hx
    have h4 := RR.h4 hr
    exact ⟨Unit, Unit, _, _, _, _, c_X_assign hr hm (by omega) hB, c_Y_assign hr (by omega) hBh, fun r1 u r2 u2 e1 e2 => ⟨Eq.trans e1 (Eq.trans (by rw [x_mk_0, h00]) (Eq.symm e2)), _, _, _, _, _, rfl, rfl, Rel_make RR hr (by decide) (by omega) (fun hz => absurd hz (by decide))⟩⟩
  · have hbx : ¬ x_ok x ∨ ¬ g 0 0 < 48 := Classical.not_and_iff_not_or_not.mp hok
    have hby : ¬ x_ok x ∨ ¬ h 0 0 < 48 := by rw [← h00]; exact hbx
    exact ⟨Unit, Unit, _, _, _, _, c_X_assign_bad hbx hB, c_Y_assign_bad hby hBh, fun r1 u r2 u2 e1 e2 => ⟨Eq.trans e1 (Eq.symm e2), g, v, h, w, b, rfl, rfl, RR⟩⟩
theorem op_count (RR : Rel g v h w b) (x y : Int32) : l_O2 l D cI cL qx qy g v h w b y_X_count b_X_count y_Y_count b_Y_count 3 3 3 [.int x, .int y] := by
  have hB := RR.1.1.1
  have hBh := RR.1.1.2.1
  have h00 := RR.1.1.2.2.1
  by_cases hok : x_ok x ∧ g 0 0 < 48
  · obtain ⟨hx, hm⟩ := hok
    obtain ⟨r, hr, rfl⟩ := x_ok_of hx
    have h4 := RR.h4 hr
    exact ⟨Unit, Unit, _, _, _, _, c_X_count hr hm (by omega) hB, c_Y_count hr (by omega) hBh, fun r1 u r2 u2 e1 e2 => ⟨Eq.trans e1 (Eq.trans (by rw [x_mk_0, h00]) (Eq.symm e2)), _, _, _, _, _, rfl, rfl, Rel_make RR hr (by decide) (by omega) (fun hz => absurd hz (by decide))⟩⟩
  · have hbx : ¬ x_ok x ∨ ¬ g 0 0 < 48 := Classical.not_and_iff_not_or_not.mp hok
    have hby : ¬ x_ok x ∨ ¬ h 0 0 < 48 := by rw [← h00]; exact hbx
    exact ⟨Unit, Unit, _, _, _, _, c_X_count_bad hbx hB, c_Y_count_bad hby hBh, fun r1 u r2 u2 e1 e2 => ⟨Eq.trans e1 (Eq.symm e2), g, v, h, w, b, rfl, rfl, RR⟩⟩
theorem op_reset (RR : Rel g v h w b) (x : Int32) : l_O2 l D cI cL qx qy g v h w b y_X_reset b_X_reset y_Y_reset b_Y_reset 2 2 3 [.int x] := by
  have hB := RR.1.1.1
  have hBh := RR.1.1.2.1
  have h00 := RR.1.1.2.2.1
  by_cases hok : x_ok x ∧ g 0 0 < 48
  · obtain ⟨hx, hm⟩ := hok
    obtain ⟨r, hr, rfl⟩ := x_ok_of hx
    have h4 := RR.h4 hr
    exact ⟨Unit, Unit, _, _, _, _, c_X_reset hr hm (by omega) hB, c_Y_reset hr (by omega) hBh, fun r1 u r2 u2 e1 e2 => ⟨Eq.trans e1 (Eq.trans (by rw [x_mk_0, h00]) (Eq.symm e2)), _, _, _, _, _, rfl, rfl, Rel_make RR hr (by decide) (by omega) (fun hz => absurd hz (by decide))⟩⟩
  · have hbx : ¬ x_ok x ∨ ¬ g 0 0 < 48 := Classical.not_and_iff_not_or_not.mp hok
    have hby : ¬ x_ok x ∨ ¬ h 0 0 < 48 := by rw [← h00]; exact hbx
    exact ⟨Unit, Unit, _, _, _, _, c_X_reset_bad hbx hB, c_Y_reset_bad hby hBh, fun r1 u r2 u2 e1 e2 => ⟨Eq.trans e1 (Eq.symm e2), g, v, h, w, b, rfl, rfl, RR⟩⟩
theorem op_deliver (RR : Rel g v h w b) (x y : Int32) : l_O2 l D cI cL qx qy g v h w b y_X_deliver b_X_deliver y_Y_deliver b_Y_deliver 6 4 2 [.int x, .int y] := by
  have hB := RR.1.1.1
  have hBh := RR.1.1.2.1
  by_cases hok : x_ok x ∧ x_ok y
  · obtain ⟨hx, hy⟩ := hok
    obtain ⟨f, hf, rfl⟩ := x_ok_of hx
    obtain ⟨t, ht, rfl⟩ := x_ok_of hy
    obtain ⟨el, hel⟩ := dl_el (t := t) RR hf
    exact ⟨_, _, _, _, _, _, c_X_deliver (el := el) hf ht RR.1.1.2.2.2 (hB _ _) hel hB, c_Y_deliver hf ht hBh, fun r1 u r2 u2 e1 e2 => ⟨(Rel_deliver RR hf ht hel e1 e2).1, _, _, _, _, _, rfl, rfl, (Rel_deliver RR hf ht hel e1 e2).2⟩⟩
  · exact ⟨Unit, Unit, _, _, _, _, c_X_deliver_bad hok hB, c_Y_deliver_bad hok hBh, fun r1 u r2 u2 e1 e2 => ⟨Eq.trans e1 (Eq.symm e2), g, v, h, w, b, rfl, rfl, RR⟩⟩
theorem op_sync (RR : Rel g v h w b) (x y : Int32) : l_O2 l D cI cL qx qy g v h w b y_X_sync b_X_sync y_Y_sync b_Y_sync 3 3 2 [.int x, .int y] := by
  have hB := RR.1.1.1
  have hBh := RR.1.1.2.1
  by_cases hok : x_ok x ∧ x_ok y
  · obtain ⟨hx, hy⟩ := hok
    obtain ⟨f, hf, rfl⟩ := x_ok_of hx
    obtain ⟨t, ht, rfl⟩ := x_ok_of hy
    by_cases hne : f = t
    · subst hne
      exact ⟨Unit, Unit, _, _, _, _, c_X_sync_same hf hB, c_Y_sync hf hf, fun r1 u r2 u2 e1 e2 => ⟨Eq.trans e1 (Eq.symm e2), _, _, _, _, _, rfl, rfl, Rel_sync_same RR⟩⟩
    · exact ⟨Unit, Unit, _, _, _, _, c_X_sync hf ht hne hB, c_Y_sync hf ht, fun r1 u r2 u2 e1 e2 => ⟨Eq.trans e1 (Eq.symm e2), _, _, _, _, _, rfl, rfl, Rel_sync RR hf ht hne⟩⟩
  · exact ⟨Unit, Unit, _, _, _, _, c_X_sync_bad hok hB, c_Y_sync_bad hok hBh, fun r1 u r2 u2 e1 e2 => ⟨Eq.trans e1 (Eq.symm e2), g, v, h, w, b, rfl, rfl, RR⟩⟩
theorem op_has (RR : Rel g v h w b) (x y : Int32) : l_O1 l D cI cL qx qy g v h w b y_X_has b_X_has y_Y_has b_Y_has 5 4 2 [.int x, .int y] := by
  by_cases hx : x_ok x
  · obtain ⟨r, hr, rfl⟩ := x_ok_of hx
    obtain ⟨el, hel, hy⟩ := pk_andE y (m := nI 7) 3 (by decide)
    refine ⟨_, c_X_has hr hel hy RR.1.1.1, ?_⟩
    rw [an_has RR hr hel, ← hy]
    exact c_Y_has hr RR.1.1.2.1
  · exact ⟨_, c_X_has_bad hx, c_Y_has_bad hx⟩
theorem op_values (RR : Rel g v h w b) (x : Int32) : l_O1 l D cI cL qx qy g v h w b y_X_values b_X_values y_Y_values b_Y_values 4 4 2 [.int x] := by
  by_cases hx : x_ok x
  · obtain ⟨r, hr, rfl⟩ := x_ok_of hx
    refine ⟨_, c_X_values hr RR.1.1.1, ?_⟩
    rw [an_values RR hr]
    exact c_Y_values hr RR.1.1.2.1
  · exact ⟨_, c_X_values_bad hx, c_Y_values_bad hx⟩
theorem op_value (RR : Rel g v h w b) (x y : Int32) : l_O1 l D cI cL qx qy g v h w b y_X_value b_X_value y_Y_value b_Y_value 4 6 2 [.int x, .int y] := by
  by_cases hx : x_ok x
  · obtain ⟨r, hr, rfl⟩ := x_ok_of hx
    obtain ⟨z, z1, z2⟩ := an_value RR hr y
    exact ⟨z, c_X_value hr RR.1.1.2.2.2 z1 RR.1.1.1, c_Y_value hr z2 RR.1.1.2.1⟩
  · exact ⟨_, c_X_value_bad hx, c_Y_value_bad hx⟩
theorem op_total (RR : Rel g v h w b) (x : Int32) : l_O1 l D cI cL qx qy g v h w b y_X_total b_X_total y_Y_total b_Y_total 5 4 2 [.int x] := by
  by_cases hx : x_ok x
  · obtain ⟨r, hr, rfl⟩ := x_ok_of hx
    refine ⟨_, c_X_total hr RR.1.1.1, ?_⟩
    rw [an_total RR hr]
    exact c_Y_total hr RR.1.1.2.1
  · exact ⟨_, c_X_total_bad hx, c_Y_total_bad hx⟩
theorem op_known (RR : Rel g v h w b) (x y : Int32) : l_O1 l D cI cL qx qy g v h w b y_X_known b_X_known y_Y_known b_Y_known 3 5 2 [.int x, .int y] := by
  by_cases hok : x_ok x ∧ x_ok y
  · obtain ⟨hx, hy⟩ := hok
    obtain ⟨r, hr, rfl⟩ := x_ok_of hx
    obtain ⟨o, ho, rfl⟩ := x_ok_of hy
    refine ⟨_, c_X_known hr ho, ?_⟩
    rw [← an_known RR hr ho]
    exact c_Y_known hr ho RR.1.1.2.1
  · exact ⟨_, c_X_known_bad hok, c_Y_known_bad hok⟩
end OPS
end
section
/-! the cases of the law's switch -/
theorem L_law_X_add : z_L R_law R_X 13 y_X_add b_X_add 3 (some .int) 2 := ⟨ml_law_13, im_X_add, se_X_add, in_X, k_X_add, by decide +kernel⟩
theorem L_law_Y_add : z_L R_law R_Y 17 y_Y_add b_Y_add 3 (some .int) 2 := ⟨ml_law_17, im_Y_add, se_Y_add, in_Y, k_Y_add, by decide +kernel⟩
theorem L_law_X_remove : z_L R_law R_X 18 y_X_remove b_X_remove 3 (some .int) 2 := ⟨ml_law_18, im_X_remove, se_X_remove, in_X, k_X_remove, by decide +kernel⟩
theorem L_law_Y_remove : z_L R_law R_Y 21 y_Y_remove b_Y_remove 3 (some .int) 2 := ⟨ml_law_21, im_Y_remove, se_Y_remove, in_Y, k_Y_remove, by decide +kernel⟩
theorem L_law_X_assign : z_L R_law R_X 22 y_X_assign b_X_assign 3 (some .int) 2 := ⟨ml_law_22, im_X_assign, se_X_assign, in_X, k_X_assign, by decide +kernel⟩
theorem L_law_Y_assign : z_L R_law R_Y 25 y_Y_assign b_Y_assign 3 (some .int) 2 := ⟨ml_law_25, im_Y_assign, se_Y_assign, in_Y, k_Y_assign, by decide +kernel⟩
theorem L_law_X_count : z_L R_law R_X 26 y_X_count b_X_count 3 (some .int) 2 := ⟨ml_law_26, im_X_count, se_X_count, in_X, k_X_count, by decide +kernel⟩
theorem L_law_Y_count : z_L R_law R_Y 29 y_Y_count b_Y_count 3 (some .int) 2 := ⟨ml_law_29, im_Y_count, se_Y_count, in_Y, k_Y_count, by decide +kernel⟩
theorem L_law_X_reset : z_L R_law R_X 30 y_X_reset b_X_reset 2 (some .int) 1 := ⟨ml_law_30, im_X_reset, se_X_reset, in_X, k_X_reset, by decide +kernel⟩
theorem L_law_Y_reset : z_L R_law R_Y 34 y_Y_reset b_Y_reset 2 (some .int) 1 := ⟨ml_law_34, im_Y_reset, se_Y_reset, in_Y, k_Y_reset, by decide +kernel⟩
theorem L_law_X_deliver : z_L R_law R_X 35 y_X_deliver b_X_deliver 6 (some .int) 2 := ⟨ml_law_35, im_X_deliver, se_X_deliver, in_X, k_X_deliver, by decide +kernel⟩
theorem L_law_Y_deliver : z_L R_law R_Y 38 y_Y_deliver b_Y_deliver 4 (some .int) 2 := ⟨ml_law_38, im_Y_deliver, se_Y_deliver, in_Y, k_Y_deliver, by decide +kernel⟩
theorem L_law_X_sync : z_L R_law R_X 39 y_X_sync b_X_sync 3 (some .int) 2 := ⟨ml_law_39, im_X_sync, se_X_sync, in_X, k_X_sync, by decide +kernel⟩
theorem L_law_Y_sync : z_L R_law R_Y 42 y_Y_sync b_Y_sync 3 (some .int) 2 := ⟨ml_law_42, im_Y_sync, se_Y_sync, in_Y, k_Y_sync, by decide +kernel⟩
theorem L_law_X_has : z_L R_law R_X 43 y_X_has b_X_has 5 (some .int) 2 := ⟨ml_law_43, im_X_has, se_X_has, in_X, k_X_has, by decide +kernel⟩
theorem L_law_Y_has : z_L R_law R_Y 46 y_Y_has b_Y_has 4 (some .int) 2 := ⟨ml_law_46, im_Y_has, se_Y_has, in_Y, k_Y_has, by decide +kernel⟩
theorem L_law_X_values : z_L R_law R_X 47 y_X_values b_X_values 4 (some .int) 1 := ⟨ml_law_47, im_X_values, se_X_values, in_X, k_X_values, by decide +kernel⟩
theorem L_law_Y_values : z_L R_law R_Y 50 y_Y_values b_Y_values 4 (some .int) 1 := ⟨ml_law_50, im_Y_values, se_Y_values, in_Y, k_Y_values, by decide +kernel⟩
theorem L_law_X_value : z_L R_law R_X 51 y_X_value b_X_value 4 (some .int) 2 := ⟨ml_law_51, im_X_value, se_X_value, in_X, k_X_value, by decide +kernel⟩
theorem L_law_Y_value : z_L R_law R_Y 54 y_Y_value b_Y_value 6 (some .int) 2 := ⟨ml_law_54, im_Y_value, se_Y_value, in_Y, k_Y_value, by decide +kernel⟩
theorem L_law_X_total : z_L R_law R_X 55 y_X_total b_X_total 5 (some .int) 1 := ⟨ml_law_55, im_X_total, se_X_total, in_X, k_X_total, by decide +kernel⟩
theorem L_law_Y_total : z_L R_law R_Y 58 y_Y_total b_Y_total 4 (some .int) 1 := ⟨ml_law_58, im_Y_total, se_Y_total, in_Y, k_Y_total, by decide +kernel⟩
theorem L_law_X_known : z_L R_law R_X 59 y_X_known b_X_known 3 (some .int) 2 := ⟨ml_law_59, im_X_known, se_X_known, in_X, k_X_known, by decide +kernel⟩
theorem L_law_Y_known : z_L R_law R_Y 62 y_Y_known b_Y_known 5 (some .int) 2 := ⟨ml_law_62, im_Y_known, se_Y_known, in_Y, k_Y_known, by decide +kernel⟩
section CASES
variable {p : Program} {l : Launch} {e : Env} {s : State} {m : MethodId} {args : Array Value} {below : List Frame} {meth : Method} {c : Code} {H : Heap} {locs : List Loc} {Q : State → Prop} {ls : Array Slot} {D : va_G} {cI cL : ClassId} {qx qy : Nat → Nat} {bs L i : Nat} {xs : Nat → Int32}
variable {g : Nat → Nat → Nat} {v : Nat → Nat → Int32} {h : Nat → Nat → Nat} {w : Nat → Nat → Int32} {b : Nat → Nat → Int64}
set_option maxHeartbeats 2000000 in
set_option maxRecDepth 20000 in
theorem law_add (C : z_C p s m args c code 4 R_law D cI cL) (hX : va_X bs L xs s s.heap) (hbl : bs < s.heap.size) (hi : i + 3 ≤ L) (hL : L ≤ 1536) (RR : Rel g v h w b) (P : z_W D (fun q => s.heap.size ≤ q) s.heap H locs (x_ws qx cI g v ++ y_ws qy cI cL h w b)) (hl : lv_has ls 4 [(0, .ref bs), (1, .ref (qx 0)), (2, .ref (qy 0)), (3, .int (nI i))]) (hnext : ∀ (g : Nat → Nat → Nat) (v : Nat → Nat → Int32) (h : Nat → Nat → Nat) (w : Nat → Nat → Int32) (b : Nat → Nat → Int64) (H : Heap) (locs : List Loc), Rel g v h w b → z_W D (fun q => s.heap.size ≤ q) s.heap H locs (x_ws qx cI g v ++ y_ws qy cI cL h w b) → W p l e room_1 s m args below meth c H locs 17 848 Q (F0 m 462 ls [])) : W p l e room_1 s m args below meth c H locs 17 848 Q (F0 m 96 ls []) := by
  have hx := C.1
  have hb := C.2.1
  have hbA : ¬ (fun q : Nat => s.heap.size ≤ q) bs := Nat.not_le.mpr hbl
  have hf : 17 ≤ room_1.cells ∧ 848 ≤ room_1.slots := ⟨by decide, by decide⟩
  obtain ⟨SX, SY, pX, pY, fX, fY, mX, mY, key⟩ := op_add (l := l) (D := D) (cI := cI) (cL := cL) (qx := qx) (qy := qy) RR (xs (i + 1)) (xs (i + 2))
  refine lv_aload_n hx hb d_law_96 rfl (lv_at hl 1 rfl) ?_
  refine lv_aload_n hx hb d_law_97 rfl (lv_at hl 0 rfl) ?_
  refine lv_iload_n hx hb d_law_98 rfl (lv_at hl 3 rfl) ?_
  refine lv_iconst (v := nI 1) hx hb d_law_99 rfl ?_
  refine n_iadd hx hb d_law_100 ?_
  refine l_ld C hX hbl hbA P.2.2.1 hL (j := i + 1) (by omega) d_law_101 ?_
  refine lv_aload_n hx hb d_law_102 rfl (lv_at hl 0 rfl) ?_
  refine lv_iload_n hx hb d_law_103 rfl (lv_at hl 3 rfl) ?_
  refine lv_iconst (v := nI 2) hx hb d_law_104 rfl ?_
  refine n_iadd hx hb d_law_105 ?_
  refine l_ld C hX hbl hbA P.2.2.1 hL (j := i + 2) (by omega) d_law_106 ?_
  refine z_calliG C (z_left P) L_law_X_add rfl rfl mX ⟨by decide, by decide⟩ rfl hl.1 (Nat.le_of_ble_eq_true rfl) hf d_law_107 rfl (fun r u H1 locs1 hu hP1 hD1 hk1 hS1 => ?_)
  have P := z_joinL P hk1 hP1 hD1 hS1
  refine lv_aload_n hx hb d_law_110 rfl (lv_at hl 2 rfl) ?_
  refine lv_aload_n hx hb d_law_111 rfl (lv_at hl 0 rfl) ?_
  refine lv_iload_n hx hb d_law_112 rfl (lv_at hl 3 rfl) ?_
  refine lv_iconst (v := nI 1) hx hb d_law_113 rfl ?_
  refine n_iadd hx hb d_law_114 ?_
  refine l_ld C hX hbl hbA P.2.2.1 hL (j := i + 1) (by omega) d_law_115 ?_
  refine lv_aload_n hx hb d_law_116 rfl (lv_at hl 0 rfl) ?_
  refine lv_iload_n hx hb d_law_117 rfl (lv_at hl 3 rfl) ?_
  refine lv_iconst (v := nI 2) hx hb d_law_118 rfl ?_
  refine n_iadd hx hb d_law_119 ?_
  refine l_ld C hX hbl hbA P.2.2.1 hL (j := i + 2) (by omega) d_law_120 ?_
  refine z_calliG C (z_right P) L_law_Y_add rfl rfl mY ⟨by decide, by decide⟩ rfl hl.1 (Nat.le_of_ble_eq_true rfl) hf d_law_121 rfl (fun r' u' H1 locs1 hu2 hP1 hD1 hk1 hS1 => ?_)
  have P := z_joinR P hk1 hP1 hD1 hS1
  obtain ⟨er, g', v', h', w', b', e1, e2, RR'⟩ := key r u r' u' hu hu2
  rw [e1, e2] at P
  exact lv_icmp_eq (tgt := 462) hx hb d_law_124 (by decide) (fun _ => hnext _ _ _ _ _ _ _ RR' P) (fun hz => absurd er hz)
set_option maxHeartbeats 2000000 in
set_option maxRecDepth 20000 in
theorem law_remove (C : z_C p s m args c code 4 R_law D cI cL) (hX : va_X bs L xs s s.heap) (hbl : bs < s.heap.size) (hi : i + 3 ≤ L) (hL : L ≤ 1536) (RR : Rel g v h w b) (P : z_W D (fun q => s.heap.size ≤ q) s.heap H locs (x_ws qx cI g v ++ y_ws qy cI cL h w b)) (hl : lv_has ls 4 [(0, .ref bs), (1, .ref (qx 0)), (2, .ref (qy 0)), (3, .int (nI i))]) (hnext : ∀ (g : Nat → Nat → Nat) (v : Nat → Nat → Int32) (h : Nat → Nat → Nat) (w : Nat → Nat → Int32) (b : Nat → Nat → Int64) (H : Heap) (locs : List Loc), Rel g v h w b → z_W D (fun q => s.heap.size ≤ q) s.heap H locs (x_ws qx cI g v ++ y_ws qy cI cL h w b) → W p l e room_1 s m args below meth c H locs 17 848 Q (F0 m 462 ls [])) : W p l e room_1 s m args below meth c H locs 17 848 Q (F0 m 129 ls []) := by
  have hx := C.1
  have hb := C.2.1
  have hbA : ¬ (fun q : Nat => s.heap.size ≤ q) bs := Nat.not_le.mpr hbl
  have hf : 17 ≤ room_1.cells ∧ 848 ≤ room_1.slots := ⟨by decide, by decide⟩
  obtain ⟨SX, SY, pX, pY, fX, fY, mX, mY, key⟩ := op_remove (l := l) (D := D) (cI := cI) (cL := cL) (qx := qx) (qy := qy) RR (xs (i + 1)) (xs (i + 2))
  refine lv_aload_n hx hb d_law_129 rfl (lv_at hl 1 rfl) ?_
  refine lv_aload_n hx hb d_law_130 rfl (lv_at hl 0 rfl) ?_
  refine lv_iload_n hx hb d_law_131 rfl (lv_at hl 3 rfl) ?_
  refine lv_iconst (v := nI 1) hx hb d_law_132 rfl ?_
  refine n_iadd hx hb d_law_133 ?_
  refine l_ld C hX hbl hbA P.2.2.1 hL (j := i + 1) (by omega) d_law_134 ?_
  refine lv_aload_n hx hb d_law_135 rfl (lv_at hl 0 rfl) ?_
  refine lv_iload_n hx hb d_law_136 rfl (lv_at hl 3 rfl) ?_
  refine lv_iconst (v := nI 2) hx hb d_law_137 rfl ?_
  refine n_iadd hx hb d_law_138 ?_
  refine l_ld C hX hbl hbA P.2.2.1 hL (j := i + 2) (by omega) d_law_139 ?_
  refine z_calliG C (z_left P) L_law_X_remove rfl rfl mX ⟨by decide, by decide⟩ rfl hl.1 (Nat.le_of_ble_eq_true rfl) hf d_law_140 rfl (fun r u H1 locs1 hu hP1 hD1 hk1 hS1 => ?_)
  have P := z_joinL P hk1 hP1 hD1 hS1
  refine lv_aload_n hx hb d_law_143 rfl (lv_at hl 2 rfl) ?_
  refine lv_aload_n hx hb d_law_144 rfl (lv_at hl 0 rfl) ?_
  refine lv_iload_n hx hb d_law_145 rfl (lv_at hl 3 rfl) ?_
  refine lv_iconst (v := nI 1) hx hb d_law_146 rfl ?_
  refine n_iadd hx hb d_law_147 ?_
  refine l_ld C hX hbl hbA P.2.2.1 hL (j := i + 1) (by omega) d_law_148 ?_
  refine lv_aload_n hx hb d_law_149 rfl (lv_at hl 0 rfl) ?_
  refine lv_iload_n hx hb d_law_150 rfl (lv_at hl 3 rfl) ?_
  refine lv_iconst (v := nI 2) hx hb d_law_151 rfl ?_
  refine n_iadd hx hb d_law_152 ?_
  refine l_ld C hX hbl hbA P.2.2.1 hL (j := i + 2) (by omega) d_law_153 ?_
  refine z_calliG C (z_right P) L_law_Y_remove rfl rfl mY ⟨by decide, by decide⟩ rfl hl.1 (Nat.le_of_ble_eq_true rfl) hf d_law_154 rfl (fun r' u' H1 locs1 hu2 hP1 hD1 hk1 hS1 => ?_)
  have P := z_joinR P hk1 hP1 hD1 hS1
  obtain ⟨er, g', v', h', w', b', e1, e2, RR'⟩ := key r u r' u' hu hu2
  rw [e1, e2] at P
  exact lv_icmp_eq (tgt := 462) hx hb d_law_157 (by decide) (fun _ => hnext _ _ _ _ _ _ _ RR' P) (fun hz => absurd er hz)
set_option maxHeartbeats 2000000 in
set_option maxRecDepth 20000 in
theorem law_assign (C : z_C p s m args c code 4 R_law D cI cL) (hX : va_X bs L xs s s.heap) (hbl : bs < s.heap.size) (hi : i + 3 ≤ L) (hL : L ≤ 1536) (RR : Rel g v h w b) (P : z_W D (fun q => s.heap.size ≤ q) s.heap H locs (x_ws qx cI g v ++ y_ws qy cI cL h w b)) (hl : lv_has ls 4 [(0, .ref bs), (1, .ref (qx 0)), (2, .ref (qy 0)), (3, .int (nI i))]) (hnext : ∀ (g : Nat → Nat → Nat) (v : Nat → Nat → Int32) (h : Nat → Nat → Nat) (w : Nat → Nat → Int32) (b : Nat → Nat → Int64) (H : Heap) (locs : List Loc), Rel g v h w b → z_W D (fun q => s.heap.size ≤ q) s.heap H locs (x_ws qx cI g v ++ y_ws qy cI cL h w b) → W p l e room_1 s m args below meth c H locs 17 848 Q (F0 m 462 ls [])) : W p l e room_1 s m args below meth c H locs 17 848 Q (F0 m 162 ls []) := by
  have hx := C.1
  have hb := C.2.1
  have hbA : ¬ (fun q : Nat => s.heap.size ≤ q) bs := Nat.not_le.mpr hbl
  have hf : 17 ≤ room_1.cells ∧ 848 ≤ room_1.slots := ⟨by decide, by decide⟩
  obtain ⟨SX, SY, pX, pY, fX, fY, mX, mY, key⟩ := op_assign (l := l) (D := D) (cI := cI) (cL := cL) (qx := qx) (qy := qy) RR (xs (i + 1)) (xs (i + 2))
  refine lv_aload_n hx hb d_law_162 rfl (lv_at hl 1 rfl) ?_
  refine lv_aload_n hx hb d_law_163 rfl (lv_at hl 0 rfl) ?_
  refine lv_iload_n hx hb d_law_164 rfl (lv_at hl 3 rfl) ?_
  refine lv_iconst (v := nI 1) hx hb d_law_165 rfl ?_
  refine n_iadd hx hb d_law_166 ?_
  refine l_ld C hX hbl hbA P.2.2.1 hL (j := i + 1) (by omega) d_law_167 ?_
  refine lv_aload_n hx hb d_law_168 rfl (lv_at hl 0 rfl) ?_
  refine lv_iload_n hx hb d_law_169 rfl (lv_at hl 3 rfl) ?_
  refine lv_iconst (v := nI 2) hx hb d_law_170 rfl ?_
  refine n_iadd hx hb d_law_171 ?_
  refine l_ld C hX hbl hbA P.2.2.1 hL (j := i + 2) (by omega) d_law_172 ?_
  refine z_calliG C (z_left P) L_law_X_assign rfl rfl mX ⟨by decide, by decide⟩ rfl hl.1 (Nat.le_of_ble_eq_true rfl) hf d_law_173 rfl (fun r u H1 locs1 hu hP1 hD1 hk1 hS1 => ?_)
  have P := z_joinL P hk1 hP1 hD1 hS1
  refine lv_aload_n hx hb d_law_176 rfl (lv_at hl 2 rfl) ?_
  refine lv_aload_n hx hb d_law_177 rfl (lv_at hl 0 rfl) ?_
  refine lv_iload_n hx hb d_law_178 rfl (lv_at hl 3 rfl) ?_
  refine lv_iconst (v := nI 1) hx hb d_law_179 rfl ?_
  refine n_iadd hx hb d_law_180 ?_
  refine l_ld C hX hbl hbA P.2.2.1 hL (j := i + 1) (by omega) d_law_181 ?_
  refine lv_aload_n hx hb d_law_182 rfl (lv_at hl 0 rfl) ?_
  refine lv_iload_n hx hb d_law_183 rfl (lv_at hl 3 rfl) ?_
  refine lv_iconst (v := nI 2) hx hb d_law_184 rfl ?_
  refine n_iadd hx hb d_law_185 ?_
  refine l_ld C hX hbl hbA P.2.2.1 hL (j := i + 2) (by omega) d_law_186 ?_
  refine z_calliG C (z_right P) L_law_Y_assign rfl rfl mY ⟨by decide, by decide⟩ rfl hl.1 (Nat.le_of_ble_eq_true rfl) hf d_law_187 rfl (fun r' u' H1 locs1 hu2 hP1 hD1 hk1 hS1 => ?_)
  have P := z_joinR P hk1 hP1 hD1 hS1
  obtain ⟨er, g', v', h', w', b', e1, e2, RR'⟩ := key r u r' u' hu hu2
  rw [e1, e2] at P
  exact lv_icmp_eq (tgt := 462) hx hb d_law_190 (by decide) (fun _ => hnext _ _ _ _ _ _ _ RR' P) (fun hz => absurd er hz)
set_option maxHeartbeats 2000000 in
set_option maxRecDepth 20000 in
theorem law_count (C : z_C p s m args c code 4 R_law D cI cL) (hX : va_X bs L xs s s.heap) (hbl : bs < s.heap.size) (hi : i + 3 ≤ L) (hL : L ≤ 1536) (RR : Rel g v h w b) (P : z_W D (fun q => s.heap.size ≤ q) s.heap H locs (x_ws qx cI g v ++ y_ws qy cI cL h w b)) (hl : lv_has ls 4 [(0, .ref bs), (1, .ref (qx 0)), (2, .ref (qy 0)), (3, .int (nI i))]) (hnext : ∀ (g : Nat → Nat → Nat) (v : Nat → Nat → Int32) (h : Nat → Nat → Nat) (w : Nat → Nat → Int32) (b : Nat → Nat → Int64) (H : Heap) (locs : List Loc), Rel g v h w b → z_W D (fun q => s.heap.size ≤ q) s.heap H locs (x_ws qx cI g v ++ y_ws qy cI cL h w b) → W p l e room_1 s m args below meth c H locs 17 848 Q (F0 m 462 ls [])) : W p l e room_1 s m args below meth c H locs 17 848 Q (F0 m 195 ls []) := by
  have hx := C.1
  have hb := C.2.1
  have hbA : ¬ (fun q : Nat => s.heap.size ≤ q) bs := Nat.not_le.mpr hbl
  have hf : 17 ≤ room_1.cells ∧ 848 ≤ room_1.slots := ⟨by decide, by decide⟩
  obtain ⟨SX, SY, pX, pY, fX, fY, mX, mY, key⟩ := op_count (l := l) (D := D) (cI := cI) (cL := cL) (qx := qx) (qy := qy) RR (xs (i + 1)) (xs (i + 2))
  refine lv_aload_n hx hb d_law_195 rfl (lv_at hl 1 rfl) ?_
  refine lv_aload_n hx hb d_law_196 rfl (lv_at hl 0 rfl) ?_
  refine lv_iload_n hx hb d_law_197 rfl (lv_at hl 3 rfl) ?_
  refine lv_iconst (v := nI 1) hx hb d_law_198 rfl ?_
  refine n_iadd hx hb d_law_199 ?_
  refine l_ld C hX hbl hbA P.2.2.1 hL (j := i + 1) (by omega) d_law_200 ?_
  refine lv_aload_n hx hb d_law_201 rfl (lv_at hl 0 rfl) ?_
  refine lv_iload_n hx hb d_law_202 rfl (lv_at hl 3 rfl) ?_
  refine lv_iconst (v := nI 2) hx hb d_law_203 rfl ?_
  refine n_iadd hx hb d_law_204 ?_
  refine l_ld C hX hbl hbA P.2.2.1 hL (j := i + 2) (by omega) d_law_205 ?_
  refine z_calliG C (z_left P) L_law_X_count rfl rfl mX ⟨by decide, by decide⟩ rfl hl.1 (Nat.le_of_ble_eq_true rfl) hf d_law_206 rfl (fun r u H1 locs1 hu hP1 hD1 hk1 hS1 => ?_)
  have P := z_joinL P hk1 hP1 hD1 hS1
  refine lv_aload_n hx hb d_law_209 rfl (lv_at hl 2 rfl) ?_
  refine lv_aload_n hx hb d_law_210 rfl (lv_at hl 0 rfl) ?_
  refine lv_iload_n hx hb d_law_211 rfl (lv_at hl 3 rfl) ?_
  refine lv_iconst (v := nI 1) hx hb d_law_212 rfl ?_
  refine n_iadd hx hb d_law_213 ?_
  refine l_ld C hX hbl hbA P.2.2.1 hL (j := i + 1) (by omega) d_law_214 ?_
  refine lv_aload_n hx hb d_law_215 rfl (lv_at hl 0 rfl) ?_
  refine lv_iload_n hx hb d_law_216 rfl (lv_at hl 3 rfl) ?_
  refine lv_iconst (v := nI 2) hx hb d_law_217 rfl ?_
  refine n_iadd hx hb d_law_218 ?_
  refine l_ld C hX hbl hbA P.2.2.1 hL (j := i + 2) (by omega) d_law_219 ?_
  refine z_calliG C (z_right P) L_law_Y_count rfl rfl mY ⟨by decide, by decide⟩ rfl hl.1 (Nat.le_of_ble_eq_true rfl) hf d_law_220 rfl (fun r' u' H1 locs1 hu2 hP1 hD1 hk1 hS1 => ?_)
  have P := z_joinR P hk1 hP1 hD1 hS1
  obtain ⟨er, g', v', h', w', b', e1, e2, RR'⟩ := key r u r' u' hu hu2
  rw [e1, e2] at P
  exact lv_icmp_eq (tgt := 462) hx hb d_law_223 (by decide) (fun _ => hnext _ _ _ _ _ _ _ RR' P) (fun hz => absurd er hz)
set_option maxHeartbeats 2000000 in
set_option maxRecDepth 20000 in
theorem law_reset (C : z_C p s m args c code 4 R_law D cI cL) (hX : va_X bs L xs s s.heap) (hbl : bs < s.heap.size) (hi : i + 3 ≤ L) (hL : L ≤ 1536) (RR : Rel g v h w b) (P : z_W D (fun q => s.heap.size ≤ q) s.heap H locs (x_ws qx cI g v ++ y_ws qy cI cL h w b)) (hl : lv_has ls 4 [(0, .ref bs), (1, .ref (qx 0)), (2, .ref (qy 0)), (3, .int (nI i))]) (hnext : ∀ (g : Nat → Nat → Nat) (v : Nat → Nat → Int32) (h : Nat → Nat → Nat) (w : Nat → Nat → Int32) (b : Nat → Nat → Int64) (H : Heap) (locs : List Loc), Rel g v h w b → z_W D (fun q => s.heap.size ≤ q) s.heap H locs (x_ws qx cI g v ++ y_ws qy cI cL h w b) → W p l e room_1 s m args below meth c H locs 17 848 Q (F0 m 462 ls [])) : W p l e room_1 s m args below meth c H locs 17 848 Q (F0 m 228 ls []) := by
  have hx := C.1
  have hb := C.2.1
  have hbA : ¬ (fun q : Nat => s.heap.size ≤ q) bs := Nat.not_le.mpr hbl
  have hf : 17 ≤ room_1.cells ∧ 848 ≤ room_1.slots := ⟨by decide, by decide⟩
  obtain ⟨SX, SY, pX, pY, fX, fY, mX, mY, key⟩ := op_reset (l := l) (D := D) (cI := cI) (cL := cL) (qx := qx) (qy := qy) RR (xs (i + 1))
  refine lv_aload_n hx hb d_law_228 rfl (lv_at hl 1 rfl) ?_
  refine lv_aload_n hx hb d_law_229 rfl (lv_at hl 0 rfl) ?_
  refine lv_iload_n hx hb d_law_230 rfl (lv_at hl 3 rfl) ?_
  refine lv_iconst (v := nI 1) hx hb d_law_231 rfl ?_
  refine n_iadd hx hb d_law_232 ?_
  refine l_ld C hX hbl hbA P.2.2.1 hL (j := i + 1) (by omega) d_law_233 ?_
  refine z_calliG C (z_left P) L_law_X_reset rfl rfl mX ⟨by decide, by decide⟩ rfl hl.1 (Nat.le_of_ble_eq_true rfl) hf d_law_234 rfl (fun r u H1 locs1 hu hP1 hD1 hk1 hS1 => ?_)
  have P := z_joinL P hk1 hP1 hD1 hS1
  refine lv_aload_n hx hb d_law_237 rfl (lv_at hl 2 rfl) ?_
  refine lv_aload_n hx hb d_law_238 rfl (lv_at hl 0 rfl) ?_
  refine lv_iload_n hx hb d_law_239 rfl (lv_at hl 3 rfl) ?_
  refine lv_iconst (v := nI 1) hx hb d_law_240 rfl ?_
  refine n_iadd hx hb d_law_241 ?_
  refine l_ld C hX hbl hbA P.2.2.1 hL (j := i + 1) (by omega) d_law_242 ?_
  refine z_calliG C (z_right P) L_law_Y_reset rfl rfl mY ⟨by decide, by decide⟩ rfl hl.1 (Nat.le_of_ble_eq_true rfl) hf d_law_243 rfl (fun r' u' H1 locs1 hu2 hP1 hD1 hk1 hS1 => ?_)
  have P := z_joinR P hk1 hP1 hD1 hS1
  obtain ⟨er, g', v', h', w', b', e1, e2, RR'⟩ := key r u r' u' hu hu2
  rw [e1, e2] at P
  exact lv_icmp_eq (tgt := 462) hx hb d_law_246 (by decide) (fun _ => hnext _ _ _ _ _ _ _ RR' P) (fun hz => absurd er hz)
set_option maxHeartbeats 2000000 in
set_option maxRecDepth 20000 in
theorem law_deliver (C : z_C p s m args c code 4 R_law D cI cL) (hX : va_X bs L xs s s.heap) (hbl : bs < s.heap.size) (hi : i + 3 ≤ L) (hL : L ≤ 1536) (RR : Rel g v h w b) (P : z_W D (fun q => s.heap.size ≤ q) s.heap H locs (x_ws qx cI g v ++ y_ws qy cI cL h w b)) (hl : lv_has ls 4 [(0, .ref bs), (1, .ref (qx 0)), (2, .ref (qy 0)), (3, .int (nI i))]) (hnext : ∀ (g : Nat → Nat → Nat) (v : Nat → Nat → Int32) (h : Nat → Nat → Nat) (w : Nat → Nat → Int32) (b : Nat → Nat → Int64) (H : Heap) (locs : List Loc), Rel g v h w b → z_W D (fun q => s.heap.size ≤ q) s.heap H locs (x_ws qx cI g v ++ y_ws qy cI cL h w b) → W p l e room_1 s m args below meth c H locs 17 848 Q (F0 m 462 ls [])) : W p l e room_1 s m args below meth c H locs 17 848 Q (F0 m 251 ls []) := by
  have hx := C.1
  have hb := C.2.1
  have hbA : ¬ (fun q : Nat => s.heap.size ≤ q) bs := Nat.not_le.mpr hbl
  have hf : 17 ≤ room_1.cells ∧ 848 ≤ room_1.slots := ⟨by decide, by decide⟩
  obtain ⟨SX, SY, pX, pY, fX, fY, mX, mY, key⟩ := op_deliver (l := l) (D := D) (cI := cI) (cL := cL) (qx := qx) (qy := qy) RR (xs (i + 1)) (xs (i + 2))
  refine lv_aload_n hx hb d_law_251 rfl (lv_at hl 1 rfl) ?_
  refine lv_aload_n hx hb d_law_252 rfl (lv_at hl 0 rfl) ?_
  refine lv_iload_n hx hb d_law_253 rfl (lv_at hl 3 rfl) ?_
  refine lv_iconst (v := nI 1) hx hb d_law_254 rfl ?_
  refine n_iadd hx hb d_law_255 ?_
  refine l_ld C hX hbl hbA P.2.2.1 hL (j := i + 1) (by omega) d_law_256 ?_
  refine lv_aload_n hx hb d_law_257 rfl (lv_at hl 0 rfl) ?_
  refine lv_iload_n hx hb d_law_258 rfl (lv_at hl 3 rfl) ?_
  refine lv_iconst (v := nI 2) hx hb d_law_259 rfl ?_
  refine n_iadd hx hb d_law_260 ?_
  refine l_ld C hX hbl hbA P.2.2.1 hL (j := i + 2) (by omega) d_law_261 ?_
  refine z_calliG C (z_left P) L_law_X_deliver rfl rfl mX ⟨by decide, by decide⟩ rfl hl.1 (Nat.le_of_ble_eq_true rfl) hf d_law_262 rfl (fun r u H1 locs1 hu hP1 hD1 hk1 hS1 => ?_)
  have P := z_joinL P hk1 hP1 hD1 hS1
  refine lv_aload_n hx hb d_law_265 rfl (lv_at hl 2 rfl) ?_
  refine lv_aload_n hx hb d_law_266 rfl (lv_at hl 0 rfl) ?_
  refine lv_iload_n hx hb d_law_267 rfl (lv_at hl 3 rfl) ?_
  refine lv_iconst (v := nI 1) hx hb d_law_268 rfl ?_
  refine n_iadd hx hb d_law_269 ?_
  refine l_ld C hX hbl hbA P.2.2.1 hL (j := i + 1) (by omega) d_law_270 ?_
  refine lv_aload_n hx hb d_law_271 rfl (lv_at hl 0 rfl) ?_
  refine lv_iload_n hx hb d_law_272 rfl (lv_at hl 3 rfl) ?_
  refine lv_iconst (v := nI 2) hx hb d_law_273 rfl ?_
  refine n_iadd hx hb d_law_274 ?_
  refine l_ld C hX hbl hbA P.2.2.1 hL (j := i + 2) (by omega) d_law_275 ?_
  refine z_calliG C (z_right P) L_law_Y_deliver rfl rfl mY ⟨by decide, by decide⟩ rfl hl.1 (Nat.le_of_ble_eq_true rfl) hf d_law_276 rfl (fun r' u' H1 locs1 hu2 hP1 hD1 hk1 hS1 => ?_)
  have P := z_joinR P hk1 hP1 hD1 hS1
  obtain ⟨er, g', v', h', w', b', e1, e2, RR'⟩ := key r u r' u' hu hu2
  rw [e1, e2] at P
  exact lv_icmp_eq (tgt := 462) hx hb d_law_279 (by decide) (fun _ => hnext _ _ _ _ _ _ _ RR' P) (fun hz => absurd er hz)
set_option maxHeartbeats 2000000 in
set_option maxRecDepth 20000 in
theorem law_sync (C : z_C p s m args c code 4 R_law D cI cL) (hX : va_X bs L xs s s.heap) (hbl : bs < s.heap.size) (hi : i + 3 ≤ L) (hL : L ≤ 1536) (RR : Rel g v h w b) (P : z_W D (fun q => s.heap.size ≤ q) s.heap H locs (x_ws qx cI g v ++ y_ws qy cI cL h w b)) (hl : lv_has ls 4 [(0, .ref bs), (1, .ref (qx 0)), (2, .ref (qy 0)), (3, .int (nI i))]) (hnext : ∀ (g : Nat → Nat → Nat) (v : Nat → Nat → Int32) (h : Nat → Nat → Nat) (w : Nat → Nat → Int32) (b : Nat → Nat → Int64) (H : Heap) (locs : List Loc), Rel g v h w b → z_W D (fun q => s.heap.size ≤ q) s.heap H locs (x_ws qx cI g v ++ y_ws qy cI cL h w b) → W p l e room_1 s m args below meth c H locs 17 848 Q (F0 m 462 ls [])) : W p l e room_1 s m args below meth c H locs 17 848 Q (F0 m 284 ls []) := by
  have hx := C.1
  have hb := C.2.1
  have hbA : ¬ (fun q : Nat => s.heap.size ≤ q) bs := Nat.not_le.mpr hbl
  have hf : 17 ≤ room_1.cells ∧ 848 ≤ room_1.slots := ⟨by decide, by decide⟩
  obtain ⟨SX, SY, pX, pY, fX, fY, mX, mY, key⟩ := op_sync (l := l) (D := D) (cI := cI) (cL := cL) (qx := qx) (qy := qy) RR (xs (i + 1)) (xs (i + 2))
  refine lv_aload_n hx hb d_law_284 rfl (lv_at hl 1 rfl) ?_
  refine lv_aload_n hx hb d_law_285 rfl (lv_at hl 0 rfl) ?_
  refine lv_iload_n hx hb d_law_286 rfl (lv_at hl 3 rfl) ?_
  refine lv_iconst (v := nI 1) hx hb d_law_287 rfl ?_
  refine n_iadd hx hb d_law_288 ?_
  refine l_ld C hX hbl hbA P.2.2.1 hL (j := i + 1) (by omega) d_law_289 ?_
  refine lv_aload_n hx hb d_law_290 rfl (lv_at hl 0 rfl) ?_
  refine lv_iload_n hx hb d_law_291 rfl (lv_at hl 3 rfl) ?_
  refine lv_iconst (v := nI 2) hx hb d_law_292 rfl ?_
  refine n_iadd hx hb d_law_293 ?_
  refine l_ld C hX hbl hbA P.2.2.1 hL (j := i + 2) (by omega) d_law_294 ?_
  refine z_calliG C (z_left P) L_law_X_sync rfl rfl mX ⟨by decide, by decide⟩ rfl hl.1 (Nat.le_of_ble_eq_true rfl) hf d_law_295 rfl (fun r u H1 locs1 hu hP1 hD1 hk1 hS1 => ?_)
  have P := z_joinL P hk1 hP1 hD1 hS1
  refine lv_aload_n hx hb d_law_298 rfl (lv_at hl 2 rfl) ?_
  refine lv_aload_n hx hb d_law_299 rfl (lv_at hl 0 rfl) ?_
  refine lv_iload_n hx hb d_law_300 rfl (lv_at hl 3 rfl) ?_
  refine lv_iconst (v := nI 1) hx hb d_law_301 rfl ?_
  refine n_iadd hx hb d_law_302 ?_
  refine l_ld C hX hbl hbA P.2.2.1 hL (j := i + 1) (by omega) d_law_303 ?_
  refine lv_aload_n hx hb d_law_304 rfl (lv_at hl 0 rfl) ?_
  refine lv_iload_n hx hb d_law_305 rfl (lv_at hl 3 rfl) ?_
  refine lv_iconst (v := nI 2) hx hb d_law_306 rfl ?_
  refine n_iadd hx hb d_law_307 ?_
  refine l_ld C hX hbl hbA P.2.2.1 hL (j := i + 2) (by omega) d_law_308 ?_
  refine z_calliG C (z_right P) L_law_Y_sync rfl rfl mY ⟨by decide, by decide⟩ rfl hl.1 (Nat.le_of_ble_eq_true rfl) hf d_law_309 rfl (fun r' u' H1 locs1 hu2 hP1 hD1 hk1 hS1 => ?_)
  have P := z_joinR P hk1 hP1 hD1 hS1
  obtain ⟨er, g', v', h', w', b', e1, e2, RR'⟩ := key r u r' u' hu hu2
  rw [e1, e2] at P
  exact lv_icmp_eq (tgt := 462) hx hb d_law_312 (by decide) (fun _ => hnext _ _ _ _ _ _ _ RR' P) (fun hz => absurd er hz)
set_option maxHeartbeats 2000000 in
set_option maxRecDepth 20000 in
theorem law_has (C : z_C p s m args c code 4 R_law D cI cL) (hX : va_X bs L xs s s.heap) (hbl : bs < s.heap.size) (hi : i + 3 ≤ L) (hL : L ≤ 1536) (RR : Rel g v h w b) (P : z_W D (fun q => s.heap.size ≤ q) s.heap H locs (x_ws qx cI g v ++ y_ws qy cI cL h w b)) (hl : lv_has ls 4 [(0, .ref bs), (1, .ref (qx 0)), (2, .ref (qy 0)), (3, .int (nI i))]) (hnext : ∀ (g : Nat → Nat → Nat) (v : Nat → Nat → Int32) (h : Nat → Nat → Nat) (w : Nat → Nat → Int32) (b : Nat → Nat → Int64) (H : Heap) (locs : List Loc), Rel g v h w b → z_W D (fun q => s.heap.size ≤ q) s.heap H locs (x_ws qx cI g v ++ y_ws qy cI cL h w b) → W p l e room_1 s m args below meth c H locs 17 848 Q (F0 m 462 ls [])) : W p l e room_1 s m args below meth c H locs 17 848 Q (F0 m 317 ls []) := by
  have hx := C.1
  have hb := C.2.1
  have hbA : ¬ (fun q : Nat => s.heap.size ≤ q) bs := Nat.not_le.mpr hbl
  have hf : 17 ≤ room_1.cells ∧ 848 ≤ room_1.slots := ⟨by decide, by decide⟩
  obtain ⟨z, mX, mY⟩ := op_has (l := l) (D := D) (cI := cI) (cL := cL) (qx := qx) (qy := qy) RR (xs (i + 1)) (xs (i + 2))
  refine lv_aload_n hx hb d_law_317 rfl (lv_at hl 1 rfl) ?_
  refine lv_aload_n hx hb d_law_318 rfl (lv_at hl 0 rfl) ?_
  refine lv_iload_n hx hb d_law_319 rfl (lv_at hl 3 rfl) ?_
  refine lv_iconst (v := nI 1) hx hb d_law_320 rfl ?_
  refine n_iadd hx hb d_law_321 ?_
  refine l_ld C hX hbl hbA P.2.2.1 hL (j := i + 1) (by omega) d_law_322 ?_
  refine lv_aload_n hx hb d_law_323 rfl (lv_at hl 0 rfl) ?_
  refine lv_iload_n hx hb d_law_324 rfl (lv_at hl 3 rfl) ?_
  refine lv_iconst (v := nI 2) hx hb d_law_325 rfl ?_
  refine n_iadd hx hb d_law_326 ?_
  refine l_ld C hX hbl hbA P.2.2.1 hL (j := i + 2) (by omega) d_law_327 ?_
  refine z_callr C (z_left P) L_law_X_has rfl rfl mX ⟨by decide, by decide⟩ rfl hl.1 (Nat.le_of_ble_eq_true rfl) hf d_law_328 rfl ?_
  refine lv_aload_n hx hb d_law_331 rfl (lv_at hl 2 rfl) ?_
  refine lv_aload_n hx hb d_law_332 rfl (lv_at hl 0 rfl) ?_
  refine lv_iload_n hx hb d_law_333 rfl (lv_at hl 3 rfl) ?_
  refine lv_iconst (v := nI 1) hx hb d_law_334 rfl ?_
  refine n_iadd hx hb d_law_335 ?_
  refine l_ld C hX hbl hbA P.2.2.1 hL (j := i + 1) (by omega) d_law_336 ?_
  refine lv_aload_n hx hb d_law_337 rfl (lv_at hl 0 rfl) ?_
  refine lv_iload_n hx hb d_law_338 rfl (lv_at hl 3 rfl) ?_
  refine lv_iconst (v := nI 2) hx hb d_law_339 rfl ?_
  refine n_iadd hx hb d_law_340 ?_
  refine l_ld C hX hbl hbA P.2.2.1 hL (j := i + 2) (by omega) d_law_341 ?_
  refine z_callr C (z_right P) L_law_Y_has rfl rfl mY ⟨by decide, by decide⟩ rfl hl.1 (Nat.le_of_ble_eq_true rfl) hf d_law_342 rfl ?_
  exact lv_icmp_eq (tgt := 462) hx hb d_law_345 (by decide) (fun _ => hnext _ _ _ _ _ _ _ RR P) (fun hz => absurd rfl hz)
set_option maxHeartbeats 2000000 in
set_option maxRecDepth 20000 in
theorem law_values (C : z_C p s m args c code 4 R_law D cI cL) (hX : va_X bs L xs s s.heap) (hbl : bs < s.heap.size) (hi : i + 3 ≤ L) (hL : L ≤ 1536) (RR : Rel g v h w b) (P : z_W D (fun q => s.heap.size ≤ q) s.heap H locs (x_ws qx cI g v ++ y_ws qy cI cL h w b)) (hl : lv_has ls 4 [(0, .ref bs), (1, .ref (qx 0)), (2, .ref (qy 0)), (3, .int (nI i))]) (hnext : ∀ (g : Nat → Nat → Nat) (v : Nat → Nat → Int32) (h : Nat → Nat → Nat) (w : Nat → Nat → Int32) (b : Nat → Nat → Int64) (H : Heap) (locs : List Loc), Rel g v h w b → z_W D (fun q => s.heap.size ≤ q) s.heap H locs (x_ws qx cI g v ++ y_ws qy cI cL h w b) → W p l e room_1 s m args below meth c H locs 17 848 Q (F0 m 462 ls [])) : W p l e room_1 s m args below meth c H locs 17 848 Q (F0 m 350 ls []) := by
  have hx := C.1
  have hb := C.2.1
  have hbA : ¬ (fun q : Nat => s.heap.size ≤ q) bs := Nat.not_le.mpr hbl
  have hf : 17 ≤ room_1.cells ∧ 848 ≤ room_1.slots := ⟨by decide, by decide⟩
  obtain ⟨z, mX, mY⟩ := op_values (l := l) (D := D) (cI := cI) (cL := cL) (qx := qx) (qy := qy) RR (xs (i + 1))
  refine lv_aload_n hx hb d_law_350 rfl (lv_at hl 1 rfl) ?_
  refine lv_aload_n hx hb d_law_351 rfl (lv_at hl 0 rfl) ?_
  refine lv_iload_n hx hb d_law_352 rfl (lv_at hl 3 rfl) ?_
  refine lv_iconst (v := nI 1) hx hb d_law_353 rfl ?_
  refine n_iadd hx hb d_law_354 ?_
  refine l_ld C hX hbl hbA P.2.2.1 hL (j := i + 1) (by omega) d_law_355 ?_
  refine z_callr C (z_left P) L_law_X_values rfl rfl mX ⟨by decide, by decide⟩ rfl hl.1 (Nat.le_of_ble_eq_true rfl) hf d_law_356 rfl ?_
  refine lv_aload_n hx hb d_law_359 rfl (lv_at hl 2 rfl) ?_
  refine lv_aload_n hx hb d_law_360 rfl (lv_at hl 0 rfl) ?_
  refine lv_iload_n hx hb d_law_361 rfl (lv_at hl 3 rfl) ?_
  refine lv_iconst (v := nI 1) hx hb d_law_362 rfl ?_
  refine n_iadd hx hb d_law_363 ?_
  refine l_ld C hX hbl hbA P.2.2.1 hL (j := i + 1) (by omega) d_law_364 ?_
  refine z_callr C (z_right P) L_law_Y_values rfl rfl mY ⟨by decide, by decide⟩ rfl hl.1 (Nat.le_of_ble_eq_true rfl) hf d_law_365 rfl ?_
  exact lv_icmp_eq (tgt := 462) hx hb d_law_368 (by decide) (fun _ => hnext _ _ _ _ _ _ _ RR P) (fun hz => absurd rfl hz)
set_option maxHeartbeats 2000000 in
set_option maxRecDepth 20000 in
theorem law_value (C : z_C p s m args c code 4 R_law D cI cL) (hX : va_X bs L xs s s.heap) (hbl : bs < s.heap.size) (hi : i + 3 ≤ L) (hL : L ≤ 1536) (RR : Rel g v h w b) (P : z_W D (fun q => s.heap.size ≤ q) s.heap H locs (x_ws qx cI g v ++ y_ws qy cI cL h w b)) (hl : lv_has ls 4 [(0, .ref bs), (1, .ref (qx 0)), (2, .ref (qy 0)), (3, .int (nI i))]) (hnext : ∀ (g : Nat → Nat → Nat) (v : Nat → Nat → Int32) (h : Nat → Nat → Nat) (w : Nat → Nat → Int32) (b : Nat → Nat → Int64) (H : Heap) (locs : List Loc), Rel g v h w b → z_W D (fun q => s.heap.size ≤ q) s.heap H locs (x_ws qx cI g v ++ y_ws qy cI cL h w b) → W p l e room_1 s m args below meth c H locs 17 848 Q (F0 m 462 ls [])) : W p l e room_1 s m args below meth c H locs 17 848 Q (F0 m 373 ls []) := by
  have hx := C.1
  have hb := C.2.1
  have hbA : ¬ (fun q : Nat => s.heap.size ≤ q) bs := Nat.not_le.mpr hbl
  have hf : 17 ≤ room_1.cells ∧ 848 ≤ room_1.slots := ⟨by decide, by decide⟩
  obtain ⟨z, mX, mY⟩ := op_value (l := l) (D := D) (cI := cI) (cL := cL) (qx := qx) (qy := qy) RR (xs (i + 1)) (xs (i + 2))
  refine lv_aload_n hx hb d_law_373 rfl (lv_at hl 1 rfl) ?_
  refine lv_aload_n hx hb d_law_374 rfl (lv_at hl 0 rfl) ?_
  refine lv_iload_n hx hb d_law_375 rfl (lv_at hl 3 rfl) ?_
  refine lv_iconst (v := nI 1) hx hb d_law_376 rfl ?_
  refine n_iadd hx hb d_law_377 ?_
  refine l_ld C hX hbl hbA P.2.2.1 hL (j := i + 1) (by omega) d_law_378 ?_
  refine lv_aload_n hx hb d_law_379 rfl (lv_at hl 0 rfl) ?_
  refine lv_iload_n hx hb d_law_380 rfl (lv_at hl 3 rfl) ?_
  refine lv_iconst (v := nI 2) hx hb d_law_381 rfl ?_
  refine n_iadd hx hb d_law_382 ?_
  refine l_ld C hX hbl hbA P.2.2.1 hL (j := i + 2) (by omega) d_law_383 ?_
  refine z_callr C (z_left P) L_law_X_value rfl rfl mX ⟨by decide, by decide⟩ rfl hl.1 (Nat.le_of_ble_eq_true rfl) hf d_law_384 rfl ?_
  refine lv_aload_n hx hb d_law_387 rfl (lv_at hl 2 rfl) ?_
  refine lv_aload_n hx hb d_law_388 rfl (lv_at hl 0 rfl) ?_
  refine lv_iload_n hx hb d_law_389 rfl (lv_at hl 3 rfl) ?_
  refine lv_iconst (v := nI 1) hx hb d_law_390 rfl ?_
  refine n_iadd hx hb d_law_391 ?_
  refine l_ld C hX hbl hbA P.2.2.1 hL (j := i + 1) (by omega) d_law_392 ?_
  refine lv_aload_n hx hb d_law_393 rfl (lv_at hl 0 rfl) ?_
  refine lv_iload_n hx hb d_law_394 rfl (lv_at hl 3 rfl) ?_
  refine lv_iconst (v := nI 2) hx hb d_law_395 rfl ?_
  refine n_iadd hx hb d_law_396 ?_
  refine l_ld C hX hbl hbA P.2.2.1 hL (j := i + 2) (by omega) d_law_397 ?_
  refine z_callr C (z_right P) L_law_Y_value rfl rfl mY ⟨by decide, by decide⟩ rfl hl.1 (Nat.le_of_ble_eq_true rfl) hf d_law_398 rfl ?_
  exact lv_icmp_eq (tgt := 462) hx hb d_law_401 (by decide) (fun _ => hnext _ _ _ _ _ _ _ RR P) (fun hz => absurd rfl hz)
set_option maxHeartbeats 2000000 in
set_option maxRecDepth 20000 in
theorem law_total (C : z_C p s m args c code 4 R_law D cI cL) (hX : va_X bs L xs s s.heap) (hbl : bs < s.heap.size) (hi : i + 3 ≤ L) (hL : L ≤ 1536) (RR : Rel g v h w b) (P : z_W D (fun q => s.heap.size ≤ q) s.heap H locs (x_ws qx cI g v ++ y_ws qy cI cL h w b)) (hl : lv_has ls 4 [(0, .ref bs), (1, .ref (qx 0)), (2, .ref (qy 0)), (3, .int (nI i))]) (hnext : ∀ (g : Nat → Nat → Nat) (v : Nat → Nat → Int32) (h : Nat → Nat → Nat) (w : Nat → Nat → Int32) (b : Nat → Nat → Int64) (H : Heap) (locs : List Loc), Rel g v h w b → z_W D (fun q => s.heap.size ≤ q) s.heap H locs (x_ws qx cI g v ++ y_ws qy cI cL h w b) → W p l e room_1 s m args below meth c H locs 17 848 Q (F0 m 462 ls [])) : W p l e room_1 s m args below meth c H locs 17 848 Q (F0 m 406 ls []) := by
  have hx := C.1
  have hb := C.2.1
  have hbA : ¬ (fun q : Nat => s.heap.size ≤ q) bs := Nat.not_le.mpr hbl
  have hf : 17 ≤ room_1.cells ∧ 848 ≤ room_1.slots := ⟨by decide, by decide⟩
  obtain ⟨z, mX, mY⟩ := op_total (l := l) (D := D) (cI := cI) (cL := cL) (qx := qx) (qy := qy) RR (xs (i + 1))
  refine lv_aload_n hx hb d_law_406 rfl (lv_at hl 1 rfl) ?_
  refine lv_aload_n hx hb d_law_407 rfl (lv_at hl 0 rfl) ?_
  refine lv_iload_n hx hb d_law_408 rfl (lv_at hl 3 rfl) ?_
  refine lv_iconst (v := nI 1) hx hb d_law_409 rfl ?_
  refine n_iadd hx hb d_law_410 ?_
  refine l_ld C hX hbl hbA P.2.2.1 hL (j := i + 1) (by omega) d_law_411 ?_
  refine z_callr C (z_left P) L_law_X_total rfl rfl mX ⟨by decide, by decide⟩ rfl hl.1 (Nat.le_of_ble_eq_true rfl) hf d_law_412 rfl ?_
  refine lv_aload_n hx hb d_law_415 rfl (lv_at hl 2 rfl) ?_
  refine lv_aload_n hx hb d_law_416 rfl (lv_at hl 0 rfl) ?_
  refine lv_iload_n hx hb d_law_417 rfl (lv_at hl 3 rfl) ?_
  refine lv_iconst (v := nI 1) hx hb d_law_418 rfl ?_
  refine n_iadd hx hb d_law_419 ?_
  refine l_ld C hX hbl hbA P.2.2.1 hL (j := i + 1) (by omega) d_law_420 ?_
  refine z_callr C (z_right P) L_law_Y_total rfl rfl mY ⟨by decide, by decide⟩ rfl hl.1 (Nat.le_of_ble_eq_true rfl) hf d_law_421 rfl ?_
  exact lv_icmp_eq (tgt := 462) hx hb d_law_424 (by decide) (fun _ => hnext _ _ _ _ _ _ _ RR P) (fun hz => absurd rfl hz)
set_option maxHeartbeats 2000000 in
set_option maxRecDepth 20000 in
theorem law_known (C : z_C p s m args c code 4 R_law D cI cL) (hX : va_X bs L xs s s.heap) (hbl : bs < s.heap.size) (hi : i + 3 ≤ L) (hL : L ≤ 1536) (RR : Rel g v h w b) (P : z_W D (fun q => s.heap.size ≤ q) s.heap H locs (x_ws qx cI g v ++ y_ws qy cI cL h w b)) (hl : lv_has ls 4 [(0, .ref bs), (1, .ref (qx 0)), (2, .ref (qy 0)), (3, .int (nI i))]) (hnext : ∀ (g : Nat → Nat → Nat) (v : Nat → Nat → Int32) (h : Nat → Nat → Nat) (w : Nat → Nat → Int32) (b : Nat → Nat → Int64) (H : Heap) (locs : List Loc), Rel g v h w b → z_W D (fun q => s.heap.size ≤ q) s.heap H locs (x_ws qx cI g v ++ y_ws qy cI cL h w b) → W p l e room_1 s m args below meth c H locs 17 848 Q (F0 m 462 ls [])) : W p l e room_1 s m args below meth c H locs 17 848 Q (F0 m 429 ls []) := by
  have hx := C.1
  have hb := C.2.1
  have hbA : ¬ (fun q : Nat => s.heap.size ≤ q) bs := Nat.not_le.mpr hbl
  have hf : 17 ≤ room_1.cells ∧ 848 ≤ room_1.slots := ⟨by decide, by decide⟩
  obtain ⟨z, mX, mY⟩ := op_known (l := l) (D := D) (cI := cI) (cL := cL) (qx := qx) (qy := qy) RR (xs (i + 1)) (xs (i + 2))
  refine lv_aload_n hx hb d_law_429 rfl (lv_at hl 1 rfl) ?_
  refine lv_aload_n hx hb d_law_430 rfl (lv_at hl 0 rfl) ?_
  refine lv_iload_n hx hb d_law_431 rfl (lv_at hl 3 rfl) ?_
  refine lv_iconst (v := nI 1) hx hb d_law_432 rfl ?_
  refine n_iadd hx hb d_law_433 ?_
  refine l_ld C hX hbl hbA P.2.2.1 hL (j := i + 1) (by omega) d_law_434 ?_
  refine lv_aload_n hx hb d_law_435 rfl (lv_at hl 0 rfl) ?_
  refine lv_iload_n hx hb d_law_436 rfl (lv_at hl 3 rfl) ?_
  refine lv_iconst (v := nI 2) hx hb d_law_437 rfl ?_
  refine n_iadd hx hb d_law_438 ?_
  refine l_ld C hX hbl hbA P.2.2.1 hL (j := i + 2) (by omega) d_law_439 ?_
  refine z_callr C (z_left P) L_law_X_known rfl rfl mX ⟨by decide, by decide⟩ rfl hl.1 (Nat.le_of_ble_eq_true rfl) hf d_law_440 rfl ?_
  refine lv_aload_n hx hb d_law_443 rfl (lv_at hl 2 rfl) ?_
  refine lv_aload_n hx hb d_law_444 rfl (lv_at hl 0 rfl) ?_
  refine lv_iload_n hx hb d_law_445 rfl (lv_at hl 3 rfl) ?_
  refine lv_iconst (v := nI 1) hx hb d_law_446 rfl ?_
  refine n_iadd hx hb d_law_447 ?_
  refine l_ld C hX hbl hbA P.2.2.1 hL (j := i + 1) (by omega) d_law_448 ?_
  refine lv_aload_n hx hb d_law_449 rfl (lv_at hl 0 rfl) ?_
  refine lv_iload_n hx hb d_law_450 rfl (lv_at hl 3 rfl) ?_
  refine lv_iconst (v := nI 2) hx hb d_law_451 rfl ?_
  refine n_iadd hx hb d_law_452 ?_
  refine l_ld C hX hbl hbA P.2.2.1 hL (j := i + 2) (by omega) d_law_453 ?_
  refine z_callr C (z_right P) L_law_Y_known rfl rfl mY ⟨by decide, by decide⟩ rfl hl.1 (Nat.le_of_ble_eq_true rfl) hf d_law_454 rfl ?_
  exact lv_icmp_eq (tgt := 462) hx hb d_law_457 (by decide) (fun _ => hnext _ _ _ _ _ _ _ RR P) (fun hz => absurd rfl hz)
end CASES
end
section
/-! the law's loop, and the law from its entry -/
theorem nI_inc3 (a : Nat) : nI a + Int32.ofInt 3 = nI (a + 3) := nI_add a 3
set_option maxHeartbeats 4000000 in
set_option maxRecDepth 100000 in
theorem law_loop {p : Program} {l : Launch} {e : Env} {s : State} {m : MethodId} {below : List Frame} {meth : Method} {c : Code} {bs L : Nat} {xs : Nat → Int32} {D : va_G} {cI cL : ClassId} {qx qy : Nat → Nat}
    (hL : L ≤ 1536) (C0 : lw_At p s m meth c bs L xs) (hK : va_K D classes [(cI, .int), (cL, .long)] s) :
    ∀ (n i : Nat), i ≤ 1600 → L + 3 ≤ i + n → ∀ (g : Nat → Nat → Nat) (v : Nat → Nat → Int32) (h : Nat → Nat → Nat) (w : Nat → Nat → Int32) (b : Nat → Nat → Int64) (H : Heap) (locs : List Loc) (ls : Array Slot), Rel g v h w b → z_W D (fun q => s.heap.size ≤ q) s.heap H locs (x_ws qx cI g v ++ y_ws qy cI cL h w b) →
      lv_has ls 4 [(0, .ref bs), (1, .ref (qx 0)), (2, .ref (qy 0)), (3, .int (nI i))] → W p l e room_1 s m #[Value.ref bs] below meth c H locs 17 848 (lw_Z below #[Value.ref bs] s) (F0 m 18 ls []) := by
  obtain ⟨hx, hb, hr, hml, hown, hts, hX, hbl, hlocks, hgv⟩ := id C0
  have C : z_C p s m #[Value.ref bs] c code 4 R_law D cI cL := ⟨hx, hb, hml, hown, lw_g_ok hts, hK⟩
  have hbA : ¬ (fun q : Nat => s.heap.size ≤ q) bs := Nat.not_le.mpr hbl
  have small : ∀ k, k ≤ 1600 → k < 2 ^ 31 := fun k hk => Nat.lt_of_le_of_lt hk (by decide)
  intro n
  induction n with
  | zero =>
    intro i hi hn g v h w b H locs ls RR P hl
    refine lv_iload_n hx hb d_law_18 rfl (lv_at hl 3 rfl) ?_
    refine lv_aload_n hx hb d_law_19 rfl (lv_at hl 0 rfl) ?_
    refine va_slen hx hb hX hbl hbA P.2.2.1 d_law_20 ?_
    refine lv_iconst (v := nI 3) hx hb d_law_21 rfl ?_
    refine lv_isub hx hb d_law_22 ?_
    refine lv_icmp_gt (tgt := 468) hx hb d_law_23 (by decide) (fun _ => ?_) (fun hz => ?_)
    · refine lv_iconst (v := 1) hx hb d_law_468 rfl ?_
      exact va_forget P.2.2.1.2.2 (lw_ret hx hb hr hlocks d_law_469)
    · exfalso
      apply hz
      show nI L - nI 3 < nI i
      rw [Int32.lt_iff_toInt_lt, pk_sub_toInt (Nat.lt_of_le_of_lt hL (by decide)) (by decide), nI_toInt (small i hi)]
      omega
  | succ n ih =>
    intro i hi hn g v h w b H locs ls RR P hl
    refine lv_iload_n hx hb d_law_18 rfl (lv_at hl 3 rfl) ?_
    refine lv_aload_n hx hb d_law_19 rfl (lv_at hl 0 rfl) ?_
    refine va_slen hx hb hX hbl hbA P.2.2.1 d_law_20 ?_
    refine lv_iconst (v := nI 3) hx hb d_law_21 rfl ?_
    refine lv_isub hx hb d_law_22 ?_
    refine lv_icmp_gt (tgt := 468) hx hb d_law_23 (by decide) (fun _ => ?_) (fun hz => ?_)
    · refine lv_iconst (v := 1) hx hb d_law_468 rfl ?_
      exact va_forget P.2.2.1.2.2 (lw_ret hx hb hr hlocks d_law_469)
    · have hz : ¬ nI L - nI 3 < nI i := hz
      rw [Int32.lt_iff_toInt_lt, pk_sub_toInt (Nat.lt_of_le_of_lt hL (by decide)) (by decide), nI_toInt (small i hi)] at hz
      have hi3 : i + 3 ≤ L := by omega
      have next : ∀ (g : Nat → Nat → Nat) (v : Nat → Nat → Int32) (h : Nat → Nat → Nat) (w : Nat → Nat → Int32) (b : Nat → Nat → Int64) (H : Heap) (locs : List Loc), Rel g v h w b → z_W D (fun q => s.heap.size ≤ q) s.heap H locs (x_ws qx cI g v ++ y_ws qy cI cL h w b) → W p l e room_1 s m #[Value.ref bs] below meth c H locs 17 848 (lw_Z below #[Value.ref bs] s) (F0 m 462 ls []) := by
        intro g v h w b H locs RR P
        refine lv_iinc (v := nI (i + 3)) (lv' := [(3, .int (nI (i + 3))), (0, .ref bs), (1, .ref (qx 0)), (2, .ref (qy 0))]) hx hb d_law_462 hl (k := 3) rfl (nI_inc3 _) (by decide) rfl (fun ls hl => ?_)
        refine lv_goto (tgt := 18) hx hb d_law_465 (by decide) ?_
        exact ih (i + 3) (by omega) (by omega) g v h w b H locs ls RR P (lv_sub hl [1, 2, 3, 0] rfl)
      refine lv_aload_n hx hb d_law_26 rfl (lv_at hl 0 rfl) ?_
      refine lv_iload_n hx hb d_law_27 rfl (lv_at hl 3 rfl) ?_
      refine l_ld C hX hbl hbA P.2.2.1 hL (j := i) (by omega) d_law_28 ?_
      refine lv_bipush (v := nI 15) hx hb d_law_29 rfl ?_
      refine lv_iand hx hb d_law_31 ?_
      obtain ⟨j, hj, ej⟩ := pk_andE (xs i) (m := nI 15) 4 (by decide)
      refine n_top ej ?_
      rcases (show j = 0 ∨ j = 1 ∨ j = 2 ∨ j = 3 ∨ j = 4 ∨ j = 5 ∨ j = 6 ∨ j = 7 ∨ j = 8 ∨ j = 9 ∨ j = 10 ∨ j = 11 ∨ 12 ≤ j by omega) with q | q | q | q | q | q | q | q | q | q | q | q | q
      · subst q; exact lv_tableIn (off := 64) (tgt := 96) hx hb d_law_32 (by decide) (by decide) (by decide) (by decide) (law_add C hX hbl hi3 hL RR P hl next)
      · subst q; exact lv_tableIn (off := 97) (tgt := 129) hx hb d_law_32 (by decide) (by decide) (by decide) (by decide) (law_remove C hX hbl hi3 hL RR P hl next)
      · subst q; exact lv_tableIn (off := 130) (tgt := 162) hx hb d_law_32 (by decide) (by decide) (by decide) (by decide) (law_assign C hX hbl hi3 hL RR P hl next)
      · subst q; exact lv_tableIn (off := 163) (tgt := 195) hx hb d_law_32 (by decide) (by decide) (by decide) (by decide) (law_count C hX hbl hi3 hL RR P hl next)
      · subst q; exact lv_tableIn (off := 196) (tgt := 228) hx hb d_law_32 (by decide) (by decide) (by decide) (by decide) (law_reset C hX hbl hi3 hL RR P hl next)
      · subst q; exact lv_tableIn (off := 219) (tgt := 251) hx hb d_law_32 (by decide) (by decide) (by decide) (by decide) (law_deliver C hX hbl hi3 hL RR P hl next)
      · subst q; exact lv_tableIn (off := 252) (tgt := 284) hx hb d_law_32 (by decide) (by decide) (by decide) (by decide) (law_sync C hX hbl hi3 hL RR P hl next)
      · subst q; exact lv_tableIn (off := 285) (tgt := 317) hx hb d_law_32 (by decide) (by decide) (by decide) (by decide) (law_has C hX hbl hi3 hL RR P hl next)
      · subst q; exact lv_tableIn (off := 318) (tgt := 350) hx hb d_law_32 (by decide) (by decide) (by decide) (by decide) (law_values C hX hbl hi3 hL RR P hl next)
      · subst q; exact lv_tableIn (off := 341) (tgt := 373) hx hb d_law_32 (by decide) (by decide) (by decide) (by decide) (law_value C hX hbl hi3 hL RR P hl next)
      · subst q; exact lv_tableIn (off := 374) (tgt := 406) hx hb d_law_32 (by decide) (by decide) (by decide) (by decide) (law_total C hX hbl hi3 hL RR P hl next)
      · subst q; exact lv_tableIn (off := 397) (tgt := 429) hx hb d_law_32 (by decide) (by decide) (by decide) (by decide) (law_known C hX hbl hi3 hL RR P hl next)
      · refine lv_tableOut (tgt := 462) hx hb d_law_32 (Or.inr ?_) (by decide) (next g v h w b H locs RR P)
        rw [nI_toInt (small j (by omega))]
        omega
set_option maxHeartbeats 4000000 in
set_option maxRecDepth 100000 in
/-- the law, from its entry -/
theorem whole_start {p : Program} {e : Env} {s : State} {m : MethodId} {below : List Frame} {meth : Method} {c : Code} (l : Launch) {b L : Nat} {xs : Nat → Int32} (hL : L ≤ 1536) (C0 : lw_At p s m meth c b L xs) : W p l e room_1 s m #[Value.ref b] below meth c s.heap [] 0 0 (lw_Z below #[Value.ref b] s) (entryFrame m ([Value.ref b] : List Value).toArray 4) := by
  obtain ⟨hx, hb, hr, hml, hown, hts, hX, hbl, hlocks, hgv⟩ := id C0
  have htg := lw_g_ok hts
  have hA : ∀ q : Nat, s.heap.size ≤ q → (fun q : Nat => s.heap.size ≤ q) q := fun _ h => h
  obtain ⟨c0, iS0, hKn0⟩ := u_known (C := R_X) (T := F_X) (N := 11) (n := 11) htg i_X (htg _ is_X)
  obtain ⟨c1, iS1, hKn1⟩ := u_known (C := R_Y) (T := F_Y) (N := 6) (n := 6) htg i_Y (htg _ is_Y)
  obtain ⟨D, hKc⟩ : ∃ D : va_G, ∀ (k : Nat) (q : vw_C), classes[k]? = some q → u_Kn s q.1 q.2.1 q.2.2 (D.1 k) (D.2 k) := by
    refine ⟨(fun k => if k = 0 then c0 else c1, fun k => if k = 0 then iS0 else iS1), ?_⟩
    intro k q hq
    match k, hq with
    | 0, hq => cases hq; exact hKn0
    | 1, hq => cases hq; exact hKn1
    | k + 2, hq => simp [classes] at hq
  obtain ⟨cI, kI, compI, fI1, fI2, fI3⟩ := Cond.arrayClass_spec (htg _ ac_int)
  obtain ⟨cL, kL, compL, fL1, fL2, fL3⟩ := Cond.arrayClass_spec (htg _ ac_long)
  have hK : va_K D classes [(cI, .int), (cL, .long)] s := by
    refine ⟨hKc, fun k q h => ?_⟩
    match k, h with
    | 0, h => cases h; exact ⟨fun n z => ⟨fun k h => (by cases h), kI, fI2, compI, fI3⟩, fI1⟩
    | 1, h => cases h; exact ⟨fun n z => ⟨fun k h => (by cases h), kL, fL2, compL, fL3⟩, fL1⟩
    | k + 2, h => simp at h
  have C : z_C p s m #[Value.ref b] c code 4 R_law D cI cL := ⟨hx, hb, hml, hown, htg, hK⟩
  have P : z_W D (fun q : Nat => s.heap.size ≤ q) s.heap s.heap [] [] := ⟨fun k q h => by simp at h, ⟨fun i j p q h => by simp at h, fun k q h => by simp at h⟩, va_S.rf, hA⟩
  have hl := lv_entry ([.ref b]) (n := 4) (Nat.le_of_ble_eq_true rfl)
  rw [lg_entry_eq]
  generalize (lg_sl ([.ref b]) ++ List.replicate (4 - (lg_sl ([.ref b])).length) Slot.unset).toArray = ls at hl ⊢
  have hl : lv_has ls 4 [(0, .ref b)] := hl
  refine va_new (ci := 0) (fs := [.int 0, .null, .null, .null, .null, .null, .null, .null, .null, .null, .null]) (C := R_X) (T := F_X) (N := 11) hx hb htg i_X t_X t_X_ok hown (htg _ cl_law_7) (htg _ is_X) (htg _ in_X) hK P.1 P.2.1 P.2.2.1 hA rfl (fun j hj => by rcases (show j = 0 ∨ j = 1 ∨ j = 2 ∨ j = 3 ∨ j = 4 ∨ j = 5 ∨ j = 6 ∨ j = 7 ∨ j = 8 ∨ j = 9 ∨ j = 10 by omega) with rfl | rfl | rfl | rfl | rfl | rfl | rfl | rfl | rfl | rfl | rfl <;> rfl) (Nat.le_of_ble_eq_true rfl) (Nat.le_of_ble_eq_true rfl) d_law_0 (fun q0 H hP hD hS => ?_)
  have P : z_W D (fun q : Nat => s.heap.size ≤ q) s.heap H [] ([] ++ [(q0, .inr (0, [.int 0, .null, .null, .null, .null, .null, .null, .null, .null, .null, .null]))]) := ⟨hP, hD, hS, hA⟩
  refine W.widen (k := 1) (n := 11) (by omega) (by omega) ?_
  refine lv_dup hx hb d_law_3 rfl ?_
  refine z_callI C P (c_X_init l D cI cL q0 H.size) rfl rfl k_X_init in_X ml_law_9 im_X_init rfl (by decide +kernel) ⟨by decide, by decide⟩ hl.1 (Nat.le_of_ble_eq_true rfl) ⟨by decide, by decide⟩ d_law_4 (fun qx H1 locs1 hq P1 => ?_)
  subst hq
  have P : z_W D (fun q : Nat => s.heap.size ≤ q) s.heap H1 locs1 (x_ws qx cI g_0 v_0) := P1
  refine W.widen (k := 11) (n := 647) (by omega) (by omega) ?_
  refine lv_astore_n (lv' := [(1, .ref (qx 0)), (0, .ref b)]) hx hb d_law_7 rfl hl (by decide) rfl (fun ls hl => ?_)
  refine va_new (ci := 1) (fs := [.int 0, .null, .null, .null, .null, .null]) (C := R_Y) (T := F_Y) (N := 6) hx hb htg i_Y t_Y t_Y_ok hown (htg _ cl_law_10) (htg _ is_Y) (htg _ in_Y) hK P.1 P.2.1 P.2.2.1 hA rfl (fun j hj => by rcases (show j = 0 ∨ j = 1 ∨ j = 2 ∨ j = 3 ∨ j = 4 ∨ j = 5 by omega) with rfl | rfl | rfl | rfl | rfl | rfl <;> rfl) (Nat.le_of_ble_eq_true rfl) (Nat.le_of_ble_eq_true rfl) d_law_8 (fun q1 H hP hD hS => ?_)
  have P : z_W D (fun q : Nat => s.heap.size ≤ q) s.heap H locs1 (x_ws qx cI g_0 v_0 ++ [(q1, .inr (1, [.int 0, .null, .null, .null, .null, .null]))]) := ⟨hP, hD, hS, hA⟩
  refine W.widen (k := 12) (n := 653) (by omega) (by omega) ?_
  refine lv_dup hx hb d_law_11 rfl ?_
  refine z_callI C P (c_Y_init l D cI cL q1 H.size) rfl rfl k_Y_init in_Y ml_law_12 im_Y_init rfl (by decide +kernel) ⟨by decide, by decide⟩ hl.1 (Nat.le_of_ble_eq_true rfl) ⟨by decide, by decide⟩ d_law_12 (fun qy H2 locs2 hq P2 => ?_)
  subst hq
  have P : z_W D (fun q : Nat => s.heap.size ≤ q) s.heap H2 locs2 (x_ws qx cI g_0 v_0 ++ y_ws qy cI cL g_0 v_0 b_0) := P2
  refine W.widen (k := 17) (n := 848) (by omega) (by omega) ?_
  refine lv_astore_n (lv' := [(2, .ref (qy 0)), (1, .ref (qx 0)), (0, .ref b)]) hx hb d_law_15 rfl hl (by decide) rfl (fun ls hl => ?_)
  refine lv_iconst (v := nI 0) hx hb d_law_16 rfl ?_
  refine lv_istore_n (lv' := [(3, .int (nI 0)), (2, .ref (qy 0)), (1, .ref (qx 0)), (0, .ref b)]) hx hb d_law_17 rfl hl (by decide) rfl (fun ls hl => ?_)
  exact law_loop hL C0 hK (L + 3) 0 (by omega) (by omega) g_0 v_0 g_0 v_0 b_0 _ _ ls Rel_init P (lv_sub hl [3, 2, 1, 0] rfl)
end
section
set_option maxHeartbeats 4000000 in
theorem lw_walk (l : Launch) (b : Addr) (xs : List Int32) : MetFree l x (headSpec (Jvm.Cond.code x code maxLocals ret :: tables_1) room_1) (lw_P b xs) (fun _ _ _ _ _ => True) lw_Q := by
  refine MetFree.of_bodyS (code := code) (maxLocals := maxLocals) (ret := ret) (by decide) ?_ ?_
  · intro args s m h hn
    obtain ⟨meth, c, h1, h2, h3, h4, h5, h6, -, -⟩ := Cond.code_spec hn (atoms_spec (ws := Jvm.Cond.code x code maxLocals ret :: tables_1) h _ List.mem_cons_self)
    exact ⟨meth, c, h1, h2, h3, h4, h5, h6⟩
  · intro p e s m args below meth c s₁ B hml0 hP _
    obtain ⟨rfl, hx, hbd, hgv⟩ := hP
    obtain ⟨scr, harrAt, hlist, hof, hsmall⟩ := hx
    obtain ⟨hcb, hkn, -, -⟩ := State.arrayAt?_spec harrAt
    have hown : s.vm.findClass R_law = some m.cls := findClass_of_methodNamed B.named
    have hts0 : ∀ c ∈ (Jvm.Cond.code x code maxLocals ret :: tables_1), c.before #[Value.ref b] s = true := atoms_spec (ws := Jvm.Cond.code x code maxLocals ret :: tables_1) B.pre
    have hts : ∀ w ∈ lw_tbl, w.before #[Value.ref b] s = true := k2_hts_sels lw_privs (fun w hw => hts0 w (List.mem_cons_of_mem _ hw)) lw_privs_ok
    have hml : c.maxLocals = 4 := B.maxLocals_eq (hts0 _ List.mem_cons_self)
    have X₀ : Stand p l e room_1 s m #[Value.ref b] below meth c s₁ [] 0 0 := Stand.of_body B
    have hh0 : s₁.heap = s.heap := by rw [B.state]; rfl
    have hsz : scr.slots.size = xs.length := by rw [← Array.length_toList, hlist, List.length_map]
    have hval : ∀ j : Nat, j < xs.length → scr.slots[j]? = some (.int (xs.getD j 0)) := fun j hj => by
      rw [← Array.getElem?_toList, hlist]
      simp [hj]
    have hbl : b < s.heap.size := (Array.getElem?_eq_some_iff.mp hcb).1
    have hX : va_X b xs.length (fun j => xs.getD j 0) s s.heap := ⟨scr, hcb, hof, hkn, hsz, hval⟩
    have K : W p l e room_1 s m #[Value.ref b] below meth c s₁.heap [] 0 0 (lw_Z below #[Value.ref b] s) (entryFrame m ([Value.ref b] : List Value).toArray 4) := by
      rw [hh0]
      exact whole_start l hbd ⟨B.exec, B.bytes, B.returns, hml, hown, hts, hX, hbl, B.notSynchronized, hgv⟩
    obtain ⟨t, a1, o, b1, b2, b3⟩ := K s₁ rfl X₀
    exact ⟨t, o, a1, b1, b2, b3⟩
theorem lw_pre_spec {args : Array Value} {s : State} (h : (Jvm.Cond.and given_1 narrow_1).before args s = true) (hr : rest_1_c.before args s = true) : ∃ (b : Addr) (xs : List Int32), lw_P b xs args s := by
  have hs := flat_of_before _ h
  have hq := flat_of_before _ hr
  have hc : (Cond.count 1).before args s = true := hs _ (by decide +kernel)
  have harr : (Cond.arrayOf (.arg 0) .int).before args s = true := hs _ (by decide +kernel)
  have hle : (Cond.le (.length (.arg 0)) (.int 1536)).before args s = true := hs _ (by decide +kernel)
  have hlen : (Cond.isInt (.length (.arg 0))).before args s = true := hq _ (by decide +kernel)
  have hall : (Cond.all (.arg 0) (.isInt (.elem (.arg 0) (.index 0)))).before args s = true := hq _ (by decide +kernel)
  obtain ⟨b, xs, hb, hx⟩ := State.ints_of_pre rfl harr hlen hall
  have hsm : xs.length < 2 ^ 31 := hx.choose_spec.2.2.2
  have hev : (Term.length (.arg 0)).eval args s none [] s = some (.int xs.length.toInt32) := hx.length_eval hb
  have hv := Cond.le_ints hev (show (Term.int 1536).eval args s none [] s = some (.int 1536) from rfl)
  have hd : xs.length.toInt32 ≤ 1536 := by
    simpa [Cond.before, Cond.holds, hv] using hle
  have hN : xs.length ≤ 1536 := (Int32.ofNat_le_ofNat hsm (by decide)).mp (show Int32.ofNat xs.length ≤ Int32.ofNat 1536 from hd)
  exact ⟨b, xs, Cond.one_arg hc (show args[0]? = some (.ref b) from hb), hx, hN, h⟩
theorem lw_comes (l : Launch) : Comes l x (Jvm.Cond.code x code maxLocals ret :: tables_1) room_1 (fun tb e args s => Calls_1 tb e args s ∧ rest_1 tb e args s ∧ Pre_1 tb e args s)
    (fun _ _ args s o t => lw_Q args s o t) := by
  intro p e ha hc hk s m args below hf hfit hheap happ hpre
  obtain ⟨b, xs, hP⟩ := lw_pre_spec hpre.2.2 hpre.2.1
  obtain ⟨k, o, h1, h2, h3, hQ⟩ := lw_walk l b xs p e ha hc hk s m args below hf ((Spec.applies_iff_loose hf).mp happ).1 hP trivial
  exact ⟨k, o, h1, h2, h3, hQ⟩
theorem lw_frame {s t : State} {o : Outcome} {args : Array Value} (h : Framed s o t [] 17 848) :
    Framed s o t (fieldLocs frame_1_writes args s ++ arrayLocs frame_1_arrays args s ++ staticLocs frame_1_statics s) 17 848 := h
theorem lw_limb (L : Cond) (hL : ∀ (args : Array Value) (s t : State), L.after args s (.returned (some (.int 1))) t = true) :
    ArmFor flags0 classFile x code maxLocals ret World_1 tables_1 room_1 Calls_1 rest_1 Pre_1
      (fun tb e a s o t => postC L tb e a s o t ∧ Framed s o t (fieldLocs frame_1_writes a s ++ arrayLocs frame_1_arrays a s ++ staticLocs frame_1_statics s) 17 848) := by
  intro l _ _ _ p e ha hc hk s m args below hf hfit hheap happ hpre
  obtain ⟨k, o, h1, h2, h3, rfl, hF⟩ := lw_comes l p e ha hc hk s m args below hf hfit hheap happ hpre
  exact ⟨k, _, h1, h2, h3, hL args s _, lw_frame hF⟩
theorem i_vc : Claimed_1_1 ∧ Claimed_1_2 := ⟨lw_limb limb_1_1 (fun args s t => by simp [limb_1_1, Cond.after, Cond.holds, Cond.value]), lw_limb limb_1_2 (fun args s t => Cond.after_iff.mpr (by
  first | (rw [show limb_1_2 = Cond.eq .result (.int 1) from rfl, Cond.eq_ints (x := 1) (y := 1) rfl rfl]; simp; done) | (simp [limb_1_2, Cond.value, Term.eval]; done)))⟩
end
