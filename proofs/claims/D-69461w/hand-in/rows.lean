section
-- ===== PART A: goes FIRST, ahead of the names: the tables' words, and 'selects' of the private methods out of them =====
/-- a private method of a class that the tables say can be made, by its rows of tables_1 -/
def lw_okq (q : MethodName × Nat) : Prop := (q.1.cls ≠ "java/lang/invoke/MethodHandle" ∧ q.1.cls ≠ "java/lang/invoke/VarHandle") ∧ Cond.instantiable q.1.cls q.2 ∈ tables_1 ∧ Cond.privateMethod q.1 ∈ tables_1 ∧ Cond.instanceMethod q.1 ∈ tables_1
theorem lw_p0 : lw_okq (⟨"ByteShelf$Shelf", "place", "(I)I"⟩, 11) := ⟨⟨by decide +kernel, by decide +kernel⟩, List.mem_of_getElem? (i := 16) (by decide +kernel), List.mem_of_getElem? (i := 94) (by decide +kernel), List.mem_of_getElem? (i := 95) (by decide +kernel)⟩
theorem lw_p1 : lw_okq (⟨"ByteShelf$Shelf", "push", "()V"⟩, 11) := ⟨⟨by decide +kernel, by decide +kernel⟩, List.mem_of_getElem? (i := 16) (by decide +kernel), List.mem_of_getElem? (i := 98) (by decide +kernel), List.mem_of_getElem? (i := 99) (by decide +kernel)⟩
theorem lw_p2 : lw_okq (⟨"ByteShelf$Shelf", "append", "(I)V"⟩, 11) := ⟨⟨by decide +kernel, by decide +kernel⟩, List.mem_of_getElem? (i := 16) (by decide +kernel), List.mem_of_getElem? (i := 105) (by decide +kernel), List.mem_of_getElem? (i := 106) (by decide +kernel)⟩
theorem lw_p3 : lw_okq (⟨"ByteShelf", "isRow", "(I)Z"⟩, 5) := ⟨⟨by decide +kernel, by decide +kernel⟩, List.mem_of_getElem? (i := 8) (by decide +kernel), List.mem_of_getElem? (i := 113) (by decide +kernel), List.mem_of_getElem? (i := 114) (by decide +kernel)⟩
theorem lw_p4 : lw_okq (⟨"ByteShelf$Shelf", "leave", "(I)V"⟩, 11) := ⟨⟨by decide +kernel, by decide +kernel⟩, List.mem_of_getElem? (i := 16) (by decide +kernel), List.mem_of_getElem? (i := 125) (by decide +kernel), List.mem_of_getElem? (i := 126) (by decide +kernel)⟩
theorem lw_p5 : lw_okq (⟨"ByteShelf", "isByte", "(II)Z"⟩, 5) := ⟨⟨by decide +kernel, by decide +kernel⟩, List.mem_of_getElem? (i := 8) (by decide +kernel), List.mem_of_getElem? (i := 141) (by decide +kernel), List.mem_of_getElem? (i := 142) (by decide +kernel)⟩
theorem lw_p6 : lw_okq (⟨"ByteShelfModel", "many", "()I"⟩, 8) := ⟨⟨by decide +kernel, by decide +kernel⟩, List.mem_of_getElem? (i := 201) (by decide +kernel), List.mem_of_getElem? (i := 237) (by decide +kernel), List.mem_of_getElem? (i := 238) (by decide +kernel)⟩
theorem lw_p7 : lw_okq (⟨"ByteShelfModel", "change", "(II)V"⟩, 8) := ⟨⟨by decide +kernel, by decide +kernel⟩, List.mem_of_getElem? (i := 201) (by decide +kernel), List.mem_of_getElem? (i := 244) (by decide +kernel), List.mem_of_getElem? (i := 245) (by decide +kernel)⟩
theorem lw_p8 : lw_okq (⟨"ByteShelfModel", "shift", "(II)V"⟩, 8) := ⟨⟨by decide +kernel, by decide +kernel⟩, List.mem_of_getElem? (i := 201) (by decide +kernel), List.mem_of_getElem? (i := 248) (by decide +kernel), List.mem_of_getElem? (i := 249) (by decide +kernel)⟩
theorem lw_p9 : lw_okq (⟨"ByteShelfModel", "isRow", "(I)Z"⟩, 8) := ⟨⟨by decide +kernel, by decide +kernel⟩, List.mem_of_getElem? (i := 201) (by decide +kernel), List.mem_of_getElem? (i := 256) (by decide +kernel), List.mem_of_getElem? (i := 257) (by decide +kernel)⟩
theorem lw_p10 : lw_okq (⟨"ByteShelfModel", "hasRoom", "(II)Z"⟩, 8) := ⟨⟨by decide +kernel, by decide +kernel⟩, List.mem_of_getElem? (i := 201) (by decide +kernel), List.mem_of_getElem? (i := 264) (by decide +kernel), List.mem_of_getElem? (i := 265) (by decide +kernel)⟩
def lw_privs_1 : List (MethodName × Nat) := [(⟨"ByteShelf$Shelf", "place", "(I)I"⟩, 11), (⟨"ByteShelf$Shelf", "push", "()V"⟩, 11), (⟨"ByteShelf$Shelf", "append", "(I)V"⟩, 11), (⟨"ByteShelf", "isRow", "(I)Z"⟩, 5), (⟨"ByteShelf$Shelf", "leave", "(I)V"⟩, 11), (⟨"ByteShelf", "isByte", "(II)Z"⟩, 5), (⟨"ByteShelfModel", "many", "()I"⟩, 8), (⟨"ByteShelfModel", "change", "(II)V"⟩, 8), (⟨"ByteShelfModel", "shift", "(II)V"⟩, 8), (⟨"ByteShelfModel", "isRow", "(I)Z"⟩, 8), (⟨"ByteShelfModel", "hasRoom", "(II)Z"⟩, 8)]
theorem lw_r1 : ∀ q ∈ lw_privs_1, lw_okq q := List.forall_mem_cons.mpr ⟨lw_p0, List.forall_mem_cons.mpr ⟨lw_p1, List.forall_mem_cons.mpr ⟨lw_p2, List.forall_mem_cons.mpr ⟨lw_p3, List.forall_mem_cons.mpr ⟨lw_p4, List.forall_mem_cons.mpr ⟨lw_p5, List.forall_mem_cons.mpr ⟨lw_p6, List.forall_mem_cons.mpr ⟨lw_p7, List.forall_mem_cons.mpr ⟨lw_p8, List.forall_mem_cons.mpr ⟨lw_p9, List.forall_mem_cons.mpr ⟨lw_p10, fun _ h => absurd h List.not_mem_nil⟩⟩⟩⟩⟩⟩⟩⟩⟩⟩⟩
def lw_privs : List (MethodName × Nat) := lw_privs_1
def lw_tbl : List Cond := k2_sels lw_privs ++ tables_1
theorem lw_privs_ok : ∀ q ∈ lw_privs, lw_okq q := lw_r1
-- ===== end of PART A =====
/-- the words that a contract may ask for: those of lw_tbl that outlast a call -/
def aw : List Cond := lw_tbl.filter goodWord
theorem aw_in {w : Cond} (i : Nat) (h : lw_tbl[i]? = some w) (g : goodWord w = true) : w ∈ aw := List.mem_filter.mpr ⟨List.mem_of_getElem? h, g⟩
theorem aw_good : GoodIn aw aw := fun w h => ⟨h, good_of_word (List.mem_filter.mp h).2⟩
theorem aw_tbl : GoodIn lw_tbl aw := fun w h => ⟨(List.mem_filter.mp h).1, good_of_word (List.mem_filter.mp h).2⟩
def R_S : String := "ByteShelf$Shelf"
def R_A : String := "ByteShelf"
def R_M : String := "ByteShelfModel"
def R_law : String := "ByteShelfLaw"
def R_I : String := "java/lang/Integer"
def R_H : String := "java/lang/Math"
def R_Y : String := "java/lang/System"
def F_S : u_T := fun k => match k with
  | 0 => ("ByteShelf$Shelf", "bytes", "[B", true)
  | 1 => ("ByteShelf$Shelf", "at", "[I", true)
  | 2 => ("ByteShelf$Shelf", "size", "[I", true)
  | 3 => ("ByteShelf$Shelf", "room", "[I", true)
  | 4 => ("ByteShelf$Shelf", "next", "[I", true)
  | 5 => ("ByteShelf$Shelf", "last", "[I", true)
  | 6 => ("ByteShelf$Shelf", "first", "I", false)
  | 7 => ("ByteShelf$Shelf", "end", "I", false)
  | 8 => ("ByteShelf$Shelf", "free", "I", false)
  | 9 => ("ByteShelf$Shelf", "many", "I", false)
  | _ => ("ByteShelf$Shelf", "top", "I", false)
def t_S : Nat → FieldType := fun k => match k with
  | 0 => .array .byte
  | 1 => .array .int
  | 2 => .array .int
  | 3 => .array .int
  | 4 => .array .int
  | 5 => .array .int
  | 6 => .int
  | 7 => .int
  | 8 => .int
  | 9 => .int
  | _ => .int
theorem n_S : ∀ a, a < 11 → ∀ b, b < 11 → a ≠ b → (F_S a).2.1 ≠ (F_S b).2.1 := by decide +kernel
theorem t_S_ok : ∀ k, k < 11 → parseFieldDescriptor (F_S k).2.2.1 = some (t_S k) := by decide +kernel
def F_A : u_T := fun k => match k with
  | 0 => ("ByteShelf", "shelf", "LByteShelf$Shelf;", true)
  | 1 => ("ByteShelf", "there", "[Z", true)
  | 2 => ("ByteShelf", "hand", "[B", true)
  | 3 => ("ByteShelf", "rows", "I", false)
  | _ => ("ByteShelf", "places", "I", false)
def t_A : Nat → FieldType := fun k => match k with
  | 0 => .object "ByteShelf$Shelf"
  | 1 => .array .boolean
  | 2 => .array .byte
  | 3 => .int
  | _ => .int
theorem n_A : ∀ a, a < 5 → ∀ b, b < 5 → a ≠ b → (F_A a).2.1 ≠ (F_A b).2.1 := by decide +kernel
theorem t_A_ok : ∀ k, k < 5 → parseFieldDescriptor (F_A k).2.2.1 = some (t_A k) := by decide +kernel
def F_M : u_T := fun k => match k with
  | 0 => ("ByteShelfModel", "bytes", "[B", true)
  | 1 => ("ByteShelfModel", "used", "I", false)
  | 2 => ("ByteShelfModel", "starts", "[I", true)
  | 3 => ("ByteShelfModel", "sizes", "[I", true)
  | 4 => ("ByteShelfModel", "numbers", "I", false)
  | 5 => ("ByteShelfModel", "backs", "[I", true)
  | 6 => ("ByteShelfModel", "backMany", "I", false)
  | _ => ("ByteShelfModel", "taken", "I", false)
def t_M : Nat → FieldType := fun k => match k with
  | 0 => .array .byte
  | 1 => .int
  | 2 => .array .int
  | 3 => .array .int
  | 4 => .int
  | 5 => .array .int
  | 6 => .int
  | _ => .int
theorem n_M : ∀ a, a < 8 → ∀ b, b < 8 → a ≠ b → (F_M a).2.1 ≠ (F_M b).2.1 := by decide +kernel
theorem t_M_ok : ∀ k, k < 8 → parseFieldDescriptor (F_M k).2.2.1 = some (t_M k) := by decide +kernel
abbrev b_A_init : ByteArray := prog_1_method_1_code
def y_A_init : MethodName := ⟨R_A, "<init>", "()V"⟩
abbrev b_S_init : ByteArray := prog_2_method_1_code
def y_S_init : MethodName := ⟨R_S, "<init>", "()V"⟩
abbrev b_A_take : ByteArray := prog_1_method_5_code
def y_A_take : MethodName := ⟨R_A, "take", "(I)I"⟩
abbrev b_A_isSize : ByteArray := prog_1_method_2_code
def y_A_isSize : MethodName := ⟨R_A, "isSize", "(I)Z"⟩
abbrev b_A_rounded : ByteArray := prog_1_method_4_code
def y_A_rounded : MethodName := ⟨R_A, "rounded", "(I)I"⟩
abbrev b_S_take : ByteArray := prog_2_method_10_code
def y_S_take : MethodName := ⟨R_S, "take", "(I)I"⟩
abbrev b_S_rounded : ByteArray := prog_2_method_2_code
def y_S_rounded : MethodName := ⟨R_S, "rounded", "(I)I"⟩
abbrev b_S_place : ByteArray := prog_2_method_9_code
def y_S_place : MethodName := ⟨R_S, "place", "(I)I"⟩
abbrev b_S_push : ByteArray := prog_2_method_8_code
def y_S_push : MethodName := ⟨R_S, "push", "()V"⟩
abbrev b_S_append : ByteArray := prog_2_method_6_code
def y_S_append : MethodName := ⟨R_S, "append", "(I)V"⟩
abbrev b_A_give : ByteArray := prog_1_method_6_code
def y_A_give : MethodName := ⟨R_A, "give", "(I)Z"⟩
abbrev b_A_isRow : ByteArray := prog_1_method_3_code
def y_A_isRow : MethodName := ⟨R_A, "isRow", "(I)Z"⟩
abbrev b_S_size : ByteArray := prog_2_method_3_code
def y_S_size : MethodName := ⟨R_S, "size", "(I)I"⟩
abbrev b_S_free : ByteArray := prog_2_method_12_code
def y_S_free : MethodName := ⟨R_S, "free", "(I)V"⟩
abbrev b_S_leave : ByteArray := prog_2_method_7_code
def y_S_leave : MethodName := ⟨R_S, "leave", "(I)V"⟩
abbrev b_A_resize : ByteArray := prog_1_method_7_code
def y_A_resize : MethodName := ⟨R_A, "resize", "(II)I"⟩
abbrev b_S_resize : ByteArray := prog_2_method_13_code
def y_S_resize : MethodName := ⟨R_S, "resize", "(II)V"⟩
abbrev b_A_put : ByteArray := prog_1_method_9_code
def y_A_put : MethodName := ⟨R_A, "put", "(III)Z"⟩
abbrev b_A_isByte : ByteArray := prog_1_method_8_code
def y_A_isByte : MethodName := ⟨R_A, "isByte", "(II)Z"⟩
abbrev b_S_set : ByteArray := prog_2_method_5_code
def y_S_set : MethodName := ⟨R_S, "set", "(III)V"⟩
abbrev b_A_fill : ByteArray := prog_1_method_10_code
def y_A_fill : MethodName := ⟨R_A, "fill", "(IIII)Z"⟩
abbrev b_S_write : ByteArray := prog_2_method_14_code
def y_S_write : MethodName := ⟨R_S, "write", "(II[BII)V"⟩
abbrev b_A_copy : ByteArray := prog_1_method_11_code
def y_A_copy : MethodName := ⟨R_A, "copy", "(II)I"⟩
abbrev b_S_get : ByteArray := prog_2_method_4_code
def y_S_get : MethodName := ⟨R_S, "get", "(II)I"⟩
abbrev b_A_get : ByteArray := prog_1_method_12_code
def y_A_get : MethodName := ⟨R_A, "get", "(II)I"⟩
abbrev b_A_size : ByteArray := prog_1_method_13_code
def y_A_size : MethodName := ⟨R_A, "size", "(I)I"⟩
abbrev b_A_compare : ByteArray := prog_1_method_14_code
def y_A_compare : MethodName := ⟨R_A, "compare", "(II)I"⟩
abbrev b_S_compare : ByteArray := prog_2_method_15_code
def y_S_compare : MethodName := ⟨R_S, "compare", "(II)I"⟩
abbrev b_H_min : ByteArray := prog_6_method_69_code
def y_H_min : MethodName := ⟨R_H, "min", "(II)I"⟩
abbrev b_I_signum : ByteArray := prog_5_method_56_code
def y_I_signum : MethodName := ⟨R_I, "signum", "(I)I"⟩
abbrev b_A_sum : ByteArray := prog_1_method_15_code
def y_A_sum : MethodName := ⟨R_A, "sum", "(I)I"⟩
abbrev b_A_rows : ByteArray := prog_1_method_16_code
def y_A_rows : MethodName := ⟨R_A, "rows", "()I"⟩
abbrev b_A_places : ByteArray := prog_1_method_17_code
def y_A_places : MethodName := ⟨R_A, "places", "()I"⟩
abbrev b_M_init : ByteArray := prog_4_method_1_code
def y_M_init : MethodName := ⟨R_M, "<init>", "()V"⟩
abbrev b_M_take : ByteArray := prog_4_method_6_code
def y_M_take : MethodName := ⟨R_M, "take", "(I)I"⟩
abbrev b_M_many : ByteArray := prog_4_method_5_code
def y_M_many : MethodName := ⟨R_M, "many", "()I"⟩
abbrev b_M_placesOf : ByteArray := prog_4_method_4_code
def y_M_placesOf : MethodName := ⟨R_M, "placesOf", "(I)I"⟩
abbrev b_M_change : ByteArray := prog_4_method_8_code
def y_M_change : MethodName := ⟨R_M, "change", "(II)V"⟩
abbrev b_M_shift : ByteArray := prog_4_method_7_code
def y_M_shift : MethodName := ⟨R_M, "shift", "(II)V"⟩
abbrev b_M_give : ByteArray := prog_4_method_9_code
def y_M_give : MethodName := ⟨R_M, "give", "(I)Z"⟩
abbrev b_M_isRow : ByteArray := prog_4_method_3_code
def y_M_isRow : MethodName := ⟨R_M, "isRow", "(I)Z"⟩
abbrev b_M_resize : ByteArray := prog_4_method_11_code
def y_M_resize : MethodName := ⟨R_M, "resize", "(II)I"⟩
abbrev b_M_hasRoom : ByteArray := prog_4_method_10_code
def y_M_hasRoom : MethodName := ⟨R_M, "hasRoom", "(II)Z"⟩
abbrev b_M_put : ByteArray := prog_4_method_12_code
def y_M_put : MethodName := ⟨R_M, "put", "(III)Z"⟩
abbrev b_M_fill : ByteArray := prog_4_method_13_code
def y_M_fill : MethodName := ⟨R_M, "fill", "(IIII)Z"⟩
abbrev b_M_copy : ByteArray := prog_4_method_14_code
def y_M_copy : MethodName := ⟨R_M, "copy", "(II)I"⟩
abbrev b_M_get : ByteArray := prog_4_method_15_code
def y_M_get : MethodName := ⟨R_M, "get", "(II)I"⟩
abbrev b_M_size : ByteArray := prog_4_method_16_code
def y_M_size : MethodName := ⟨R_M, "size", "(I)I"⟩
abbrev b_M_compare : ByteArray := prog_4_method_17_code
def y_M_compare : MethodName := ⟨R_M, "compare", "(II)I"⟩
abbrev b_M_sum : ByteArray := prog_4_method_18_code
def y_M_sum : MethodName := ⟨R_M, "sum", "(I)I"⟩
abbrev b_M_rows : ByteArray := prog_4_method_19_code
def y_M_rows : MethodName := ⟨R_M, "rows", "()I"⟩
abbrev b_M_places : ByteArray := prog_4_method_20_code
def y_M_places : MethodName := ⟨R_M, "places", "()I"⟩
theorem k_se_S_place : Cond.selects R_S y_S_place y_S_place ∈ aw := aw_in 0 rfl rfl
theorem k_se_S_push : Cond.selects R_S y_S_push y_S_push ∈ aw := aw_in 1 rfl rfl
theorem k_se_S_append : Cond.selects R_S y_S_append y_S_append ∈ aw := aw_in 2 rfl rfl
theorem k_se_A_isRow : Cond.selects R_A y_A_isRow y_A_isRow ∈ aw := aw_in 3 rfl rfl
theorem k_se_S_leave : Cond.selects R_S y_S_leave y_S_leave ∈ aw := aw_in 4 rfl rfl
theorem k_se_A_isByte : Cond.selects R_A y_A_isByte y_A_isByte ∈ aw := aw_in 5 rfl rfl
theorem k_se_M_many : Cond.selects R_M y_M_many y_M_many ∈ aw := aw_in 6 rfl rfl
theorem k_se_M_change : Cond.selects R_M y_M_change y_M_change ∈ aw := aw_in 7 rfl rfl
theorem k_se_M_shift : Cond.selects R_M y_M_shift y_M_shift ∈ aw := aw_in 8 rfl rfl
theorem k_se_M_isRow : Cond.selects R_M y_M_isRow y_M_isRow ∈ aw := aw_in 9 rfl rfl
theorem k_se_M_hasRoom : Cond.selects R_M y_M_hasRoom y_M_hasRoom ∈ aw := aw_in 10 rfl rfl
theorem k_ini_law : Cond.initialized R_law ∈ aw := aw_in 11 rfl rfl
theorem k_ini_A : Cond.initialized R_A ∈ aw := aw_in 12 rfl rfl
theorem k_ini_S : Cond.initialized R_S ∈ aw := aw_in 13 rfl rfl
theorem k_ini_M : Cond.initialized R_M ∈ aw := aw_in 14 rfl rfl
theorem k_ini_Y : Cond.initialized R_Y ∈ aw := aw_in 15 rfl rfl
theorem k_ini_H : Cond.initialized R_H ∈ aw := aw_in 16 rfl rfl
theorem k_ini_I : Cond.initialized R_I ∈ aw := aw_in 17 rfl rfl
theorem k_cl_law_7 : Cond.classLink R_law 7 R_A ∈ aw := aw_in 18 rfl rfl
theorem k_in_A : Cond.instantiable R_A 5 ∈ aw := aw_in 19 rfl rfl
theorem k_ml_law_9 : Cond.methodLink R_law 9 y_A_init ∈ aw := aw_in 20 rfl rfl
theorem k_im_A_init : Cond.instanceMethod y_A_init ∈ aw := aw_in 21 rfl rfl
theorem k_co_A_init : Cond.code y_A_init b_A_init 1 none ∈ aw := aw_in 22 rfl rfl
theorem k_ml_A_1 : Cond.methodLink R_A 1 objectInit ∈ aw := aw_in 23 rfl rfl
theorem k_im_O_init : Cond.instanceMethod objectInit ∈ aw := aw_in 24 rfl rfl
theorem k_co_O_init : Cond.code objectInit ⟨#[0xb1]⟩ 1 none ∈ aw := aw_in 25 rfl rfl
theorem k_cl_A_7 : Cond.classLink R_A 7 R_S ∈ aw := aw_in 26 rfl rfl
theorem k_in_S : Cond.instantiable R_S 11 ∈ aw := aw_in 27 rfl rfl
theorem k_im_S_init : Cond.instanceMethod y_S_init ∈ aw := aw_in 29 rfl rfl
theorem k_co_S_init : Cond.code y_S_init b_S_init 1 none ∈ aw := aw_in 30 rfl rfl
theorem k_ml_S_3 : Cond.methodLink R_S 3 objectInit ∈ aw := aw_in 31 rfl rfl
theorem k_k_S_11 : Cond.constant R_S 11 400000 ∈ aw := aw_in 32 rfl rfl
theorem k_fl_S_12 : Cond.fieldLink R_S 12 R_S "bytes" "[B" ∈ aw := aw_in 33 rfl rfl
theorem k_fl_S_16 : Cond.fieldLink R_S 16 R_S "at" "[I" ∈ aw := aw_in 34 rfl rfl
theorem k_fl_S_20 : Cond.fieldLink R_S 20 R_S "size" "[I" ∈ aw := aw_in 35 rfl rfl
theorem k_fl_S_23 : Cond.fieldLink R_S 23 R_S "room" "[I" ∈ aw := aw_in 36 rfl rfl
theorem k_fl_S_26 : Cond.fieldLink R_S 26 R_S "next" "[I" ∈ aw := aw_in 37 rfl rfl
theorem k_fl_S_29 : Cond.fieldLink R_S 29 R_S "last" "[I" ∈ aw := aw_in 38 rfl rfl
theorem k_fl_S_32 : Cond.fieldLink R_S 32 R_S "first" "I" ∈ aw := aw_in 39 rfl rfl
theorem k_fl_S_36 : Cond.fieldLink R_S 36 R_S "end" "I" ∈ aw := aw_in 40 rfl rfl
theorem k_fl_S_39 : Cond.fieldLink R_S 39 R_S "free" "I" ∈ aw := aw_in 41 rfl rfl
theorem k_fl_S_61 : Cond.fieldLink R_S 61 R_S "many" "I" ∈ aw := aw_in 42 rfl rfl
theorem k_fl_S_52 : Cond.fieldLink R_S 52 R_S "top" "I" ∈ aw := aw_in 43 rfl rfl
theorem k_ac_byte : Cond.arrayClass .byte ∈ aw := aw_in 67 rfl rfl
theorem k_ac_int : Cond.arrayClass .int ∈ aw := aw_in 68 rfl rfl
theorem k_fl_A_10 : Cond.fieldLink R_A 10 R_A "shelf" "LByteShelf$Shelf;" ∈ aw := aw_in 69 rfl rfl
theorem k_fl_A_16 : Cond.fieldLink R_A 16 R_A "there" "[Z" ∈ aw := aw_in 70 rfl rfl
theorem k_fl_A_20 : Cond.fieldLink R_A 20 R_A "hand" "[B" ∈ aw := aw_in 71 rfl rfl
theorem k_fl_A_28 : Cond.fieldLink R_A 28 R_A "rows" "I" ∈ aw := aw_in 72 rfl rfl
theorem k_fl_A_32 : Cond.fieldLink R_A 32 R_A "places" "I" ∈ aw := aw_in 73 rfl rfl
theorem k_ac_boolean : Cond.arrayClass .boolean ∈ aw := aw_in 85 rfl rfl
theorem k_ml_law_13 : Cond.methodLink R_law 13 y_A_take ∈ aw := aw_in 86 rfl rfl
theorem k_im_A_take : Cond.instanceMethod y_A_take ∈ aw := aw_in 87 rfl rfl
theorem k_se_A_take : Cond.selects R_A y_A_take y_A_take ∈ aw := aw_in 88 rfl rfl
theorem k_co_A_take : Cond.code y_A_take b_A_take 3 (some .int) ∈ aw := aw_in 89 rfl rfl
theorem k_ml_A_24 : Cond.methodLink R_A 24 y_A_isSize ∈ aw := aw_in 90 rfl rfl
theorem k_st_A_isSize : Cond.static y_A_isSize ∈ aw := aw_in 91 rfl rfl
theorem k_co_A_isSize : Cond.code y_A_isSize b_A_isSize 1 (some .boolean) ∈ aw := aw_in 92 rfl rfl
theorem k_ml_A_35 : Cond.methodLink R_A 35 y_A_rounded ∈ aw := aw_in 93 rfl rfl
theorem k_st_A_rounded : Cond.static y_A_rounded ∈ aw := aw_in 94 rfl rfl
theorem k_co_A_rounded : Cond.code y_A_rounded b_A_rounded 1 (some .int) ∈ aw := aw_in 95 rfl rfl
theorem k_k_A_39 : Cond.constant R_A 39 400000 ∈ aw := aw_in 96 rfl rfl
theorem k_ml_A_40 : Cond.methodLink R_A 40 y_S_take ∈ aw := aw_in 97 rfl rfl
theorem k_im_S_take : Cond.instanceMethod y_S_take ∈ aw := aw_in 98 rfl rfl
theorem k_se_S_take : Cond.selects R_S y_S_take y_S_take ∈ aw := aw_in 99 rfl rfl
theorem k_co_S_take : Cond.code y_S_take b_S_take 6 (some .int) ∈ aw := aw_in 100 rfl rfl
theorem k_ml_S_42 : Cond.methodLink R_S 42 y_S_rounded ∈ aw := aw_in 101 rfl rfl
theorem k_st_S_rounded : Cond.static y_S_rounded ∈ aw := aw_in 102 rfl rfl
theorem k_co_S_rounded : Cond.code y_S_rounded b_S_rounded 1 (some .int) ∈ aw := aw_in 103 rfl rfl
theorem k_ml_S_58 : Cond.methodLink R_S 58 y_S_place ∈ aw := aw_in 104 rfl rfl
theorem k_im_S_place : Cond.instanceMethod y_S_place ∈ aw := aw_in 106 rfl rfl
theorem k_co_S_place : Cond.code y_S_place b_S_place 3 (some .int) ∈ aw := aw_in 107 rfl rfl
theorem k_ml_S_55 : Cond.methodLink R_S 55 y_S_push ∈ aw := aw_in 108 rfl rfl
theorem k_im_S_push : Cond.instanceMethod y_S_push ∈ aw := aw_in 110 rfl rfl
theorem k_co_S_push : Cond.code y_S_push b_S_push 4 none ∈ aw := aw_in 111 rfl rfl
theorem k_ml_S_46 : Cond.methodLink R_S 46 arraycopyName ∈ aw := aw_in 112 rfl rfl
theorem k_st_Y_arraycopy : Cond.static arraycopyName ∈ aw := aw_in 113 rfl rfl
theorem k_na_Y_arraycopy : Cond.native arraycopyName ∈ aw := aw_in 114 rfl rfl
theorem k_ml_S_64 : Cond.methodLink R_S 64 y_S_append ∈ aw := aw_in 115 rfl rfl
theorem k_im_S_append : Cond.instanceMethod y_S_append ∈ aw := aw_in 117 rfl rfl
theorem k_co_S_append : Cond.code y_S_append b_S_append 2 none ∈ aw := aw_in 118 rfl rfl
theorem k_ml_law_18 : Cond.methodLink R_law 18 y_A_give ∈ aw := aw_in 119 rfl rfl
theorem k_im_A_give : Cond.instanceMethod y_A_give ∈ aw := aw_in 120 rfl rfl
theorem k_se_A_give : Cond.selects R_A y_A_give y_A_give ∈ aw := aw_in 121 rfl rfl
theorem k_co_A_give : Cond.code y_A_give b_A_give 2 (some .boolean) ∈ aw := aw_in 122 rfl rfl
theorem k_ml_A_43 : Cond.methodLink R_A 43 y_A_isRow ∈ aw := aw_in 123 rfl rfl
theorem k_im_A_isRow : Cond.instanceMethod y_A_isRow ∈ aw := aw_in 125 rfl rfl
theorem k_co_A_isRow : Cond.code y_A_isRow b_A_isRow 2 (some .boolean) ∈ aw := aw_in 126 rfl rfl
theorem k_ml_A_46 : Cond.methodLink R_A 46 y_S_size ∈ aw := aw_in 127 rfl rfl
theorem k_im_S_size : Cond.instanceMethod y_S_size ∈ aw := aw_in 128 rfl rfl
theorem k_se_S_size : Cond.selects R_S y_S_size y_S_size ∈ aw := aw_in 129 rfl rfl
theorem k_co_S_size : Cond.code y_S_size b_S_size 2 (some .int) ∈ aw := aw_in 130 rfl rfl
theorem k_ml_A_49 : Cond.methodLink R_A 49 y_S_free ∈ aw := aw_in 131 rfl rfl
theorem k_im_S_free : Cond.instanceMethod y_S_free ∈ aw := aw_in 132 rfl rfl
theorem k_se_S_free : Cond.selects R_S y_S_free y_S_free ∈ aw := aw_in 133 rfl rfl
theorem k_co_S_free : Cond.code y_S_free b_S_free 2 none ∈ aw := aw_in 134 rfl rfl
theorem k_ml_S_71 : Cond.methodLink R_S 71 y_S_leave ∈ aw := aw_in 135 rfl rfl
theorem k_im_S_leave : Cond.instanceMethod y_S_leave ∈ aw := aw_in 137 rfl rfl
theorem k_co_S_leave : Cond.code y_S_leave b_S_leave 2 none ∈ aw := aw_in 138 rfl rfl
theorem k_ml_law_23 : Cond.methodLink R_law 23 y_A_resize ∈ aw := aw_in 139 rfl rfl
theorem k_im_A_resize : Cond.instanceMethod y_A_resize ∈ aw := aw_in 140 rfl rfl
theorem k_se_A_resize : Cond.selects R_A y_A_resize y_A_resize ∈ aw := aw_in 141 rfl rfl
theorem k_co_A_resize : Cond.code y_A_resize b_A_resize 4 (some .int) ∈ aw := aw_in 142 rfl rfl
theorem k_ml_A_53 : Cond.methodLink R_A 53 y_S_resize ∈ aw := aw_in 143 rfl rfl
theorem k_im_S_resize : Cond.instanceMethod y_S_resize ∈ aw := aw_in 144 rfl rfl
theorem k_se_S_resize : Cond.selects R_S y_S_resize y_S_resize ∈ aw := aw_in 145 rfl rfl
theorem k_co_S_resize : Cond.code y_S_resize b_S_resize 5 none ∈ aw := aw_in 146 rfl rfl
theorem k_ml_law_28 : Cond.methodLink R_law 28 y_A_put ∈ aw := aw_in 147 rfl rfl
theorem k_im_A_put : Cond.instanceMethod y_A_put ∈ aw := aw_in 148 rfl rfl
theorem k_se_A_put : Cond.selects R_A y_A_put y_A_put ∈ aw := aw_in 149 rfl rfl
theorem k_co_A_put : Cond.code y_A_put b_A_put 4 (some .boolean) ∈ aw := aw_in 150 rfl rfl
theorem k_ml_A_57 : Cond.methodLink R_A 57 y_A_isByte ∈ aw := aw_in 151 rfl rfl
theorem k_im_A_isByte : Cond.instanceMethod y_A_isByte ∈ aw := aw_in 153 rfl rfl
theorem k_co_A_isByte : Cond.code y_A_isByte b_A_isByte 3 (some .boolean) ∈ aw := aw_in 154 rfl rfl
theorem k_ml_A_61 : Cond.methodLink R_A 61 y_S_set ∈ aw := aw_in 155 rfl rfl
theorem k_im_S_set : Cond.instanceMethod y_S_set ∈ aw := aw_in 156 rfl rfl
theorem k_se_S_set : Cond.selects R_S y_S_set y_S_set ∈ aw := aw_in 157 rfl rfl
theorem k_co_S_set : Cond.code y_S_set b_S_set 4 none ∈ aw := aw_in 158 rfl rfl
theorem k_ml_law_33 : Cond.methodLink R_law 33 y_A_fill ∈ aw := aw_in 159 rfl rfl
theorem k_im_A_fill : Cond.instanceMethod y_A_fill ∈ aw := aw_in 160 rfl rfl
theorem k_se_A_fill : Cond.selects R_A y_A_fill y_A_fill ∈ aw := aw_in 161 rfl rfl
theorem k_co_A_fill : Cond.code y_A_fill b_A_fill 6 (some .boolean) ∈ aw := aw_in 162 rfl rfl
theorem k_ml_A_65 : Cond.methodLink R_A 65 y_S_write ∈ aw := aw_in 163 rfl rfl
theorem k_im_S_write : Cond.instanceMethod y_S_write ∈ aw := aw_in 164 rfl rfl
theorem k_se_S_write : Cond.selects R_S y_S_write y_S_write ∈ aw := aw_in 165 rfl rfl
theorem k_co_S_write : Cond.code y_S_write b_S_write 6 none ∈ aw := aw_in 166 rfl rfl
theorem k_ml_law_38 : Cond.methodLink R_law 38 y_A_copy ∈ aw := aw_in 167 rfl rfl
theorem k_im_A_copy : Cond.instanceMethod y_A_copy ∈ aw := aw_in 168 rfl rfl
theorem k_se_A_copy : Cond.selects R_A y_A_copy y_A_copy ∈ aw := aw_in 169 rfl rfl
theorem k_co_A_copy : Cond.code y_A_copy b_A_copy 5 (some .int) ∈ aw := aw_in 170 rfl rfl
theorem k_ml_A_69 : Cond.methodLink R_A 69 y_S_get ∈ aw := aw_in 171 rfl rfl
theorem k_im_S_get : Cond.instanceMethod y_S_get ∈ aw := aw_in 172 rfl rfl
theorem k_se_S_get : Cond.selects R_S y_S_get y_S_get ∈ aw := aw_in 173 rfl rfl
theorem k_co_S_get : Cond.code y_S_get b_S_get 3 (some .int) ∈ aw := aw_in 174 rfl rfl
theorem k_ml_A_73 : Cond.methodLink R_A 73 y_A_resize ∈ aw := aw_in 175 rfl rfl
theorem k_ml_law_42 : Cond.methodLink R_law 42 y_A_get ∈ aw := aw_in 176 rfl rfl
theorem k_im_A_get : Cond.instanceMethod y_A_get ∈ aw := aw_in 177 rfl rfl
theorem k_se_A_get : Cond.selects R_A y_A_get y_A_get ∈ aw := aw_in 178 rfl rfl
theorem k_co_A_get : Cond.code y_A_get b_A_get 3 (some .int) ∈ aw := aw_in 179 rfl rfl
theorem k_ml_law_46 : Cond.methodLink R_law 46 y_A_size ∈ aw := aw_in 180 rfl rfl
theorem k_im_A_size : Cond.instanceMethod y_A_size ∈ aw := aw_in 181 rfl rfl
theorem k_se_A_size : Cond.selects R_A y_A_size y_A_size ∈ aw := aw_in 182 rfl rfl
theorem k_co_A_size : Cond.code y_A_size b_A_size 2 (some .int) ∈ aw := aw_in 183 rfl rfl
theorem k_ml_law_50 : Cond.methodLink R_law 50 y_A_compare ∈ aw := aw_in 184 rfl rfl
theorem k_im_A_compare : Cond.instanceMethod y_A_compare ∈ aw := aw_in 185 rfl rfl
theorem k_se_A_compare : Cond.selects R_A y_A_compare y_A_compare ∈ aw := aw_in 186 rfl rfl
theorem k_co_A_compare : Cond.code y_A_compare b_A_compare 3 (some .int) ∈ aw := aw_in 187 rfl rfl
theorem k_ml_A_75 : Cond.methodLink R_A 75 y_S_compare ∈ aw := aw_in 188 rfl rfl
theorem k_im_S_compare : Cond.instanceMethod y_S_compare ∈ aw := aw_in 189 rfl rfl
theorem k_se_S_compare : Cond.selects R_S y_S_compare y_S_compare ∈ aw := aw_in 190 rfl rfl
theorem k_co_S_compare : Cond.code y_S_compare b_S_compare 5 (some .int) ∈ aw := aw_in 191 rfl rfl
theorem k_ml_S_74 : Cond.methodLink R_S 74 y_H_min ∈ aw := aw_in 192 rfl rfl
theorem k_st_H_min : Cond.static y_H_min ∈ aw := aw_in 193 rfl rfl
theorem k_co_H_min : Cond.code y_H_min b_H_min 2 (some .int) ∈ aw := aw_in 194 rfl rfl
theorem k_ml_S_80 : Cond.methodLink R_S 80 y_S_get ∈ aw := aw_in 195 rfl rfl
theorem k_ml_A_78 : Cond.methodLink R_A 78 y_I_signum ∈ aw := aw_in 196 rfl rfl
theorem k_st_I_signum : Cond.static y_I_signum ∈ aw := aw_in 197 rfl rfl
theorem k_co_I_signum : Cond.code y_I_signum b_I_signum 1 (some .int) ∈ aw := aw_in 198 rfl rfl
theorem k_ml_law_54 : Cond.methodLink R_law 54 y_A_sum ∈ aw := aw_in 199 rfl rfl
theorem k_im_A_sum : Cond.instanceMethod y_A_sum ∈ aw := aw_in 200 rfl rfl
theorem k_se_A_sum : Cond.selects R_A y_A_sum y_A_sum ∈ aw := aw_in 201 rfl rfl
theorem k_co_A_sum : Cond.code y_A_sum b_A_sum 4 (some .int) ∈ aw := aw_in 202 rfl rfl
theorem k_ml_law_58 : Cond.methodLink R_law 58 y_A_rows ∈ aw := aw_in 203 rfl rfl
theorem k_im_A_rows : Cond.instanceMethod y_A_rows ∈ aw := aw_in 204 rfl rfl
theorem k_se_A_rows : Cond.selects R_A y_A_rows y_A_rows ∈ aw := aw_in 205 rfl rfl
theorem k_co_A_rows : Cond.code y_A_rows b_A_rows 1 (some .int) ∈ aw := aw_in 206 rfl rfl
theorem k_ml_law_63 : Cond.methodLink R_law 63 y_A_places ∈ aw := aw_in 207 rfl rfl
theorem k_im_A_places : Cond.instanceMethod y_A_places ∈ aw := aw_in 208 rfl rfl
theorem k_se_A_places : Cond.selects R_A y_A_places y_A_places ∈ aw := aw_in 209 rfl rfl
theorem k_co_A_places : Cond.code y_A_places b_A_places 1 (some .int) ∈ aw := aw_in 210 rfl rfl
theorem k_cl_law_10 : Cond.classLink R_law 10 R_M ∈ aw := aw_in 211 rfl rfl
theorem k_in_M : Cond.instantiable R_M 8 ∈ aw := aw_in 212 rfl rfl
theorem k_ml_law_12 : Cond.methodLink R_law 12 y_M_init ∈ aw := aw_in 213 rfl rfl
theorem k_im_M_init : Cond.instanceMethod y_M_init ∈ aw := aw_in 214 rfl rfl
theorem k_co_M_init : Cond.code y_M_init b_M_init 1 none ∈ aw := aw_in 215 rfl rfl
theorem k_ml_M_1 : Cond.methodLink R_M 1 objectInit ∈ aw := aw_in 216 rfl rfl
theorem k_k_M_7 : Cond.constant R_M 7 400000 ∈ aw := aw_in 217 rfl rfl
theorem k_fl_M_8 : Cond.fieldLink R_M 8 R_M "bytes" "[B" ∈ aw := aw_in 218 rfl rfl
theorem k_fl_M_46 : Cond.fieldLink R_M 46 R_M "used" "I" ∈ aw := aw_in 219 rfl rfl
theorem k_fl_M_14 : Cond.fieldLink R_M 14 R_M "starts" "[I" ∈ aw := aw_in 220 rfl rfl
theorem k_fl_M_18 : Cond.fieldLink R_M 18 R_M "sizes" "[I" ∈ aw := aw_in 221 rfl rfl
theorem k_fl_M_24 : Cond.fieldLink R_M 24 R_M "numbers" "I" ∈ aw := aw_in 222 rfl rfl
theorem k_fl_M_21 : Cond.fieldLink R_M 21 R_M "backs" "[I" ∈ aw := aw_in 223 rfl rfl
theorem k_fl_M_28 : Cond.fieldLink R_M 28 R_M "backMany" "I" ∈ aw := aw_in 224 rfl rfl
theorem k_fl_M_35 : Cond.fieldLink R_M 35 R_M "taken" "I" ∈ aw := aw_in 225 rfl rfl
theorem k_ml_law_17 : Cond.methodLink R_law 17 y_M_take ∈ aw := aw_in 243 rfl rfl
theorem k_im_M_take : Cond.instanceMethod y_M_take ∈ aw := aw_in 244 rfl rfl
theorem k_se_M_take : Cond.selects R_M y_M_take y_M_take ∈ aw := aw_in 245 rfl rfl
theorem k_co_M_take : Cond.code y_M_take b_M_take 3 (some .int) ∈ aw := aw_in 246 rfl rfl
theorem k_ml_M_31 : Cond.methodLink R_M 31 y_M_many ∈ aw := aw_in 247 rfl rfl
theorem k_im_M_many : Cond.instanceMethod y_M_many ∈ aw := aw_in 249 rfl rfl
theorem k_co_M_many : Cond.code y_M_many b_M_many 1 (some .int) ∈ aw := aw_in 250 rfl rfl
theorem k_ml_M_38 : Cond.methodLink R_M 38 y_M_placesOf ∈ aw := aw_in 251 rfl rfl
theorem k_st_M_placesOf : Cond.static y_M_placesOf ∈ aw := aw_in 252 rfl rfl
theorem k_co_M_placesOf : Cond.code y_M_placesOf b_M_placesOf 1 (some .int) ∈ aw := aw_in 253 rfl rfl
theorem k_ml_M_42 : Cond.methodLink R_M 42 y_M_change ∈ aw := aw_in 254 rfl rfl
theorem k_im_M_change : Cond.instanceMethod y_M_change ∈ aw := aw_in 256 rfl rfl
theorem k_co_M_change : Cond.code y_M_change b_M_change 7 none ∈ aw := aw_in 257 rfl rfl
theorem k_ml_M_49 : Cond.methodLink R_M 49 y_M_shift ∈ aw := aw_in 258 rfl rfl
theorem k_im_M_shift : Cond.instanceMethod y_M_shift ∈ aw := aw_in 260 rfl rfl
theorem k_co_M_shift : Cond.code y_M_shift b_M_shift 4 none ∈ aw := aw_in 261 rfl rfl
theorem k_ml_law_22 : Cond.methodLink R_law 22 y_M_give ∈ aw := aw_in 262 rfl rfl
theorem k_im_M_give : Cond.instanceMethod y_M_give ∈ aw := aw_in 263 rfl rfl
theorem k_se_M_give : Cond.selects R_M y_M_give y_M_give ∈ aw := aw_in 264 rfl rfl
theorem k_co_M_give : Cond.code y_M_give b_M_give 2 (some .boolean) ∈ aw := aw_in 265 rfl rfl
theorem k_ml_M_52 : Cond.methodLink R_M 52 y_M_isRow ∈ aw := aw_in 266 rfl rfl
theorem k_im_M_isRow : Cond.instanceMethod y_M_isRow ∈ aw := aw_in 268 rfl rfl
theorem k_co_M_isRow : Cond.code y_M_isRow b_M_isRow 2 (some .boolean) ∈ aw := aw_in 269 rfl rfl
theorem k_ml_law_27 : Cond.methodLink R_law 27 y_M_resize ∈ aw := aw_in 270 rfl rfl
theorem k_im_M_resize : Cond.instanceMethod y_M_resize ∈ aw := aw_in 271 rfl rfl
theorem k_se_M_resize : Cond.selects R_M y_M_resize y_M_resize ∈ aw := aw_in 272 rfl rfl
theorem k_co_M_resize : Cond.code y_M_resize b_M_resize 3 (some .int) ∈ aw := aw_in 273 rfl rfl
theorem k_ml_M_56 : Cond.methodLink R_M 56 y_M_hasRoom ∈ aw := aw_in 274 rfl rfl
theorem k_im_M_hasRoom : Cond.instanceMethod y_M_hasRoom ∈ aw := aw_in 276 rfl rfl
theorem k_co_M_hasRoom : Cond.code y_M_hasRoom b_M_hasRoom 3 (some .boolean) ∈ aw := aw_in 277 rfl rfl
theorem k_ml_law_32 : Cond.methodLink R_law 32 y_M_put ∈ aw := aw_in 278 rfl rfl
theorem k_im_M_put : Cond.instanceMethod y_M_put ∈ aw := aw_in 279 rfl rfl
theorem k_se_M_put : Cond.selects R_M y_M_put y_M_put ∈ aw := aw_in 280 rfl rfl
theorem k_co_M_put : Cond.code y_M_put b_M_put 4 (some .boolean) ∈ aw := aw_in 281 rfl rfl
theorem k_ml_law_37 : Cond.methodLink R_law 37 y_M_fill ∈ aw := aw_in 282 rfl rfl
theorem k_im_M_fill : Cond.instanceMethod y_M_fill ∈ aw := aw_in 283 rfl rfl
theorem k_se_M_fill : Cond.selects R_M y_M_fill y_M_fill ∈ aw := aw_in 284 rfl rfl
theorem k_co_M_fill : Cond.code y_M_fill b_M_fill 6 (some .boolean) ∈ aw := aw_in 285 rfl rfl
theorem k_ml_law_41 : Cond.methodLink R_law 41 y_M_copy ∈ aw := aw_in 286 rfl rfl
theorem k_im_M_copy : Cond.instanceMethod y_M_copy ∈ aw := aw_in 287 rfl rfl
theorem k_se_M_copy : Cond.selects R_M y_M_copy y_M_copy ∈ aw := aw_in 288 rfl rfl
theorem k_co_M_copy : Cond.code y_M_copy b_M_copy 5 (some .int) ∈ aw := aw_in 289 rfl rfl
theorem k_ml_law_45 : Cond.methodLink R_law 45 y_M_get ∈ aw := aw_in 290 rfl rfl
theorem k_im_M_get : Cond.instanceMethod y_M_get ∈ aw := aw_in 291 rfl rfl
theorem k_se_M_get : Cond.selects R_M y_M_get y_M_get ∈ aw := aw_in 292 rfl rfl
theorem k_co_M_get : Cond.code y_M_get b_M_get 3 (some .int) ∈ aw := aw_in 293 rfl rfl
theorem k_ml_law_49 : Cond.methodLink R_law 49 y_M_size ∈ aw := aw_in 294 rfl rfl
theorem k_im_M_size : Cond.instanceMethod y_M_size ∈ aw := aw_in 295 rfl rfl
theorem k_se_M_size : Cond.selects R_M y_M_size y_M_size ∈ aw := aw_in 296 rfl rfl
theorem k_co_M_size : Cond.code y_M_size b_M_size 2 (some .int) ∈ aw := aw_in 297 rfl rfl
theorem k_ml_law_53 : Cond.methodLink R_law 53 y_M_compare ∈ aw := aw_in 298 rfl rfl
theorem k_im_M_compare : Cond.instanceMethod y_M_compare ∈ aw := aw_in 299 rfl rfl
theorem k_se_M_compare : Cond.selects R_M y_M_compare y_M_compare ∈ aw := aw_in 300 rfl rfl
theorem k_co_M_compare : Cond.code y_M_compare b_M_compare 5 (some .int) ∈ aw := aw_in 301 rfl rfl
theorem k_ml_M_60 : Cond.methodLink R_M 60 y_M_get ∈ aw := aw_in 302 rfl rfl
theorem k_ml_law_57 : Cond.methodLink R_law 57 y_M_sum ∈ aw := aw_in 303 rfl rfl
theorem k_im_M_sum : Cond.instanceMethod y_M_sum ∈ aw := aw_in 304 rfl rfl
theorem k_se_M_sum : Cond.selects R_M y_M_sum y_M_sum ∈ aw := aw_in 305 rfl rfl
theorem k_co_M_sum : Cond.code y_M_sum b_M_sum 4 (some .int) ∈ aw := aw_in 306 rfl rfl
theorem k_ml_M_64 : Cond.methodLink R_M 64 y_M_size ∈ aw := aw_in 307 rfl rfl
theorem k_ml_law_62 : Cond.methodLink R_law 62 y_M_rows ∈ aw := aw_in 308 rfl rfl
theorem k_im_M_rows : Cond.instanceMethod y_M_rows ∈ aw := aw_in 309 rfl rfl
theorem k_se_M_rows : Cond.selects R_M y_M_rows y_M_rows ∈ aw := aw_in 310 rfl rfl
theorem k_co_M_rows : Cond.code y_M_rows b_M_rows 1 (some .int) ∈ aw := aw_in 311 rfl rfl
theorem k_ml_law_66 : Cond.methodLink R_law 66 y_M_places ∈ aw := aw_in 312 rfl rfl
theorem k_im_M_places : Cond.instanceMethod y_M_places ∈ aw := aw_in 313 rfl rfl
theorem k_se_M_places : Cond.selects R_M y_M_places y_M_places ∈ aw := aw_in 314 rfl rfl
theorem k_co_M_places : Cond.code y_M_places b_M_places 1 (some .int) ∈ aw := aw_in 315 rfl rfl
theorem i_S : ∀ w ∈ u_ws R_S F_S 11, w ∈ aw := by
  intro w hw
  obtain ⟨k, hk, rfl⟩ := List.mem_map.mp hw
  have hk := List.mem_range.mp hk
  match k, hk with
  | 0, _ => exact aw_in 44 rfl rfl
  | 1, _ => exact aw_in 46 rfl rfl
  | 2, _ => exact aw_in 48 rfl rfl
  | 3, _ => exact aw_in 50 rfl rfl
  | 4, _ => exact aw_in 52 rfl rfl
  | 5, _ => exact aw_in 54 rfl rfl
  | 6, _ => exact aw_in 56 rfl rfl
  | 7, _ => exact aw_in 58 rfl rfl
  | 8, _ => exact aw_in 60 rfl rfl
  | 9, _ => exact aw_in 62 rfl rfl
  | 10, _ => exact aw_in 64 rfl rfl
  | k + 11, h => exact absurd h (by omega)
theorem i_A : ∀ w ∈ u_ws R_A F_A 5, w ∈ aw := by
  intro w hw
  obtain ⟨k, hk, rfl⟩ := List.mem_map.mp hw
  have hk := List.mem_range.mp hk
  match k, hk with
  | 0, _ => exact aw_in 74 rfl rfl
  | 1, _ => exact aw_in 76 rfl rfl
  | 2, _ => exact aw_in 78 rfl rfl
  | 3, _ => exact aw_in 80 rfl rfl
  | 4, _ => exact aw_in 82 rfl rfl
  | k + 5, h => exact absurd h (by omega)
theorem i_M : ∀ w ∈ u_ws R_M F_M 8, w ∈ aw := by
  intro w hw
  obtain ⟨k, hk, rfl⟩ := List.mem_map.mp hw
  have hk := List.mem_range.mp hk
  match k, hk with
  | 0, _ => exact aw_in 226 rfl rfl
  | 1, _ => exact aw_in 228 rfl rfl
  | 2, _ => exact aw_in 230 rfl rfl
  | 3, _ => exact aw_in 232 rfl rfl
  | 4, _ => exact aw_in 234 rfl rfl
  | 5, _ => exact aw_in 236 rfl rfl
  | 6, _ => exact aw_in 238 rfl rfl
  | 7, _ => exact aw_in 240 rfl rfl
  | k + 8, h => exact absurd h (by omega)
abbrev classes : List vw_C := [(R_S, F_S, 11), (R_A, F_A, 5), (R_M, F_M, 8)]
def w_A_init : List Cond := .code y_A_init b_A_init 1 none :: aw
def w_S_init : List Cond := .code y_S_init b_S_init 1 none :: aw
def w_A_take : List Cond := .code y_A_take b_A_take 3 (some .int) :: aw
def w_A_isSize : List Cond := .code y_A_isSize b_A_isSize 1 (some .boolean) :: aw
def w_A_rounded : List Cond := .code y_A_rounded b_A_rounded 1 (some .int) :: aw
def w_S_take : List Cond := .code y_S_take b_S_take 6 (some .int) :: aw
def w_S_rounded : List Cond := .code y_S_rounded b_S_rounded 1 (some .int) :: aw
def w_S_place : List Cond := .code y_S_place b_S_place 3 (some .int) :: aw
def w_S_push : List Cond := .code y_S_push b_S_push 4 none :: aw
def w_S_append : List Cond := .code y_S_append b_S_append 2 none :: aw
def w_A_give : List Cond := .code y_A_give b_A_give 2 (some .boolean) :: aw
def w_A_isRow : List Cond := .code y_A_isRow b_A_isRow 2 (some .boolean) :: aw
def w_S_size : List Cond := .code y_S_size b_S_size 2 (some .int) :: aw
def w_S_free : List Cond := .code y_S_free b_S_free 2 none :: aw
def w_S_leave : List Cond := .code y_S_leave b_S_leave 2 none :: aw
def w_A_resize : List Cond := .code y_A_resize b_A_resize 4 (some .int) :: aw
def w_S_resize : List Cond := .code y_S_resize b_S_resize 5 none :: aw
def w_A_put : List Cond := .code y_A_put b_A_put 4 (some .boolean) :: aw
def w_A_isByte : List Cond := .code y_A_isByte b_A_isByte 3 (some .boolean) :: aw
def w_S_set : List Cond := .code y_S_set b_S_set 4 none :: aw
def w_A_fill : List Cond := .code y_A_fill b_A_fill 6 (some .boolean) :: aw
def w_S_write : List Cond := .code y_S_write b_S_write 6 none :: aw
def w_A_copy : List Cond := .code y_A_copy b_A_copy 5 (some .int) :: aw
def w_S_get : List Cond := .code y_S_get b_S_get 3 (some .int) :: aw
def w_A_get : List Cond := .code y_A_get b_A_get 3 (some .int) :: aw
def w_A_size : List Cond := .code y_A_size b_A_size 2 (some .int) :: aw
def w_A_compare : List Cond := .code y_A_compare b_A_compare 3 (some .int) :: aw
def w_S_compare : List Cond := .code y_S_compare b_S_compare 5 (some .int) :: aw
def w_H_min : List Cond := .code y_H_min b_H_min 2 (some .int) :: aw
def w_I_signum : List Cond := .code y_I_signum b_I_signum 1 (some .int) :: aw
def w_A_sum : List Cond := .code y_A_sum b_A_sum 4 (some .int) :: aw
def w_A_rows : List Cond := .code y_A_rows b_A_rows 1 (some .int) :: aw
def w_A_places : List Cond := .code y_A_places b_A_places 1 (some .int) :: aw
def w_M_init : List Cond := .code y_M_init b_M_init 1 none :: aw
def w_M_take : List Cond := .code y_M_take b_M_take 3 (some .int) :: aw
def w_M_many : List Cond := .code y_M_many b_M_many 1 (some .int) :: aw
def w_M_placesOf : List Cond := .code y_M_placesOf b_M_placesOf 1 (some .int) :: aw
def w_M_change : List Cond := .code y_M_change b_M_change 7 none :: aw
def w_M_shift : List Cond := .code y_M_shift b_M_shift 4 none :: aw
def w_M_give : List Cond := .code y_M_give b_M_give 2 (some .boolean) :: aw
def w_M_isRow : List Cond := .code y_M_isRow b_M_isRow 2 (some .boolean) :: aw
def w_M_resize : List Cond := .code y_M_resize b_M_resize 3 (some .int) :: aw
def w_M_hasRoom : List Cond := .code y_M_hasRoom b_M_hasRoom 3 (some .boolean) :: aw
def w_M_put : List Cond := .code y_M_put b_M_put 4 (some .boolean) :: aw
def w_M_fill : List Cond := .code y_M_fill b_M_fill 6 (some .boolean) :: aw
def w_M_copy : List Cond := .code y_M_copy b_M_copy 5 (some .int) :: aw
def w_M_get : List Cond := .code y_M_get b_M_get 3 (some .int) :: aw
def w_M_size : List Cond := .code y_M_size b_M_size 2 (some .int) :: aw
def w_M_compare : List Cond := .code y_M_compare b_M_compare 5 (some .int) :: aw
def w_M_sum : List Cond := .code y_M_sum b_M_sum 4 (some .int) :: aw
def w_M_rows : List Cond := .code y_M_rows b_M_rows 1 (some .int) :: aw
def w_M_places : List Cond := .code y_M_places b_M_places 1 (some .int) :: aw
end
section
theorem d_S_init_0 : decode b_S_init 0 = .ok (.aload_n 0, 1) := by decide +kernel
theorem d_S_init_1 : decode b_S_init 1 = .ok (.invokespecial 3, 3) := by decide +kernel
theorem d_S_init_4 : decode b_S_init 4 = .ok (.aload_n 0, 1) := by decide +kernel
theorem d_S_init_5 : decode b_S_init 5 = .ok (.ldc 11, 2) := by decide +kernel
theorem d_S_init_7 : decode b_S_init 7 = .ok (.newarray .byte, 2) := by decide +kernel
theorem d_S_init_9 : decode b_S_init 9 = .ok (.putfield 12, 3) := by decide +kernel
theorem d_S_init_12 : decode b_S_init 12 = .ok (.aload_n 0, 1) := by decide +kernel
theorem d_S_init_13 : decode b_S_init 13 = .ok (.sipush 32000, 3) := by decide +kernel
theorem d_S_init_16 : decode b_S_init 16 = .ok (.newarray .int, 2) := by decide +kernel
theorem d_S_init_18 : decode b_S_init 18 = .ok (.putfield 16, 3) := by decide +kernel
theorem d_S_init_21 : decode b_S_init 21 = .ok (.aload_n 0, 1) := by decide +kernel
theorem d_S_init_22 : decode b_S_init 22 = .ok (.sipush 32000, 3) := by decide +kernel
theorem d_S_init_25 : decode b_S_init 25 = .ok (.newarray .int, 2) := by decide +kernel
theorem d_S_init_27 : decode b_S_init 27 = .ok (.putfield 20, 3) := by decide +kernel
theorem d_S_init_30 : decode b_S_init 30 = .ok (.aload_n 0, 1) := by decide +kernel
theorem d_S_init_31 : decode b_S_init 31 = .ok (.sipush 32000, 3) := by decide +kernel
theorem d_S_init_34 : decode b_S_init 34 = .ok (.newarray .int, 2) := by decide +kernel
theorem d_S_init_36 : decode b_S_init 36 = .ok (.putfield 23, 3) := by decide +kernel
theorem d_S_init_39 : decode b_S_init 39 = .ok (.aload_n 0, 1) := by decide +kernel
theorem d_S_init_40 : decode b_S_init 40 = .ok (.sipush 32000, 3) := by decide +kernel
theorem d_S_init_43 : decode b_S_init 43 = .ok (.newarray .int, 2) := by decide +kernel
theorem d_S_init_45 : decode b_S_init 45 = .ok (.putfield 26, 3) := by decide +kernel
theorem d_S_init_48 : decode b_S_init 48 = .ok (.aload_n 0, 1) := by decide +kernel
theorem d_S_init_49 : decode b_S_init 49 = .ok (.sipush 32000, 3) := by decide +kernel
theorem d_S_init_52 : decode b_S_init 52 = .ok (.newarray .int, 2) := by decide +kernel
theorem d_S_init_54 : decode b_S_init 54 = .ok (.putfield 29, 3) := by decide +kernel
theorem d_S_init_57 : decode b_S_init 57 = .ok (.aload_n 0, 1) := by decide +kernel
theorem d_S_init_58 : decode b_S_init 58 = .ok (.iconst (-1), 1) := by decide +kernel
theorem d_S_init_59 : decode b_S_init 59 = .ok (.putfield 32, 3) := by decide +kernel
theorem d_S_init_62 : decode b_S_init 62 = .ok (.aload_n 0, 1) := by decide +kernel
theorem d_S_init_63 : decode b_S_init 63 = .ok (.iconst (-1), 1) := by decide +kernel
theorem d_S_init_64 : decode b_S_init 64 = .ok (.putfield 36, 3) := by decide +kernel
theorem d_S_init_67 : decode b_S_init 67 = .ok (.aload_n 0, 1) := by decide +kernel
theorem d_S_init_68 : decode b_S_init 68 = .ok (.iconst (-1), 1) := by decide +kernel
theorem d_S_init_69 : decode b_S_init 69 = .ok (.putfield 39, 3) := by decide +kernel
theorem d_S_init_72 : decode b_S_init 72 = .ok (.return_, 1) := by decide +kernel
theorem d_S_take_0 : decode b_S_take 0 = .ok (.iload_n 1, 1) := by decide +kernel
theorem d_S_take_1 : decode b_S_take 1 = .ok (.invokestatic 42, 3) := by decide +kernel
theorem d_S_take_4 : decode b_S_take 4 = .ok (.istore_n 2, 1) := by decide +kernel
theorem d_S_take_5 : decode b_S_take 5 = .ok (.aload_n 0, 1) := by decide +kernel
theorem d_S_take_6 : decode b_S_take 6 = .ok (.iload_n 2, 1) := by decide +kernel
theorem d_S_take_7 : decode b_S_take 7 = .ok (.invokevirtual 58, 3) := by decide +kernel
theorem d_S_take_10 : decode b_S_take 10 = .ok (.istore_n 3, 1) := by decide +kernel
theorem d_S_take_11 : decode b_S_take 11 = .ok (.aload_n 0, 1) := by decide +kernel
theorem d_S_take_12 : decode b_S_take 12 = .ok (.getfield 39, 3) := by decide +kernel
theorem d_S_take_15 : decode b_S_take 15 = .ok (.istore 4, 2) := by decide +kernel
theorem d_S_take_17 : decode b_S_take 17 = .ok (.iload 4, 2) := by decide +kernel
theorem d_S_take_19 : decode b_S_take 19 = .ok (.ifCond .lt 17, 3) := by decide +kernel
theorem d_S_take_22 : decode b_S_take 22 = .ok (.aload_n 0, 1) := by decide +kernel
theorem d_S_take_23 : decode b_S_take 23 = .ok (.aload_n 0, 1) := by decide +kernel
theorem d_S_take_24 : decode b_S_take 24 = .ok (.getfield 26, 3) := by decide +kernel
theorem d_S_take_27 : decode b_S_take 27 = .ok (.iload 4, 2) := by decide +kernel
theorem d_S_take_29 : decode b_S_take 29 = .ok (.iaload, 1) := by decide +kernel
theorem d_S_take_30 : decode b_S_take 30 = .ok (.putfield 39, 3) := by decide +kernel
theorem d_S_take_33 : decode b_S_take 33 = .ok (.goto 19, 3) := by decide +kernel
theorem d_S_take_36 : decode b_S_take 36 = .ok (.aload_n 0, 1) := by decide +kernel
theorem d_S_take_37 : decode b_S_take 37 = .ok (.getfield 61, 3) := by decide +kernel
theorem d_S_take_40 : decode b_S_take 40 = .ok (.istore 4, 2) := by decide +kernel
theorem d_S_take_42 : decode b_S_take 42 = .ok (.aload_n 0, 1) := by decide +kernel
theorem d_S_take_43 : decode b_S_take 43 = .ok (.dup, 1) := by decide +kernel
theorem d_S_take_44 : decode b_S_take 44 = .ok (.getfield 61, 3) := by decide +kernel
theorem d_S_take_47 : decode b_S_take 47 = .ok (.iconst 1, 1) := by decide +kernel
theorem d_S_take_48 : decode b_S_take 48 = .ok (.iadd, 1) := by decide +kernel
theorem d_S_take_49 : decode b_S_take 49 = .ok (.putfield 61, 3) := by decide +kernel
theorem d_S_take_52 : decode b_S_take 52 = .ok (.aload_n 0, 1) := by decide +kernel
theorem d_S_take_53 : decode b_S_take 53 = .ok (.getfield 16, 3) := by decide +kernel
theorem d_S_take_56 : decode b_S_take 56 = .ok (.iload 4, 2) := by decide +kernel
theorem d_S_take_58 : decode b_S_take 58 = .ok (.iload_n 3, 1) := by decide +kernel
theorem d_S_take_59 : decode b_S_take 59 = .ok (.iastore, 1) := by decide +kernel
theorem d_S_take_60 : decode b_S_take 60 = .ok (.aload_n 0, 1) := by decide +kernel
theorem d_S_take_61 : decode b_S_take 61 = .ok (.getfield 20, 3) := by decide +kernel
theorem d_S_take_64 : decode b_S_take 64 = .ok (.iload 4, 2) := by decide +kernel
theorem d_S_take_66 : decode b_S_take 66 = .ok (.iload_n 1, 1) := by decide +kernel
theorem d_S_take_67 : decode b_S_take 67 = .ok (.iastore, 1) := by decide +kernel
theorem d_S_take_68 : decode b_S_take 68 = .ok (.aload_n 0, 1) := by decide +kernel
theorem d_S_take_69 : decode b_S_take 69 = .ok (.getfield 23, 3) := by decide +kernel
theorem d_S_take_72 : decode b_S_take 72 = .ok (.iload 4, 2) := by decide +kernel
theorem d_S_take_74 : decode b_S_take 74 = .ok (.iload_n 2, 1) := by decide +kernel
theorem d_S_take_75 : decode b_S_take 75 = .ok (.iastore, 1) := by decide +kernel
theorem d_S_take_76 : decode b_S_take 76 = .ok (.aload_n 0, 1) := by decide +kernel
theorem d_S_take_77 : decode b_S_take 77 = .ok (.iload 4, 2) := by decide +kernel
theorem d_S_take_79 : decode b_S_take 79 = .ok (.invokevirtual 64, 3) := by decide +kernel
theorem d_S_take_82 : decode b_S_take 82 = .ok (.iconst 0, 1) := by decide +kernel
theorem d_S_take_83 : decode b_S_take 83 = .ok (.istore 5, 2) := by decide +kernel
theorem d_S_take_85 : decode b_S_take 85 = .ok (.iload 5, 2) := by decide +kernel
theorem d_S_take_87 : decode b_S_take 87 = .ok (.iload_n 2, 1) := by decide +kernel
theorem d_S_take_88 : decode b_S_take 88 = .ok (.if_icmp .ge 19, 3) := by decide +kernel
theorem d_S_take_91 : decode b_S_take 91 = .ok (.aload_n 0, 1) := by decide +kernel
theorem d_S_take_92 : decode b_S_take 92 = .ok (.getfield 12, 3) := by decide +kernel
theorem d_S_take_95 : decode b_S_take 95 = .ok (.iload_n 3, 1) := by decide +kernel
theorem d_S_take_96 : decode b_S_take 96 = .ok (.iload 5, 2) := by decide +kernel
theorem d_S_take_98 : decode b_S_take 98 = .ok (.iadd, 1) := by decide +kernel
theorem d_S_take_99 : decode b_S_take 99 = .ok (.iconst 0, 1) := by decide +kernel
theorem d_S_take_100 : decode b_S_take 100 = .ok (.bastore, 1) := by decide +kernel
theorem d_S_take_101 : decode b_S_take 101 = .ok (.iinc 5 1, 3) := by decide +kernel
theorem d_S_take_104 : decode b_S_take 104 = .ok (.goto (-19), 3) := by decide +kernel
theorem d_S_take_107 : decode b_S_take 107 = .ok (.iload 4, 2) := by decide +kernel
theorem d_S_take_109 : decode b_S_take 109 = .ok (.ireturn, 1) := by decide +kernel
theorem d_S_rounded_0 : decode b_S_rounded 0 = .ok (.iload_n 0, 1) := by decide +kernel
theorem d_S_rounded_1 : decode b_S_rounded 1 = .ok (.bipush 7, 2) := by decide +kernel
theorem d_S_rounded_3 : decode b_S_rounded 3 = .ok (.iadd, 1) := by decide +kernel
theorem d_S_rounded_4 : decode b_S_rounded 4 = .ok (.bipush (-8), 2) := by decide +kernel
theorem d_S_rounded_6 : decode b_S_rounded 6 = .ok (.iand, 1) := by decide +kernel
theorem d_S_rounded_7 : decode b_S_rounded 7 = .ok (.ireturn, 1) := by decide +kernel
theorem d_S_place_0 : decode b_S_place 0 = .ok (.aload_n 0, 1) := by decide +kernel
theorem d_S_place_1 : decode b_S_place 1 = .ok (.getfield 52, 3) := by decide +kernel
theorem d_S_place_4 : decode b_S_place 4 = .ok (.iload_n 1, 1) := by decide +kernel
theorem d_S_place_5 : decode b_S_place 5 = .ok (.iadd, 1) := by decide +kernel
theorem d_S_place_6 : decode b_S_place 6 = .ok (.ldc 11, 2) := by decide +kernel
theorem d_S_place_8 : decode b_S_place 8 = .ok (.if_icmp .le 7, 3) := by decide +kernel
theorem d_S_place_11 : decode b_S_place 11 = .ok (.aload_n 0, 1) := by decide +kernel
theorem d_S_place_12 : decode b_S_place 12 = .ok (.invokevirtual 55, 3) := by decide +kernel
theorem d_S_place_15 : decode b_S_place 15 = .ok (.aload_n 0, 1) := by decide +kernel
theorem d_S_place_16 : decode b_S_place 16 = .ok (.getfield 52, 3) := by decide +kernel
theorem d_S_place_19 : decode b_S_place 19 = .ok (.istore_n 2, 1) := by decide +kernel
theorem d_S_place_20 : decode b_S_place 20 = .ok (.aload_n 0, 1) := by decide +kernel
theorem d_S_place_21 : decode b_S_place 21 = .ok (.dup, 1) := by decide +kernel
theorem d_S_place_22 : decode b_S_place 22 = .ok (.getfield 52, 3) := by decide +kernel
theorem d_S_place_25 : decode b_S_place 25 = .ok (.iload_n 1, 1) := by decide +kernel
theorem d_S_place_26 : decode b_S_place 26 = .ok (.iadd, 1) := by decide +kernel
theorem d_S_place_27 : decode b_S_place 27 = .ok (.putfield 52, 3) := by decide +kernel
theorem d_S_place_30 : decode b_S_place 30 = .ok (.iload_n 2, 1) := by decide +kernel
theorem d_S_place_31 : decode b_S_place 31 = .ok (.ireturn, 1) := by decide +kernel
theorem d_S_push_0 : decode b_S_push 0 = .ok (.iconst 0, 1) := by decide +kernel
theorem d_S_push_1 : decode b_S_push 1 = .ok (.istore_n 1, 1) := by decide +kernel
theorem d_S_push_2 : decode b_S_push 2 = .ok (.aload_n 0, 1) := by decide +kernel
theorem d_S_push_3 : decode b_S_push 3 = .ok (.getfield 32, 3) := by decide +kernel
theorem d_S_push_6 : decode b_S_push 6 = .ok (.istore_n 2, 1) := by decide +kernel
theorem d_S_push_7 : decode b_S_push 7 = .ok (.iload_n 2, 1) := by decide +kernel
theorem d_S_push_8 : decode b_S_push 8 = .ok (.ifCond .lt 60, 3) := by decide +kernel
theorem d_S_push_11 : decode b_S_push 11 = .ok (.aload_n 0, 1) := by decide +kernel
theorem d_S_push_12 : decode b_S_push 12 = .ok (.getfield 20, 3) := by decide +kernel
theorem d_S_push_15 : decode b_S_push 15 = .ok (.iload_n 2, 1) := by decide +kernel
theorem d_S_push_16 : decode b_S_push 16 = .ok (.iaload, 1) := by decide +kernel
theorem d_S_push_17 : decode b_S_push 17 = .ok (.invokestatic 42, 3) := by decide +kernel
theorem d_S_push_20 : decode b_S_push 20 = .ok (.istore_n 3, 1) := by decide +kernel
theorem d_S_push_21 : decode b_S_push 21 = .ok (.aload_n 0, 1) := by decide +kernel
theorem d_S_push_22 : decode b_S_push 22 = .ok (.getfield 12, 3) := by decide +kernel
theorem d_S_push_25 : decode b_S_push 25 = .ok (.aload_n 0, 1) := by decide +kernel
theorem d_S_push_26 : decode b_S_push 26 = .ok (.getfield 16, 3) := by decide +kernel
theorem d_S_push_29 : decode b_S_push 29 = .ok (.iload_n 2, 1) := by decide +kernel
theorem d_S_push_30 : decode b_S_push 30 = .ok (.iaload, 1) := by decide +kernel
theorem d_S_push_31 : decode b_S_push 31 = .ok (.aload_n 0, 1) := by decide +kernel
theorem d_S_push_32 : decode b_S_push 32 = .ok (.getfield 12, 3) := by decide +kernel
theorem d_S_push_35 : decode b_S_push 35 = .ok (.iload_n 1, 1) := by decide +kernel
theorem d_S_push_36 : decode b_S_push 36 = .ok (.iload_n 3, 1) := by decide +kernel
theorem d_S_push_37 : decode b_S_push 37 = .ok (.invokestatic 46, 3) := by decide +kernel
theorem d_S_push_40 : decode b_S_push 40 = .ok (.aload_n 0, 1) := by decide +kernel
theorem d_S_push_41 : decode b_S_push 41 = .ok (.getfield 16, 3) := by decide +kernel
theorem d_S_push_44 : decode b_S_push 44 = .ok (.iload_n 2, 1) := by decide +kernel
theorem d_S_push_45 : decode b_S_push 45 = .ok (.iload_n 1, 1) := by decide +kernel
theorem d_S_push_46 : decode b_S_push 46 = .ok (.iastore, 1) := by decide +kernel
theorem d_S_push_47 : decode b_S_push 47 = .ok (.aload_n 0, 1) := by decide +kernel
theorem d_S_push_48 : decode b_S_push 48 = .ok (.getfield 23, 3) := by decide +kernel
theorem d_S_push_51 : decode b_S_push 51 = .ok (.iload_n 2, 1) := by decide +kernel
theorem d_S_push_52 : decode b_S_push 52 = .ok (.iload_n 3, 1) := by decide +kernel
theorem d_S_push_53 : decode b_S_push 53 = .ok (.iastore, 1) := by decide +kernel
theorem d_S_push_54 : decode b_S_push 54 = .ok (.iload_n 1, 1) := by decide +kernel
theorem d_S_push_55 : decode b_S_push 55 = .ok (.iload_n 3, 1) := by decide +kernel
theorem d_S_push_56 : decode b_S_push 56 = .ok (.iadd, 1) := by decide +kernel
theorem d_S_push_57 : decode b_S_push 57 = .ok (.istore_n 1, 1) := by decide +kernel
theorem d_S_push_58 : decode b_S_push 58 = .ok (.aload_n 0, 1) := by decide +kernel
theorem d_S_push_59 : decode b_S_push 59 = .ok (.getfield 26, 3) := by decide +kernel
theorem d_S_push_62 : decode b_S_push 62 = .ok (.iload_n 2, 1) := by decide +kernel
theorem d_S_push_63 : decode b_S_push 63 = .ok (.iaload, 1) := by decide +kernel
theorem d_S_push_64 : decode b_S_push 64 = .ok (.istore_n 2, 1) := by decide +kernel
theorem d_S_push_65 : decode b_S_push 65 = .ok (.goto (-58), 3) := by decide +kernel
theorem d_S_push_68 : decode b_S_push 68 = .ok (.aload_n 0, 1) := by decide +kernel
theorem d_S_push_69 : decode b_S_push 69 = .ok (.iload_n 1, 1) := by decide +kernel
theorem d_S_push_70 : decode b_S_push 70 = .ok (.putfield 52, 3) := by decide +kernel
theorem d_S_push_73 : decode b_S_push 73 = .ok (.return_, 1) := by decide +kernel
theorem d_S_append_0 : decode b_S_append 0 = .ok (.aload_n 0, 1) := by decide +kernel
theorem d_S_append_1 : decode b_S_append 1 = .ok (.getfield 29, 3) := by decide +kernel
theorem d_S_append_4 : decode b_S_append 4 = .ok (.iload_n 1, 1) := by decide +kernel
theorem d_S_append_5 : decode b_S_append 5 = .ok (.aload_n 0, 1) := by decide +kernel
theorem d_S_append_6 : decode b_S_append 6 = .ok (.getfield 36, 3) := by decide +kernel
theorem d_S_append_9 : decode b_S_append 9 = .ok (.iastore, 1) := by decide +kernel
theorem d_S_append_10 : decode b_S_append 10 = .ok (.aload_n 0, 1) := by decide +kernel
theorem d_S_append_11 : decode b_S_append 11 = .ok (.getfield 26, 3) := by decide +kernel
theorem d_S_append_14 : decode b_S_append 14 = .ok (.iload_n 1, 1) := by decide +kernel
theorem d_S_append_15 : decode b_S_append 15 = .ok (.iconst (-1), 1) := by decide +kernel
theorem d_S_append_16 : decode b_S_append 16 = .ok (.iastore, 1) := by decide +kernel
theorem d_S_append_17 : decode b_S_append 17 = .ok (.aload_n 0, 1) := by decide +kernel
theorem d_S_append_18 : decode b_S_append 18 = .ok (.getfield 36, 3) := by decide +kernel
theorem d_S_append_21 : decode b_S_append 21 = .ok (.ifCond .lt 16, 3) := by decide +kernel
theorem d_S_append_24 : decode b_S_append 24 = .ok (.aload_n 0, 1) := by decide +kernel
theorem d_S_append_25 : decode b_S_append 25 = .ok (.getfield 26, 3) := by decide +kernel
theorem d_S_append_28 : decode b_S_append 28 = .ok (.aload_n 0, 1) := by decide +kernel
theorem d_S_append_29 : decode b_S_append 29 = .ok (.getfield 36, 3) := by decide +kernel
theorem d_S_append_32 : decode b_S_append 32 = .ok (.iload_n 1, 1) := by decide +kernel
theorem d_S_append_33 : decode b_S_append 33 = .ok (.iastore, 1) := by decide +kernel
theorem d_S_append_34 : decode b_S_append 34 = .ok (.goto 8, 3) := by decide +kernel
theorem d_S_append_37 : decode b_S_append 37 = .ok (.aload_n 0, 1) := by decide +kernel
theorem d_S_append_38 : decode b_S_append 38 = .ok (.iload_n 1, 1) := by decide +kernel
theorem d_S_append_39 : decode b_S_append 39 = .ok (.putfield 32, 3) := by decide +kernel
theorem d_S_append_42 : decode b_S_append 42 = .ok (.aload_n 0, 1) := by decide +kernel
theorem d_S_append_43 : decode b_S_append 43 = .ok (.iload_n 1, 1) := by decide +kernel
theorem d_S_append_44 : decode b_S_append 44 = .ok (.putfield 36, 3) := by decide +kernel
theorem d_S_append_47 : decode b_S_append 47 = .ok (.return_, 1) := by decide +kernel
theorem d_S_size_0 : decode b_S_size 0 = .ok (.aload_n 0, 1) := by decide +kernel
theorem d_S_size_1 : decode b_S_size 1 = .ok (.getfield 20, 3) := by decide +kernel
theorem d_S_size_4 : decode b_S_size 4 = .ok (.iload_n 1, 1) := by decide +kernel
theorem d_S_size_5 : decode b_S_size 5 = .ok (.iaload, 1) := by decide +kernel
theorem d_S_size_6 : decode b_S_size 6 = .ok (.ireturn, 1) := by decide +kernel
theorem d_S_free_0 : decode b_S_free 0 = .ok (.aload_n 0, 1) := by decide +kernel
theorem d_S_free_1 : decode b_S_free 1 = .ok (.iload_n 1, 1) := by decide +kernel
theorem d_S_free_2 : decode b_S_free 2 = .ok (.invokevirtual 71, 3) := by decide +kernel
theorem d_S_free_5 : decode b_S_free 5 = .ok (.aload_n 0, 1) := by decide +kernel
theorem d_S_free_6 : decode b_S_free 6 = .ok (.getfield 26, 3) := by decide +kernel
theorem d_S_free_9 : decode b_S_free 9 = .ok (.iload_n 1, 1) := by decide +kernel
theorem d_S_free_10 : decode b_S_free 10 = .ok (.aload_n 0, 1) := by decide +kernel
theorem d_S_free_11 : decode b_S_free 11 = .ok (.getfield 39, 3) := by decide +kernel
theorem d_S_free_14 : decode b_S_free 14 = .ok (.iastore, 1) := by decide +kernel
theorem d_S_free_15 : decode b_S_free 15 = .ok (.aload_n 0, 1) := by decide +kernel
theorem d_S_free_16 : decode b_S_free 16 = .ok (.iload_n 1, 1) := by decide +kernel
theorem d_S_free_17 : decode b_S_free 17 = .ok (.putfield 39, 3) := by decide +kernel
theorem d_S_free_20 : decode b_S_free 20 = .ok (.return_, 1) := by decide +kernel
theorem d_S_leave_0 : decode b_S_leave 0 = .ok (.aload_n 0, 1) := by decide +kernel
theorem d_S_leave_1 : decode b_S_leave 1 = .ok (.getfield 29, 3) := by decide +kernel
theorem d_S_leave_4 : decode b_S_leave 4 = .ok (.iload_n 1, 1) := by decide +kernel
theorem d_S_leave_5 : decode b_S_leave 5 = .ok (.iaload, 1) := by decide +kernel
theorem d_S_leave_6 : decode b_S_leave 6 = .ok (.ifCond .lt 23, 3) := by decide +kernel
theorem d_S_leave_9 : decode b_S_leave 9 = .ok (.aload_n 0, 1) := by decide +kernel
theorem d_S_leave_10 : decode b_S_leave 10 = .ok (.getfield 26, 3) := by decide +kernel
theorem d_S_leave_13 : decode b_S_leave 13 = .ok (.aload_n 0, 1) := by decide +kernel
theorem d_S_leave_14 : decode b_S_leave 14 = .ok (.getfield 29, 3) := by decide +kernel
theorem d_S_leave_17 : decode b_S_leave 17 = .ok (.iload_n 1, 1) := by decide +kernel
theorem d_S_leave_18 : decode b_S_leave 18 = .ok (.iaload, 1) := by decide +kernel
theorem d_S_leave_19 : decode b_S_leave 19 = .ok (.aload_n 0, 1) := by decide +kernel
theorem d_S_leave_20 : decode b_S_leave 20 = .ok (.getfield 26, 3) := by decide +kernel
theorem d_S_leave_23 : decode b_S_leave 23 = .ok (.iload_n 1, 1) := by decide +kernel
theorem d_S_leave_24 : decode b_S_leave 24 = .ok (.iaload, 1) := by decide +kernel
theorem d_S_leave_25 : decode b_S_leave 25 = .ok (.iastore, 1) := by decide +kernel
theorem d_S_leave_26 : decode b_S_leave 26 = .ok (.goto 13, 3) := by decide +kernel
theorem d_S_leave_29 : decode b_S_leave 29 = .ok (.aload_n 0, 1) := by decide +kernel
theorem d_S_leave_30 : decode b_S_leave 30 = .ok (.aload_n 0, 1) := by decide +kernel
theorem d_S_leave_31 : decode b_S_leave 31 = .ok (.getfield 26, 3) := by decide +kernel
theorem d_S_leave_34 : decode b_S_leave 34 = .ok (.iload_n 1, 1) := by decide +kernel
theorem d_S_leave_35 : decode b_S_leave 35 = .ok (.iaload, 1) := by decide +kernel
theorem d_S_leave_36 : decode b_S_leave 36 = .ok (.putfield 32, 3) := by decide +kernel
theorem d_S_leave_39 : decode b_S_leave 39 = .ok (.aload_n 0, 1) := by decide +kernel
theorem d_S_leave_40 : decode b_S_leave 40 = .ok (.getfield 26, 3) := by decide +kernel
theorem d_S_leave_43 : decode b_S_leave 43 = .ok (.iload_n 1, 1) := by decide +kernel
theorem d_S_leave_44 : decode b_S_leave 44 = .ok (.iaload, 1) := by decide +kernel
theorem d_S_leave_45 : decode b_S_leave 45 = .ok (.ifCond .lt 23, 3) := by decide +kernel
theorem d_S_leave_48 : decode b_S_leave 48 = .ok (.aload_n 0, 1) := by decide +kernel
theorem d_S_leave_49 : decode b_S_leave 49 = .ok (.getfield 29, 3) := by decide +kernel
theorem d_S_leave_52 : decode b_S_leave 52 = .ok (.aload_n 0, 1) := by decide +kernel
theorem d_S_leave_53 : decode b_S_leave 53 = .ok (.getfield 26, 3) := by decide +kernel
theorem d_S_leave_56 : decode b_S_leave 56 = .ok (.iload_n 1, 1) := by decide +kernel
theorem d_S_leave_57 : decode b_S_leave 57 = .ok (.iaload, 1) := by decide +kernel
theorem d_S_leave_58 : decode b_S_leave 58 = .ok (.aload_n 0, 1) := by decide +kernel
theorem d_S_leave_59 : decode b_S_leave 59 = .ok (.getfield 29, 3) := by decide +kernel
theorem d_S_leave_62 : decode b_S_leave 62 = .ok (.iload_n 1, 1) := by decide +kernel
theorem d_S_leave_63 : decode b_S_leave 63 = .ok (.iaload, 1) := by decide +kernel
theorem d_S_leave_64 : decode b_S_leave 64 = .ok (.iastore, 1) := by decide +kernel
theorem d_S_leave_65 : decode b_S_leave 65 = .ok (.goto 13, 3) := by decide +kernel
theorem d_S_leave_68 : decode b_S_leave 68 = .ok (.aload_n 0, 1) := by decide +kernel
theorem d_S_leave_69 : decode b_S_leave 69 = .ok (.aload_n 0, 1) := by decide +kernel
theorem d_S_leave_70 : decode b_S_leave 70 = .ok (.getfield 29, 3) := by decide +kernel
theorem d_S_leave_73 : decode b_S_leave 73 = .ok (.iload_n 1, 1) := by decide +kernel
theorem d_S_leave_74 : decode b_S_leave 74 = .ok (.iaload, 1) := by decide +kernel
theorem d_S_leave_75 : decode b_S_leave 75 = .ok (.putfield 36, 3) := by decide +kernel
theorem d_S_leave_78 : decode b_S_leave 78 = .ok (.return_, 1) := by decide +kernel
theorem d_S_resize_0 : decode b_S_resize 0 = .ok (.iload_n 2, 1) := by decide +kernel
theorem d_S_resize_1 : decode b_S_resize 1 = .ok (.aload_n 0, 1) := by decide +kernel
theorem d_S_resize_2 : decode b_S_resize 2 = .ok (.getfield 23, 3) := by decide +kernel
theorem d_S_resize_5 : decode b_S_resize 5 = .ok (.iload_n 1, 1) := by decide +kernel
theorem d_S_resize_6 : decode b_S_resize 6 = .ok (.iaload, 1) := by decide +kernel
theorem d_S_resize_7 : decode b_S_resize 7 = .ok (.if_icmp .le 65, 3) := by decide +kernel
theorem d_S_resize_10 : decode b_S_resize 10 = .ok (.iload_n 2, 1) := by decide +kernel
theorem d_S_resize_11 : decode b_S_resize 11 = .ok (.invokestatic 42, 3) := by decide +kernel
theorem d_S_resize_14 : decode b_S_resize 14 = .ok (.istore_n 3, 1) := by decide +kernel
theorem d_S_resize_15 : decode b_S_resize 15 = .ok (.aload_n 0, 1) := by decide +kernel
theorem d_S_resize_16 : decode b_S_resize 16 = .ok (.iload_n 3, 1) := by decide +kernel
theorem d_S_resize_17 : decode b_S_resize 17 = .ok (.invokevirtual 58, 3) := by decide +kernel
theorem d_S_resize_20 : decode b_S_resize 20 = .ok (.istore 4, 2) := by decide +kernel
theorem d_S_resize_22 : decode b_S_resize 22 = .ok (.aload_n 0, 1) := by decide +kernel
theorem d_S_resize_23 : decode b_S_resize 23 = .ok (.getfield 12, 3) := by decide +kernel
theorem d_S_resize_26 : decode b_S_resize 26 = .ok (.aload_n 0, 1) := by decide +kernel
theorem d_S_resize_27 : decode b_S_resize 27 = .ok (.getfield 16, 3) := by decide +kernel
theorem d_S_resize_30 : decode b_S_resize 30 = .ok (.iload_n 1, 1) := by decide +kernel
theorem d_S_resize_31 : decode b_S_resize 31 = .ok (.iaload, 1) := by decide +kernel
theorem d_S_resize_32 : decode b_S_resize 32 = .ok (.aload_n 0, 1) := by decide +kernel
theorem d_S_resize_33 : decode b_S_resize 33 = .ok (.getfield 12, 3) := by decide +kernel
theorem d_S_resize_36 : decode b_S_resize 36 = .ok (.iload 4, 2) := by decide +kernel
theorem d_S_resize_38 : decode b_S_resize 38 = .ok (.aload_n 0, 1) := by decide +kernel
theorem d_S_resize_39 : decode b_S_resize 39 = .ok (.getfield 20, 3) := by decide +kernel
theorem d_S_resize_42 : decode b_S_resize 42 = .ok (.iload_n 1, 1) := by decide +kernel
theorem d_S_resize_43 : decode b_S_resize 43 = .ok (.iaload, 1) := by decide +kernel
theorem d_S_resize_44 : decode b_S_resize 44 = .ok (.invokestatic 46, 3) := by decide +kernel
theorem d_S_resize_47 : decode b_S_resize 47 = .ok (.aload_n 0, 1) := by decide +kernel
theorem d_S_resize_48 : decode b_S_resize 48 = .ok (.iload_n 1, 1) := by decide +kernel
theorem d_S_resize_49 : decode b_S_resize 49 = .ok (.invokevirtual 71, 3) := by decide +kernel
theorem d_S_resize_52 : decode b_S_resize 52 = .ok (.aload_n 0, 1) := by decide +kernel
theorem d_S_resize_53 : decode b_S_resize 53 = .ok (.iload_n 1, 1) := by decide +kernel
theorem d_S_resize_54 : decode b_S_resize 54 = .ok (.invokevirtual 64, 3) := by decide +kernel
theorem d_S_resize_57 : decode b_S_resize 57 = .ok (.aload_n 0, 1) := by decide +kernel
theorem d_S_resize_58 : decode b_S_resize 58 = .ok (.getfield 16, 3) := by decide +kernel
theorem d_S_resize_61 : decode b_S_resize 61 = .ok (.iload_n 1, 1) := by decide +kernel
theorem d_S_resize_62 : decode b_S_resize 62 = .ok (.iload 4, 2) := by decide +kernel
theorem d_S_resize_64 : decode b_S_resize 64 = .ok (.iastore, 1) := by decide +kernel
theorem d_S_resize_65 : decode b_S_resize 65 = .ok (.aload_n 0, 1) := by decide +kernel
theorem d_S_resize_66 : decode b_S_resize 66 = .ok (.getfield 23, 3) := by decide +kernel
theorem d_S_resize_69 : decode b_S_resize 69 = .ok (.iload_n 1, 1) := by decide +kernel
theorem d_S_resize_70 : decode b_S_resize 70 = .ok (.iload_n 3, 1) := by decide +kernel
theorem d_S_resize_71 : decode b_S_resize 71 = .ok (.iastore, 1) := by decide +kernel
theorem d_S_resize_72 : decode b_S_resize 72 = .ok (.aload_n 0, 1) := by decide +kernel
theorem d_S_resize_73 : decode b_S_resize 73 = .ok (.getfield 20, 3) := by decide +kernel
theorem d_S_resize_76 : decode b_S_resize 76 = .ok (.iload_n 1, 1) := by decide +kernel
theorem d_S_resize_77 : decode b_S_resize 77 = .ok (.iaload, 1) := by decide +kernel
theorem d_S_resize_78 : decode b_S_resize 78 = .ok (.istore_n 3, 1) := by decide +kernel
theorem d_S_resize_79 : decode b_S_resize 79 = .ok (.iload_n 3, 1) := by decide +kernel
theorem d_S_resize_80 : decode b_S_resize 80 = .ok (.iload_n 2, 1) := by decide +kernel
theorem d_S_resize_81 : decode b_S_resize 81 = .ok (.if_icmp .ge 23, 3) := by decide +kernel
theorem d_S_resize_84 : decode b_S_resize 84 = .ok (.aload_n 0, 1) := by decide +kernel
theorem d_S_resize_85 : decode b_S_resize 85 = .ok (.getfield 12, 3) := by decide +kernel
theorem d_S_resize_88 : decode b_S_resize 88 = .ok (.aload_n 0, 1) := by decide +kernel
theorem d_S_resize_89 : decode b_S_resize 89 = .ok (.getfield 16, 3) := by decide +kernel
theorem d_S_resize_92 : decode b_S_resize 92 = .ok (.iload_n 1, 1) := by decide +kernel
theorem d_S_resize_93 : decode b_S_resize 93 = .ok (.iaload, 1) := by decide +kernel
theorem d_S_resize_94 : decode b_S_resize 94 = .ok (.iload_n 3, 1) := by decide +kernel
theorem d_S_resize_95 : decode b_S_resize 95 = .ok (.iadd, 1) := by decide +kernel
theorem d_S_resize_96 : decode b_S_resize 96 = .ok (.iconst 0, 1) := by decide +kernel
theorem d_S_resize_97 : decode b_S_resize 97 = .ok (.bastore, 1) := by decide +kernel
theorem d_S_resize_98 : decode b_S_resize 98 = .ok (.iinc 3 1, 3) := by decide +kernel
theorem d_S_resize_101 : decode b_S_resize 101 = .ok (.goto (-22), 3) := by decide +kernel
theorem d_S_resize_104 : decode b_S_resize 104 = .ok (.aload_n 0, 1) := by decide +kernel
theorem d_S_resize_105 : decode b_S_resize 105 = .ok (.getfield 20, 3) := by decide +kernel
theorem d_S_resize_108 : decode b_S_resize 108 = .ok (.iload_n 1, 1) := by decide +kernel
theorem d_S_resize_109 : decode b_S_resize 109 = .ok (.iload_n 2, 1) := by decide +kernel
theorem d_S_resize_110 : decode b_S_resize 110 = .ok (.iastore, 1) := by decide +kernel
theorem d_S_resize_111 : decode b_S_resize 111 = .ok (.return_, 1) := by decide +kernel
theorem d_S_set_0 : decode b_S_set 0 = .ok (.aload_n 0, 1) := by decide +kernel
theorem d_S_set_1 : decode b_S_set 1 = .ok (.getfield 12, 3) := by decide +kernel
theorem d_S_set_4 : decode b_S_set 4 = .ok (.aload_n 0, 1) := by decide +kernel
theorem d_S_set_5 : decode b_S_set 5 = .ok (.getfield 16, 3) := by decide +kernel
theorem d_S_set_8 : decode b_S_set 8 = .ok (.iload_n 1, 1) := by decide +kernel
theorem d_S_set_9 : decode b_S_set 9 = .ok (.iaload, 1) := by decide +kernel
theorem d_S_set_10 : decode b_S_set 10 = .ok (.iload_n 2, 1) := by decide +kernel
theorem d_S_set_11 : decode b_S_set 11 = .ok (.iadd, 1) := by decide +kernel
theorem d_S_set_12 : decode b_S_set 12 = .ok (.iload_n 3, 1) := by decide +kernel
theorem d_S_set_13 : decode b_S_set 13 = .ok (.i2b, 1) := by decide +kernel
theorem d_S_set_14 : decode b_S_set 14 = .ok (.bastore, 1) := by decide +kernel
theorem d_S_set_15 : decode b_S_set 15 = .ok (.return_, 1) := by decide +kernel
theorem d_S_write_0 : decode b_S_write 0 = .ok (.aload_n 3, 1) := by decide +kernel
theorem d_S_write_1 : decode b_S_write 1 = .ok (.iload 4, 2) := by decide +kernel
theorem d_S_write_3 : decode b_S_write 3 = .ok (.aload_n 0, 1) := by decide +kernel
theorem d_S_write_4 : decode b_S_write 4 = .ok (.getfield 12, 3) := by decide +kernel
theorem d_S_write_7 : decode b_S_write 7 = .ok (.aload_n 0, 1) := by decide +kernel
theorem d_S_write_8 : decode b_S_write 8 = .ok (.getfield 16, 3) := by decide +kernel
theorem d_S_write_11 : decode b_S_write 11 = .ok (.iload_n 1, 1) := by decide +kernel
theorem d_S_write_12 : decode b_S_write 12 = .ok (.iaload, 1) := by decide +kernel
theorem d_S_write_13 : decode b_S_write 13 = .ok (.iload_n 2, 1) := by decide +kernel
theorem d_S_write_14 : decode b_S_write 14 = .ok (.iadd, 1) := by decide +kernel
theorem d_S_write_15 : decode b_S_write 15 = .ok (.iload 5, 2) := by decide +kernel
theorem d_S_write_17 : decode b_S_write 17 = .ok (.invokestatic 46, 3) := by decide +kernel
theorem d_S_write_20 : decode b_S_write 20 = .ok (.return_, 1) := by decide +kernel
theorem d_S_get_0 : decode b_S_get 0 = .ok (.aload_n 0, 1) := by decide +kernel
theorem d_S_get_1 : decode b_S_get 1 = .ok (.getfield 12, 3) := by decide +kernel
theorem d_S_get_4 : decode b_S_get 4 = .ok (.aload_n 0, 1) := by decide +kernel
theorem d_S_get_5 : decode b_S_get 5 = .ok (.getfield 16, 3) := by decide +kernel
theorem d_S_get_8 : decode b_S_get 8 = .ok (.iload_n 1, 1) := by decide +kernel
theorem d_S_get_9 : decode b_S_get 9 = .ok (.iaload, 1) := by decide +kernel
theorem d_S_get_10 : decode b_S_get 10 = .ok (.iload_n 2, 1) := by decide +kernel
theorem d_S_get_11 : decode b_S_get 11 = .ok (.iadd, 1) := by decide +kernel
theorem d_S_get_12 : decode b_S_get 12 = .ok (.baload, 1) := by decide +kernel
theorem d_S_get_13 : decode b_S_get 13 = .ok (.sipush 255, 3) := by decide +kernel
theorem d_S_get_16 : decode b_S_get 16 = .ok (.iand, 1) := by decide +kernel
theorem d_S_get_17 : decode b_S_get 17 = .ok (.ireturn, 1) := by decide +kernel
theorem d_S_compare_0 : decode b_S_compare 0 = .ok (.aload_n 0, 1) := by decide +kernel
theorem d_S_compare_1 : decode b_S_compare 1 = .ok (.getfield 20, 3) := by decide +kernel
theorem d_S_compare_4 : decode b_S_compare 4 = .ok (.iload_n 1, 1) := by decide +kernel
theorem d_S_compare_5 : decode b_S_compare 5 = .ok (.iaload, 1) := by decide +kernel
theorem d_S_compare_6 : decode b_S_compare 6 = .ok (.aload_n 0, 1) := by decide +kernel
theorem d_S_compare_7 : decode b_S_compare 7 = .ok (.getfield 20, 3) := by decide +kernel
theorem d_S_compare_10 : decode b_S_compare 10 = .ok (.iload_n 2, 1) := by decide +kernel
theorem d_S_compare_11 : decode b_S_compare 11 = .ok (.iaload, 1) := by decide +kernel
theorem d_S_compare_12 : decode b_S_compare 12 = .ok (.invokestatic 74, 3) := by decide +kernel
theorem d_S_compare_15 : decode b_S_compare 15 = .ok (.istore_n 3, 1) := by decide +kernel
theorem d_S_compare_16 : decode b_S_compare 16 = .ok (.iconst 0, 1) := by decide +kernel
theorem d_S_compare_17 : decode b_S_compare 17 = .ok (.istore 4, 2) := by decide +kernel
theorem d_S_compare_19 : decode b_S_compare 19 = .ok (.iload 4, 2) := by decide +kernel
theorem d_S_compare_21 : decode b_S_compare 21 = .ok (.iload_n 3, 1) := by decide +kernel
theorem d_S_compare_22 : decode b_S_compare 22 = .ok (.if_icmp .ge 42, 3) := by decide +kernel
theorem d_S_compare_25 : decode b_S_compare 25 = .ok (.aload_n 0, 1) := by decide +kernel
theorem d_S_compare_26 : decode b_S_compare 26 = .ok (.iload_n 1, 1) := by decide +kernel
theorem d_S_compare_27 : decode b_S_compare 27 = .ok (.iload 4, 2) := by decide +kernel
theorem d_S_compare_29 : decode b_S_compare 29 = .ok (.invokevirtual 80, 3) := by decide +kernel
theorem d_S_compare_32 : decode b_S_compare 32 = .ok (.aload_n 0, 1) := by decide +kernel
theorem d_S_compare_33 : decode b_S_compare 33 = .ok (.iload_n 2, 1) := by decide +kernel
theorem d_S_compare_34 : decode b_S_compare 34 = .ok (.iload 4, 2) := by decide +kernel
theorem d_S_compare_36 : decode b_S_compare 36 = .ok (.invokevirtual 80, 3) := by decide +kernel
theorem d_S_compare_39 : decode b_S_compare 39 = .ok (.if_icmp .eq 19, 3) := by decide +kernel
theorem d_S_compare_42 : decode b_S_compare 42 = .ok (.aload_n 0, 1) := by decide +kernel
theorem d_S_compare_43 : decode b_S_compare 43 = .ok (.iload_n 1, 1) := by decide +kernel
theorem d_S_compare_44 : decode b_S_compare 44 = .ok (.iload 4, 2) := by decide +kernel
theorem d_S_compare_46 : decode b_S_compare 46 = .ok (.invokevirtual 80, 3) := by decide +kernel
theorem d_S_compare_49 : decode b_S_compare 49 = .ok (.aload_n 0, 1) := by decide +kernel
theorem d_S_compare_50 : decode b_S_compare 50 = .ok (.iload_n 2, 1) := by decide +kernel
theorem d_S_compare_51 : decode b_S_compare 51 = .ok (.iload 4, 2) := by decide +kernel
theorem d_S_compare_53 : decode b_S_compare 53 = .ok (.invokevirtual 80, 3) := by decide +kernel
theorem d_S_compare_56 : decode b_S_compare 56 = .ok (.isub, 1) := by decide +kernel
theorem d_S_compare_57 : decode b_S_compare 57 = .ok (.ireturn, 1) := by decide +kernel
theorem d_S_compare_58 : decode b_S_compare 58 = .ok (.iinc 4 1, 3) := by decide +kernel
theorem d_S_compare_61 : decode b_S_compare 61 = .ok (.goto (-42), 3) := by decide +kernel
theorem d_S_compare_64 : decode b_S_compare 64 = .ok (.aload_n 0, 1) := by decide +kernel
theorem d_S_compare_65 : decode b_S_compare 65 = .ok (.getfield 20, 3) := by decide +kernel
theorem d_S_compare_68 : decode b_S_compare 68 = .ok (.iload_n 1, 1) := by decide +kernel
theorem d_S_compare_69 : decode b_S_compare 69 = .ok (.iaload, 1) := by decide +kernel
theorem d_S_compare_70 : decode b_S_compare 70 = .ok (.aload_n 0, 1) := by decide +kernel
theorem d_S_compare_71 : decode b_S_compare 71 = .ok (.getfield 20, 3) := by decide +kernel
theorem d_S_compare_74 : decode b_S_compare 74 = .ok (.iload_n 2, 1) := by decide +kernel
theorem d_S_compare_75 : decode b_S_compare 75 = .ok (.iaload, 1) := by decide +kernel
theorem d_S_compare_76 : decode b_S_compare 76 = .ok (.isub, 1) := by decide +kernel
theorem d_S_compare_77 : decode b_S_compare 77 = .ok (.ireturn, 1) := by decide +kernel
theorem d_I_signum_0 : decode b_I_signum 0 = .ok (.iload_n 0, 1) := by decide +kernel
theorem d_I_signum_1 : decode b_I_signum 1 = .ok (.bipush 31, 2) := by decide +kernel
theorem d_I_signum_3 : decode b_I_signum 3 = .ok (.ishr, 1) := by decide +kernel
theorem d_I_signum_4 : decode b_I_signum 4 = .ok (.iload_n 0, 1) := by decide +kernel
theorem d_I_signum_5 : decode b_I_signum 5 = .ok (.ineg, 1) := by decide +kernel
theorem d_I_signum_6 : decode b_I_signum 6 = .ok (.bipush 31, 2) := by decide +kernel
theorem d_I_signum_8 : decode b_I_signum 8 = .ok (.iushr, 1) := by decide +kernel
theorem d_I_signum_9 : decode b_I_signum 9 = .ok (.ior, 1) := by decide +kernel
theorem d_I_signum_10 : decode b_I_signum 10 = .ok (.ireturn, 1) := by decide +kernel
end
section
theorem d_A_init_0 : decode b_A_init 0 = .ok (.aload_n 0, 1) := by decide +kernel
theorem d_A_init_1 : decode b_A_init 1 = .ok (.invokespecial 1, 3) := by decide +kernel
theorem d_A_init_4 : decode b_A_init 4 = .ok (.aload_n 0, 1) := by decide +kernel
theorem d_A_init_5 : decode b_A_init 5 = .ok (.new 7, 3) := by decide +kernel
theorem d_A_init_8 : decode b_A_init 8 = .ok (.dup, 1) := by decide +kernel
theorem d_A_init_9 : decode b_A_init 9 = .ok (.invokespecial 9, 3) := by decide +kernel
theorem d_A_init_12 : decode b_A_init 12 = .ok (.putfield 10, 3) := by decide +kernel
theorem d_A_init_15 : decode b_A_init 15 = .ok (.aload_n 0, 1) := by decide +kernel
theorem d_A_init_16 : decode b_A_init 16 = .ok (.sipush 20000, 3) := by decide +kernel
theorem d_A_init_19 : decode b_A_init 19 = .ok (.newarray .boolean, 2) := by decide +kernel
theorem d_A_init_21 : decode b_A_init 21 = .ok (.putfield 16, 3) := by decide +kernel
theorem d_A_init_24 : decode b_A_init 24 = .ok (.aload_n 0, 1) := by decide +kernel
theorem d_A_init_25 : decode b_A_init 25 = .ok (.sipush 16384, 3) := by decide +kernel
theorem d_A_init_28 : decode b_A_init 28 = .ok (.newarray .byte, 2) := by decide +kernel
theorem d_A_init_30 : decode b_A_init 30 = .ok (.putfield 20, 3) := by decide +kernel
theorem d_A_init_33 : decode b_A_init 33 = .ok (.return_, 1) := by decide +kernel
theorem d_A_take_0 : decode b_A_take 0 = .ok (.iload_n 1, 1) := by decide +kernel
theorem d_A_take_1 : decode b_A_take 1 = .ok (.invokestatic 24, 3) := by decide +kernel
theorem d_A_take_4 : decode b_A_take 4 = .ok (.ifCond .ne 5, 3) := by decide +kernel
theorem d_A_take_7 : decode b_A_take 7 = .ok (.iconst (-1), 1) := by decide +kernel
theorem d_A_take_8 : decode b_A_take 8 = .ok (.ireturn, 1) := by decide +kernel
theorem d_A_take_9 : decode b_A_take 9 = .ok (.aload_n 0, 1) := by decide +kernel
theorem d_A_take_10 : decode b_A_take 10 = .ok (.getfield 28, 3) := by decide +kernel
theorem d_A_take_13 : decode b_A_take 13 = .ok (.sipush 20000, 3) := by decide +kernel
theorem d_A_take_16 : decode b_A_take 16 = .ok (.if_icmp .eq 17, 3) := by decide +kernel
theorem d_A_take_19 : decode b_A_take 19 = .ok (.aload_n 0, 1) := by decide +kernel
theorem d_A_take_20 : decode b_A_take 20 = .ok (.getfield 32, 3) := by decide +kernel
theorem d_A_take_23 : decode b_A_take 23 = .ok (.iload_n 1, 1) := by decide +kernel
theorem d_A_take_24 : decode b_A_take 24 = .ok (.invokestatic 35, 3) := by decide +kernel
theorem d_A_take_27 : decode b_A_take 27 = .ok (.iadd, 1) := by decide +kernel
theorem d_A_take_28 : decode b_A_take 28 = .ok (.ldc 39, 2) := by decide +kernel
theorem d_A_take_30 : decode b_A_take 30 = .ok (.if_icmp .le 6, 3) := by decide +kernel
theorem d_A_take_33 : decode b_A_take 33 = .ok (.bipush (-2), 2) := by decide +kernel
theorem d_A_take_35 : decode b_A_take 35 = .ok (.ireturn, 1) := by decide +kernel
theorem d_A_take_36 : decode b_A_take 36 = .ok (.aload_n 0, 1) := by decide +kernel
theorem d_A_take_37 : decode b_A_take 37 = .ok (.getfield 10, 3) := by decide +kernel
theorem d_A_take_40 : decode b_A_take 40 = .ok (.iload_n 1, 1) := by decide +kernel
theorem d_A_take_41 : decode b_A_take 41 = .ok (.invokevirtual 40, 3) := by decide +kernel
theorem d_A_take_44 : decode b_A_take 44 = .ok (.istore_n 2, 1) := by decide +kernel
theorem d_A_take_45 : decode b_A_take 45 = .ok (.aload_n 0, 1) := by decide +kernel
theorem d_A_take_46 : decode b_A_take 46 = .ok (.getfield 16, 3) := by decide +kernel
theorem d_A_take_49 : decode b_A_take 49 = .ok (.iload_n 2, 1) := by decide +kernel
theorem d_A_take_50 : decode b_A_take 50 = .ok (.iconst 1, 1) := by decide +kernel
theorem d_A_take_51 : decode b_A_take 51 = .ok (.bastore, 1) := by decide +kernel
theorem d_A_take_52 : decode b_A_take 52 = .ok (.aload_n 0, 1) := by decide +kernel
theorem d_A_take_53 : decode b_A_take 53 = .ok (.dup, 1) := by decide +kernel
theorem d_A_take_54 : decode b_A_take 54 = .ok (.getfield 28, 3) := by decide +kernel
theorem d_A_take_57 : decode b_A_take 57 = .ok (.iconst 1, 1) := by decide +kernel
theorem d_A_take_58 : decode b_A_take 58 = .ok (.iadd, 1) := by decide +kernel
theorem d_A_take_59 : decode b_A_take 59 = .ok (.putfield 28, 3) := by decide +kernel
theorem d_A_take_62 : decode b_A_take 62 = .ok (.aload_n 0, 1) := by decide +kernel
theorem d_A_take_63 : decode b_A_take 63 = .ok (.dup, 1) := by decide +kernel
theorem d_A_take_64 : decode b_A_take 64 = .ok (.getfield 32, 3) := by decide +kernel
theorem d_A_take_67 : decode b_A_take 67 = .ok (.iload_n 1, 1) := by decide +kernel
theorem d_A_take_68 : decode b_A_take 68 = .ok (.invokestatic 35, 3) := by decide +kernel
theorem d_A_take_71 : decode b_A_take 71 = .ok (.iadd, 1) := by decide +kernel
theorem d_A_take_72 : decode b_A_take 72 = .ok (.putfield 32, 3) := by decide +kernel
theorem d_A_take_75 : decode b_A_take 75 = .ok (.iload_n 2, 1) := by decide +kernel
theorem d_A_take_76 : decode b_A_take 76 = .ok (.ireturn, 1) := by decide +kernel
theorem d_A_isSize_0 : decode b_A_isSize 0 = .ok (.iload_n 0, 1) := by decide +kernel
theorem d_A_isSize_1 : decode b_A_isSize 1 = .ok (.ifCond .lt 14, 3) := by decide +kernel
theorem d_A_isSize_4 : decode b_A_isSize 4 = .ok (.iload_n 0, 1) := by decide +kernel
theorem d_A_isSize_5 : decode b_A_isSize 5 = .ok (.sipush 16384, 3) := by decide +kernel
theorem d_A_isSize_8 : decode b_A_isSize 8 = .ok (.if_icmp .gt 7, 3) := by decide +kernel
theorem d_A_isSize_11 : decode b_A_isSize 11 = .ok (.iconst 1, 1) := by decide +kernel
theorem d_A_isSize_12 : decode b_A_isSize 12 = .ok (.goto 4, 3) := by decide +kernel
theorem d_A_isSize_15 : decode b_A_isSize 15 = .ok (.iconst 0, 1) := by decide +kernel
theorem d_A_isSize_16 : decode b_A_isSize 16 = .ok (.ireturn, 1) := by decide +kernel
theorem d_A_rounded_0 : decode b_A_rounded 0 = .ok (.iload_n 0, 1) := by decide +kernel
theorem d_A_rounded_1 : decode b_A_rounded 1 = .ok (.bipush 7, 2) := by decide +kernel
theorem d_A_rounded_3 : decode b_A_rounded 3 = .ok (.iadd, 1) := by decide +kernel
theorem d_A_rounded_4 : decode b_A_rounded 4 = .ok (.bipush 8, 2) := by decide +kernel
theorem d_A_rounded_6 : decode b_A_rounded 6 = .ok (.idiv, 1) := by decide +kernel
theorem d_A_rounded_7 : decode b_A_rounded 7 = .ok (.bipush 8, 2) := by decide +kernel
theorem d_A_rounded_9 : decode b_A_rounded 9 = .ok (.imul, 1) := by decide +kernel
theorem d_A_rounded_10 : decode b_A_rounded 10 = .ok (.ireturn, 1) := by decide +kernel
theorem d_A_give_0 : decode b_A_give 0 = .ok (.aload_n 0, 1) := by decide +kernel
theorem d_A_give_1 : decode b_A_give 1 = .ok (.iload_n 1, 1) := by decide +kernel
theorem d_A_give_2 : decode b_A_give 2 = .ok (.invokevirtual 43, 3) := by decide +kernel
theorem d_A_give_5 : decode b_A_give 5 = .ok (.ifCond .ne 5, 3) := by decide +kernel
theorem d_A_give_8 : decode b_A_give 8 = .ok (.iconst 0, 1) := by decide +kernel
theorem d_A_give_9 : decode b_A_give 9 = .ok (.ireturn, 1) := by decide +kernel
theorem d_A_give_10 : decode b_A_give 10 = .ok (.aload_n 0, 1) := by decide +kernel
theorem d_A_give_11 : decode b_A_give 11 = .ok (.dup, 1) := by decide +kernel
theorem d_A_give_12 : decode b_A_give 12 = .ok (.getfield 32, 3) := by decide +kernel
theorem d_A_give_15 : decode b_A_give 15 = .ok (.aload_n 0, 1) := by decide +kernel
theorem d_A_give_16 : decode b_A_give 16 = .ok (.getfield 10, 3) := by decide +kernel
theorem d_A_give_19 : decode b_A_give 19 = .ok (.iload_n 1, 1) := by decide +kernel
theorem d_A_give_20 : decode b_A_give 20 = .ok (.invokevirtual 46, 3) := by decide +kernel
theorem d_A_give_23 : decode b_A_give 23 = .ok (.invokestatic 35, 3) := by decide +kernel
theorem d_A_give_26 : decode b_A_give 26 = .ok (.isub, 1) := by decide +kernel
theorem d_A_give_27 : decode b_A_give 27 = .ok (.putfield 32, 3) := by decide +kernel
theorem d_A_give_30 : decode b_A_give 30 = .ok (.aload_n 0, 1) := by decide +kernel
theorem d_A_give_31 : decode b_A_give 31 = .ok (.dup, 1) := by decide +kernel
theorem d_A_give_32 : decode b_A_give 32 = .ok (.getfield 28, 3) := by decide +kernel
theorem d_A_give_35 : decode b_A_give 35 = .ok (.iconst 1, 1) := by decide +kernel
theorem d_A_give_36 : decode b_A_give 36 = .ok (.isub, 1) := by decide +kernel
theorem d_A_give_37 : decode b_A_give 37 = .ok (.putfield 28, 3) := by decide +kernel
theorem d_A_give_40 : decode b_A_give 40 = .ok (.aload_n 0, 1) := by decide +kernel
theorem d_A_give_41 : decode b_A_give 41 = .ok (.getfield 16, 3) := by decide +kernel
theorem d_A_give_44 : decode b_A_give 44 = .ok (.iload_n 1, 1) := by decide +kernel
theorem d_A_give_45 : decode b_A_give 45 = .ok (.iconst 0, 1) := by decide +kernel
theorem d_A_give_46 : decode b_A_give 46 = .ok (.bastore, 1) := by decide +kernel
theorem d_A_give_47 : decode b_A_give 47 = .ok (.aload_n 0, 1) := by decide +kernel
theorem d_A_give_48 : decode b_A_give 48 = .ok (.getfield 10, 3) := by decide +kernel
theorem d_A_give_51 : decode b_A_give 51 = .ok (.iload_n 1, 1) := by decide +kernel
theorem d_A_give_52 : decode b_A_give 52 = .ok (.invokevirtual 49, 3) := by decide +kernel
theorem d_A_give_55 : decode b_A_give 55 = .ok (.iconst 1, 1) := by decide +kernel
theorem d_A_give_56 : decode b_A_give 56 = .ok (.ireturn, 1) := by decide +kernel
theorem d_A_isRow_0 : decode b_A_isRow 0 = .ok (.iload_n 1, 1) := by decide +kernel
theorem d_A_isRow_1 : decode b_A_isRow 1 = .ok (.ifCond .lt 23, 3) := by decide +kernel
theorem d_A_isRow_4 : decode b_A_isRow 4 = .ok (.iload_n 1, 1) := by decide +kernel
theorem d_A_isRow_5 : decode b_A_isRow 5 = .ok (.sipush 20000, 3) := by decide +kernel
theorem d_A_isRow_8 : decode b_A_isRow 8 = .ok (.if_icmp .ge 16, 3) := by decide +kernel
theorem d_A_isRow_11 : decode b_A_isRow 11 = .ok (.aload_n 0, 1) := by decide +kernel
theorem d_A_isRow_12 : decode b_A_isRow 12 = .ok (.getfield 16, 3) := by decide +kernel
theorem d_A_isRow_15 : decode b_A_isRow 15 = .ok (.iload_n 1, 1) := by decide +kernel
theorem d_A_isRow_16 : decode b_A_isRow 16 = .ok (.baload, 1) := by decide +kernel
theorem d_A_isRow_17 : decode b_A_isRow 17 = .ok (.ifCond .eq 7, 3) := by decide +kernel
theorem d_A_isRow_20 : decode b_A_isRow 20 = .ok (.iconst 1, 1) := by decide +kernel
theorem d_A_isRow_21 : decode b_A_isRow 21 = .ok (.goto 4, 3) := by decide +kernel
theorem d_A_isRow_24 : decode b_A_isRow 24 = .ok (.iconst 0, 1) := by decide +kernel
theorem d_A_isRow_25 : decode b_A_isRow 25 = .ok (.ireturn, 1) := by decide +kernel
theorem d_A_resize_0 : decode b_A_resize 0 = .ok (.aload_n 0, 1) := by decide +kernel
theorem d_A_resize_1 : decode b_A_resize 1 = .ok (.iload_n 1, 1) := by decide +kernel
theorem d_A_resize_2 : decode b_A_resize 2 = .ok (.invokevirtual 43, 3) := by decide +kernel
theorem d_A_resize_5 : decode b_A_resize 5 = .ok (.ifCond .eq 10, 3) := by decide +kernel
theorem d_A_resize_8 : decode b_A_resize 8 = .ok (.iload_n 2, 1) := by decide +kernel
theorem d_A_resize_9 : decode b_A_resize 9 = .ok (.invokestatic 24, 3) := by decide +kernel
theorem d_A_resize_12 : decode b_A_resize 12 = .ok (.ifCond .ne 5, 3) := by decide +kernel
theorem d_A_resize_15 : decode b_A_resize 15 = .ok (.iconst (-1), 1) := by decide +kernel
theorem d_A_resize_16 : decode b_A_resize 16 = .ok (.ireturn, 1) := by decide +kernel
theorem d_A_resize_17 : decode b_A_resize 17 = .ok (.aload_n 0, 1) := by decide +kernel
theorem d_A_resize_18 : decode b_A_resize 18 = .ok (.getfield 10, 3) := by decide +kernel
theorem d_A_resize_21 : decode b_A_resize 21 = .ok (.iload_n 1, 1) := by decide +kernel
theorem d_A_resize_22 : decode b_A_resize 22 = .ok (.invokevirtual 46, 3) := by decide +kernel
theorem d_A_resize_25 : decode b_A_resize 25 = .ok (.invokestatic 35, 3) := by decide +kernel
theorem d_A_resize_28 : decode b_A_resize 28 = .ok (.istore_n 3, 1) := by decide +kernel
theorem d_A_resize_29 : decode b_A_resize 29 = .ok (.iload_n 2, 1) := by decide +kernel
theorem d_A_resize_30 : decode b_A_resize 30 = .ok (.invokestatic 35, 3) := by decide +kernel
theorem d_A_resize_33 : decode b_A_resize 33 = .ok (.iload_n 3, 1) := by decide +kernel
theorem d_A_resize_34 : decode b_A_resize 34 = .ok (.if_icmp .le 20, 3) := by decide +kernel
theorem d_A_resize_37 : decode b_A_resize 37 = .ok (.aload_n 0, 1) := by decide +kernel
theorem d_A_resize_38 : decode b_A_resize 38 = .ok (.getfield 32, 3) := by decide +kernel
theorem d_A_resize_41 : decode b_A_resize 41 = .ok (.iload_n 2, 1) := by decide +kernel
theorem d_A_resize_42 : decode b_A_resize 42 = .ok (.invokestatic 35, 3) := by decide +kernel
theorem d_A_resize_45 : decode b_A_resize 45 = .ok (.iadd, 1) := by decide +kernel
theorem d_A_resize_46 : decode b_A_resize 46 = .ok (.ldc 39, 2) := by decide +kernel
theorem d_A_resize_48 : decode b_A_resize 48 = .ok (.if_icmp .le 6, 3) := by decide +kernel
theorem d_A_resize_51 : decode b_A_resize 51 = .ok (.bipush (-2), 2) := by decide +kernel
theorem d_A_resize_53 : decode b_A_resize 53 = .ok (.ireturn, 1) := by decide +kernel
theorem d_A_resize_54 : decode b_A_resize 54 = .ok (.aload_n 0, 1) := by decide +kernel
theorem d_A_resize_55 : decode b_A_resize 55 = .ok (.dup, 1) := by decide +kernel
theorem d_A_resize_56 : decode b_A_resize 56 = .ok (.getfield 32, 3) := by decide +kernel
theorem d_A_resize_59 : decode b_A_resize 59 = .ok (.iload_n 2, 1) := by decide +kernel
theorem d_A_resize_60 : decode b_A_resize 60 = .ok (.invokestatic 35, 3) := by decide +kernel
theorem d_A_resize_63 : decode b_A_resize 63 = .ok (.iload_n 3, 1) := by decide +kernel
theorem d_A_resize_64 : decode b_A_resize 64 = .ok (.isub, 1) := by decide +kernel
theorem d_A_resize_65 : decode b_A_resize 65 = .ok (.iadd, 1) := by decide +kernel
theorem d_A_resize_66 : decode b_A_resize 66 = .ok (.putfield 32, 3) := by decide +kernel
theorem d_A_resize_69 : decode b_A_resize 69 = .ok (.aload_n 0, 1) := by decide +kernel
theorem d_A_resize_70 : decode b_A_resize 70 = .ok (.getfield 10, 3) := by decide +kernel
theorem d_A_resize_73 : decode b_A_resize 73 = .ok (.iload_n 1, 1) := by decide +kernel
theorem d_A_resize_74 : decode b_A_resize 74 = .ok (.iload_n 2, 1) := by decide +kernel
theorem d_A_resize_75 : decode b_A_resize 75 = .ok (.invokevirtual 53, 3) := by decide +kernel
theorem d_A_resize_78 : decode b_A_resize 78 = .ok (.iload_n 2, 1) := by decide +kernel
theorem d_A_resize_79 : decode b_A_resize 79 = .ok (.ireturn, 1) := by decide +kernel
theorem d_A_put_0 : decode b_A_put 0 = .ok (.aload_n 0, 1) := by decide +kernel
theorem d_A_put_1 : decode b_A_put 1 = .ok (.iload_n 1, 1) := by decide +kernel
theorem d_A_put_2 : decode b_A_put 2 = .ok (.iload_n 2, 1) := by decide +kernel
theorem d_A_put_3 : decode b_A_put 3 = .ok (.invokevirtual 57, 3) := by decide +kernel
theorem d_A_put_6 : decode b_A_put 6 = .ok (.ifCond .ne 5, 3) := by decide +kernel
theorem d_A_put_9 : decode b_A_put 9 = .ok (.iconst 0, 1) := by decide +kernel
theorem d_A_put_10 : decode b_A_put 10 = .ok (.ireturn, 1) := by decide +kernel
theorem d_A_put_11 : decode b_A_put 11 = .ok (.aload_n 0, 1) := by decide +kernel
theorem d_A_put_12 : decode b_A_put 12 = .ok (.getfield 10, 3) := by decide +kernel
theorem d_A_put_15 : decode b_A_put 15 = .ok (.iload_n 1, 1) := by decide +kernel
theorem d_A_put_16 : decode b_A_put 16 = .ok (.iload_n 2, 1) := by decide +kernel
theorem d_A_put_17 : decode b_A_put 17 = .ok (.iload_n 3, 1) := by decide +kernel
theorem d_A_put_18 : decode b_A_put 18 = .ok (.invokevirtual 61, 3) := by decide +kernel
theorem d_A_put_21 : decode b_A_put 21 = .ok (.iconst 1, 1) := by decide +kernel
theorem d_A_put_22 : decode b_A_put 22 = .ok (.ireturn, 1) := by decide +kernel
theorem d_A_isByte_0 : decode b_A_isByte 0 = .ok (.aload_n 0, 1) := by decide +kernel
theorem d_A_isByte_1 : decode b_A_isByte 1 = .ok (.iload_n 1, 1) := by decide +kernel
theorem d_A_isByte_2 : decode b_A_isByte 2 = .ok (.invokevirtual 43, 3) := by decide +kernel
theorem d_A_isByte_5 : decode b_A_isByte 5 = .ok (.ifCond .eq 23, 3) := by decide +kernel
theorem d_A_isByte_8 : decode b_A_isByte 8 = .ok (.iload_n 2, 1) := by decide +kernel
theorem d_A_isByte_9 : decode b_A_isByte 9 = .ok (.ifCond .lt 19, 3) := by decide +kernel
theorem d_A_isByte_12 : decode b_A_isByte 12 = .ok (.iload_n 2, 1) := by decide +kernel
theorem d_A_isByte_13 : decode b_A_isByte 13 = .ok (.aload_n 0, 1) := by decide +kernel
theorem d_A_isByte_14 : decode b_A_isByte 14 = .ok (.getfield 10, 3) := by decide +kernel
theorem d_A_isByte_17 : decode b_A_isByte 17 = .ok (.iload_n 1, 1) := by decide +kernel
theorem d_A_isByte_18 : decode b_A_isByte 18 = .ok (.invokevirtual 46, 3) := by decide +kernel
theorem d_A_isByte_21 : decode b_A_isByte 21 = .ok (.if_icmp .ge 7, 3) := by decide +kernel
theorem d_A_isByte_24 : decode b_A_isByte 24 = .ok (.iconst 1, 1) := by decide +kernel
theorem d_A_isByte_25 : decode b_A_isByte 25 = .ok (.goto 4, 3) := by decide +kernel
theorem d_A_isByte_28 : decode b_A_isByte 28 = .ok (.iconst 0, 1) := by decide +kernel
theorem d_A_isByte_29 : decode b_A_isByte 29 = .ok (.ireturn, 1) := by decide +kernel
theorem d_A_fill_0 : decode b_A_fill 0 = .ok (.aload_n 0, 1) := by decide +kernel
theorem d_A_fill_1 : decode b_A_fill 1 = .ok (.iload_n 1, 1) := by decide +kernel
theorem d_A_fill_2 : decode b_A_fill 2 = .ok (.invokevirtual 43, 3) := by decide +kernel
theorem d_A_fill_5 : decode b_A_fill 5 = .ok (.ifCond .eq 37, 3) := by decide +kernel
theorem d_A_fill_8 : decode b_A_fill 8 = .ok (.iload_n 2, 1) := by decide +kernel
theorem d_A_fill_9 : decode b_A_fill 9 = .ok (.ifCond .lt 33, 3) := by decide +kernel
theorem d_A_fill_12 : decode b_A_fill 12 = .ok (.iload_n 3, 1) := by decide +kernel
theorem d_A_fill_13 : decode b_A_fill 13 = .ok (.ifCond .lt 29, 3) := by decide +kernel
theorem d_A_fill_16 : decode b_A_fill 16 = .ok (.iload_n 3, 1) := by decide +kernel
theorem d_A_fill_17 : decode b_A_fill 17 = .ok (.aload_n 0, 1) := by decide +kernel
theorem d_A_fill_18 : decode b_A_fill 18 = .ok (.getfield 10, 3) := by decide +kernel
theorem d_A_fill_21 : decode b_A_fill 21 = .ok (.iload_n 1, 1) := by decide +kernel
theorem d_A_fill_22 : decode b_A_fill 22 = .ok (.invokevirtual 46, 3) := by decide +kernel
theorem d_A_fill_25 : decode b_A_fill 25 = .ok (.if_icmp .gt 17, 3) := by decide +kernel
theorem d_A_fill_28 : decode b_A_fill 28 = .ok (.iload_n 2, 1) := by decide +kernel
theorem d_A_fill_29 : decode b_A_fill 29 = .ok (.aload_n 0, 1) := by decide +kernel
theorem d_A_fill_30 : decode b_A_fill 30 = .ok (.getfield 10, 3) := by decide +kernel
theorem d_A_fill_33 : decode b_A_fill 33 = .ok (.iload_n 1, 1) := by decide +kernel
theorem d_A_fill_34 : decode b_A_fill 34 = .ok (.invokevirtual 46, 3) := by decide +kernel
theorem d_A_fill_37 : decode b_A_fill 37 = .ok (.iload_n 3, 1) := by decide +kernel
theorem d_A_fill_38 : decode b_A_fill 38 = .ok (.isub, 1) := by decide +kernel
theorem d_A_fill_39 : decode b_A_fill 39 = .ok (.if_icmp .le 5, 3) := by decide +kernel
theorem d_A_fill_42 : decode b_A_fill 42 = .ok (.iconst 0, 1) := by decide +kernel
theorem d_A_fill_43 : decode b_A_fill 43 = .ok (.ireturn, 1) := by decide +kernel
theorem d_A_fill_44 : decode b_A_fill 44 = .ok (.iconst 0, 1) := by decide +kernel
theorem d_A_fill_45 : decode b_A_fill 45 = .ok (.istore 5, 2) := by decide +kernel
theorem d_A_fill_47 : decode b_A_fill 47 = .ok (.iload 5, 2) := by decide +kernel
theorem d_A_fill_49 : decode b_A_fill 49 = .ok (.iload_n 3, 1) := by decide +kernel
theorem d_A_fill_50 : decode b_A_fill 50 = .ok (.if_icmp .ge 32, 3) := by decide +kernel
theorem d_A_fill_53 : decode b_A_fill 53 = .ok (.aload_n 0, 1) := by decide +kernel
theorem d_A_fill_54 : decode b_A_fill 54 = .ok (.getfield 20, 3) := by decide +kernel
theorem d_A_fill_57 : decode b_A_fill 57 = .ok (.iload 5, 2) := by decide +kernel
theorem d_A_fill_59 : decode b_A_fill 59 = .ok (.iload 4, 2) := by decide +kernel
theorem d_A_fill_61 : decode b_A_fill 61 = .ok (.bipush 7, 2) := by decide +kernel
theorem d_A_fill_63 : decode b_A_fill 63 = .ok (.iload 5, 2) := by decide +kernel
theorem d_A_fill_65 : decode b_A_fill 65 = .ok (.imul, 1) := by decide +kernel
theorem d_A_fill_66 : decode b_A_fill 66 = .ok (.iadd, 1) := by decide +kernel
theorem d_A_fill_67 : decode b_A_fill 67 = .ok (.iload 5, 2) := by decide +kernel
theorem d_A_fill_69 : decode b_A_fill 69 = .ok (.sipush 250, 3) := by decide +kernel
theorem d_A_fill_72 : decode b_A_fill 72 = .ok (.idiv, 1) := by decide +kernel
theorem d_A_fill_73 : decode b_A_fill 73 = .ok (.iadd, 1) := by decide +kernel
theorem d_A_fill_74 : decode b_A_fill 74 = .ok (.i2b, 1) := by decide +kernel
theorem d_A_fill_75 : decode b_A_fill 75 = .ok (.bastore, 1) := by decide +kernel
theorem d_A_fill_76 : decode b_A_fill 76 = .ok (.iinc 5 1, 3) := by decide +kernel
theorem d_A_fill_79 : decode b_A_fill 79 = .ok (.goto (-32), 3) := by decide +kernel
theorem d_A_fill_82 : decode b_A_fill 82 = .ok (.aload_n 0, 1) := by decide +kernel
theorem d_A_fill_83 : decode b_A_fill 83 = .ok (.getfield 10, 3) := by decide +kernel
theorem d_A_fill_86 : decode b_A_fill 86 = .ok (.iload_n 1, 1) := by decide +kernel
theorem d_A_fill_87 : decode b_A_fill 87 = .ok (.iload_n 2, 1) := by decide +kernel
theorem d_A_fill_88 : decode b_A_fill 88 = .ok (.aload_n 0, 1) := by decide +kernel
theorem d_A_fill_89 : decode b_A_fill 89 = .ok (.getfield 20, 3) := by decide +kernel
theorem d_A_fill_92 : decode b_A_fill 92 = .ok (.iconst 0, 1) := by decide +kernel
theorem d_A_fill_93 : decode b_A_fill 93 = .ok (.iload_n 3, 1) := by decide +kernel
theorem d_A_fill_94 : decode b_A_fill 94 = .ok (.invokevirtual 65, 3) := by decide +kernel
theorem d_A_fill_97 : decode b_A_fill 97 = .ok (.iconst 1, 1) := by decide +kernel
theorem d_A_fill_98 : decode b_A_fill 98 = .ok (.ireturn, 1) := by decide +kernel
theorem d_A_copy_0 : decode b_A_copy 0 = .ok (.aload_n 0, 1) := by decide +kernel
theorem d_A_copy_1 : decode b_A_copy 1 = .ok (.iload_n 1, 1) := by decide +kernel
theorem d_A_copy_2 : decode b_A_copy 2 = .ok (.invokevirtual 43, 3) := by decide +kernel
theorem d_A_copy_5 : decode b_A_copy 5 = .ok (.ifCond .eq 11, 3) := by decide +kernel
theorem d_A_copy_8 : decode b_A_copy 8 = .ok (.aload_n 0, 1) := by decide +kernel
theorem d_A_copy_9 : decode b_A_copy 9 = .ok (.iload_n 2, 1) := by decide +kernel
theorem d_A_copy_10 : decode b_A_copy 10 = .ok (.invokevirtual 43, 3) := by decide +kernel
theorem d_A_copy_13 : decode b_A_copy 13 = .ok (.ifCond .ne 5, 3) := by decide +kernel
theorem d_A_copy_16 : decode b_A_copy 16 = .ok (.iconst (-1), 1) := by decide +kernel
theorem d_A_copy_17 : decode b_A_copy 17 = .ok (.ireturn, 1) := by decide +kernel
theorem d_A_copy_18 : decode b_A_copy 18 = .ok (.aload_n 0, 1) := by decide +kernel
theorem d_A_copy_19 : decode b_A_copy 19 = .ok (.getfield 10, 3) := by decide +kernel
theorem d_A_copy_22 : decode b_A_copy 22 = .ok (.iload_n 2, 1) := by decide +kernel
theorem d_A_copy_23 : decode b_A_copy 23 = .ok (.invokevirtual 46, 3) := by decide +kernel
theorem d_A_copy_26 : decode b_A_copy 26 = .ok (.istore_n 3, 1) := by decide +kernel
theorem d_A_copy_27 : decode b_A_copy 27 = .ok (.iconst 0, 1) := by decide +kernel
theorem d_A_copy_28 : decode b_A_copy 28 = .ok (.istore 4, 2) := by decide +kernel
theorem d_A_copy_30 : decode b_A_copy 30 = .ok (.iload 4, 2) := by decide +kernel
theorem d_A_copy_32 : decode b_A_copy 32 = .ok (.iload_n 3, 1) := by decide +kernel
theorem d_A_copy_33 : decode b_A_copy 33 = .ok (.if_icmp .ge 27, 3) := by decide +kernel
theorem d_A_copy_36 : decode b_A_copy 36 = .ok (.aload_n 0, 1) := by decide +kernel
theorem d_A_copy_37 : decode b_A_copy 37 = .ok (.getfield 20, 3) := by decide +kernel
theorem d_A_copy_40 : decode b_A_copy 40 = .ok (.iload 4, 2) := by decide +kernel
theorem d_A_copy_42 : decode b_A_copy 42 = .ok (.aload_n 0, 1) := by decide +kernel
theorem d_A_copy_43 : decode b_A_copy 43 = .ok (.getfield 10, 3) := by decide +kernel
theorem d_A_copy_46 : decode b_A_copy 46 = .ok (.iload_n 2, 1) := by decide +kernel
theorem d_A_copy_47 : decode b_A_copy 47 = .ok (.iload 4, 2) := by decide +kernel
theorem d_A_copy_49 : decode b_A_copy 49 = .ok (.invokevirtual 69, 3) := by decide +kernel
theorem d_A_copy_52 : decode b_A_copy 52 = .ok (.i2b, 1) := by decide +kernel
theorem d_A_copy_53 : decode b_A_copy 53 = .ok (.bastore, 1) := by decide +kernel
theorem d_A_copy_54 : decode b_A_copy 54 = .ok (.iinc 4 1, 3) := by decide +kernel
theorem d_A_copy_57 : decode b_A_copy 57 = .ok (.goto (-27), 3) := by decide +kernel
theorem d_A_copy_60 : decode b_A_copy 60 = .ok (.aload_n 0, 1) := by decide +kernel
theorem d_A_copy_61 : decode b_A_copy 61 = .ok (.iload_n 1, 1) := by decide +kernel
theorem d_A_copy_62 : decode b_A_copy 62 = .ok (.iload_n 3, 1) := by decide +kernel
theorem d_A_copy_63 : decode b_A_copy 63 = .ok (.invokevirtual 73, 3) := by decide +kernel
theorem d_A_copy_66 : decode b_A_copy 66 = .ok (.ifCond .ge 6, 3) := by decide +kernel
theorem d_A_copy_69 : decode b_A_copy 69 = .ok (.bipush (-2), 2) := by decide +kernel
theorem d_A_copy_71 : decode b_A_copy 71 = .ok (.ireturn, 1) := by decide +kernel
theorem d_A_copy_72 : decode b_A_copy 72 = .ok (.aload_n 0, 1) := by decide +kernel
theorem d_A_copy_73 : decode b_A_copy 73 = .ok (.getfield 10, 3) := by decide +kernel
theorem d_A_copy_76 : decode b_A_copy 76 = .ok (.iload_n 1, 1) := by decide +kernel
theorem d_A_copy_77 : decode b_A_copy 77 = .ok (.iconst 0, 1) := by decide +kernel
theorem d_A_copy_78 : decode b_A_copy 78 = .ok (.aload_n 0, 1) := by decide +kernel
theorem d_A_copy_79 : decode b_A_copy 79 = .ok (.getfield 20, 3) := by decide +kernel
theorem d_A_copy_82 : decode b_A_copy 82 = .ok (.iconst 0, 1) := by decide +kernel
theorem d_A_copy_83 : decode b_A_copy 83 = .ok (.iload_n 3, 1) := by decide +kernel
theorem d_A_copy_84 : decode b_A_copy 84 = .ok (.invokevirtual 65, 3) := by decide +kernel
theorem d_A_copy_87 : decode b_A_copy 87 = .ok (.iload_n 3, 1) := by decide +kernel
theorem d_A_copy_88 : decode b_A_copy 88 = .ok (.ireturn, 1) := by decide +kernel
theorem d_A_get_0 : decode b_A_get 0 = .ok (.aload_n 0, 1) := by decide +kernel
theorem d_A_get_1 : decode b_A_get 1 = .ok (.iload_n 1, 1) := by decide +kernel
theorem d_A_get_2 : decode b_A_get 2 = .ok (.iload_n 2, 1) := by decide +kernel
theorem d_A_get_3 : decode b_A_get 3 = .ok (.invokevirtual 57, 3) := by decide +kernel
theorem d_A_get_6 : decode b_A_get 6 = .ok (.ifCond .eq 15, 3) := by decide +kernel
theorem d_A_get_9 : decode b_A_get 9 = .ok (.aload_n 0, 1) := by decide +kernel
theorem d_A_get_10 : decode b_A_get 10 = .ok (.getfield 10, 3) := by decide +kernel
theorem d_A_get_13 : decode b_A_get 13 = .ok (.iload_n 1, 1) := by decide +kernel
theorem d_A_get_14 : decode b_A_get 14 = .ok (.iload_n 2, 1) := by decide +kernel
theorem d_A_get_15 : decode b_A_get 15 = .ok (.invokevirtual 69, 3) := by decide +kernel
theorem d_A_get_18 : decode b_A_get 18 = .ok (.goto 4, 3) := by decide +kernel
theorem d_A_get_21 : decode b_A_get 21 = .ok (.iconst (-1), 1) := by decide +kernel
theorem d_A_get_22 : decode b_A_get 22 = .ok (.ireturn, 1) := by decide +kernel
theorem d_A_size_0 : decode b_A_size 0 = .ok (.aload_n 0, 1) := by decide +kernel
theorem d_A_size_1 : decode b_A_size 1 = .ok (.iload_n 1, 1) := by decide +kernel
theorem d_A_size_2 : decode b_A_size 2 = .ok (.invokevirtual 43, 3) := by decide +kernel
theorem d_A_size_5 : decode b_A_size 5 = .ok (.ifCond .eq 14, 3) := by decide +kernel
theorem d_A_size_8 : decode b_A_size 8 = .ok (.aload_n 0, 1) := by decide +kernel
theorem d_A_size_9 : decode b_A_size 9 = .ok (.getfield 10, 3) := by decide +kernel
theorem d_A_size_12 : decode b_A_size 12 = .ok (.iload_n 1, 1) := by decide +kernel
theorem d_A_size_13 : decode b_A_size 13 = .ok (.invokevirtual 46, 3) := by decide +kernel
theorem d_A_size_16 : decode b_A_size 16 = .ok (.goto 4, 3) := by decide +kernel
theorem d_A_size_19 : decode b_A_size 19 = .ok (.iconst (-1), 1) := by decide +kernel
theorem d_A_size_20 : decode b_A_size 20 = .ok (.ireturn, 1) := by decide +kernel
theorem d_A_compare_0 : decode b_A_compare 0 = .ok (.aload_n 0, 1) := by decide +kernel
theorem d_A_compare_1 : decode b_A_compare 1 = .ok (.iload_n 1, 1) := by decide +kernel
theorem d_A_compare_2 : decode b_A_compare 2 = .ok (.invokevirtual 43, 3) := by decide +kernel
theorem d_A_compare_5 : decode b_A_compare 5 = .ok (.ifCond .eq 26, 3) := by decide +kernel
theorem d_A_compare_8 : decode b_A_compare 8 = .ok (.aload_n 0, 1) := by decide +kernel
theorem d_A_compare_9 : decode b_A_compare 9 = .ok (.iload_n 2, 1) := by decide +kernel
theorem d_A_compare_10 : decode b_A_compare 10 = .ok (.invokevirtual 43, 3) := by decide +kernel
theorem d_A_compare_13 : decode b_A_compare 13 = .ok (.ifCond .eq 18, 3) := by decide +kernel
theorem d_A_compare_16 : decode b_A_compare 16 = .ok (.aload_n 0, 1) := by decide +kernel
theorem d_A_compare_17 : decode b_A_compare 17 = .ok (.getfield 10, 3) := by decide +kernel
theorem d_A_compare_20 : decode b_A_compare 20 = .ok (.iload_n 1, 1) := by decide +kernel
theorem d_A_compare_21 : decode b_A_compare 21 = .ok (.iload_n 2, 1) := by decide +kernel
theorem d_A_compare_22 : decode b_A_compare 22 = .ok (.invokevirtual 75, 3) := by decide +kernel
theorem d_A_compare_25 : decode b_A_compare 25 = .ok (.invokestatic 78, 3) := by decide +kernel
theorem d_A_compare_28 : decode b_A_compare 28 = .ok (.goto 5, 3) := by decide +kernel
theorem d_A_compare_31 : decode b_A_compare 31 = .ok (.bipush (-2), 2) := by decide +kernel
theorem d_A_compare_33 : decode b_A_compare 33 = .ok (.ireturn, 1) := by decide +kernel
theorem d_A_sum_0 : decode b_A_sum 0 = .ok (.aload_n 0, 1) := by decide +kernel
theorem d_A_sum_1 : decode b_A_sum 1 = .ok (.iload_n 1, 1) := by decide +kernel
theorem d_A_sum_2 : decode b_A_sum 2 = .ok (.invokevirtual 43, 3) := by decide +kernel
theorem d_A_sum_5 : decode b_A_sum 5 = .ok (.ifCond .ne 5, 3) := by decide +kernel
theorem d_A_sum_8 : decode b_A_sum 8 = .ok (.iconst 0, 1) := by decide +kernel
theorem d_A_sum_9 : decode b_A_sum 9 = .ok (.ireturn, 1) := by decide +kernel
theorem d_A_sum_10 : decode b_A_sum 10 = .ok (.bipush 7, 2) := by decide +kernel
theorem d_A_sum_12 : decode b_A_sum 12 = .ok (.istore_n 2, 1) := by decide +kernel
theorem d_A_sum_13 : decode b_A_sum 13 = .ok (.iconst 0, 1) := by decide +kernel
theorem d_A_sum_14 : decode b_A_sum 14 = .ok (.istore_n 3, 1) := by decide +kernel
theorem d_A_sum_15 : decode b_A_sum 15 = .ok (.iload_n 3, 1) := by decide +kernel
theorem d_A_sum_16 : decode b_A_sum 16 = .ok (.aload_n 0, 1) := by decide +kernel
theorem d_A_sum_17 : decode b_A_sum 17 = .ok (.getfield 10, 3) := by decide +kernel
theorem d_A_sum_20 : decode b_A_sum 20 = .ok (.iload_n 1, 1) := by decide +kernel
theorem d_A_sum_21 : decode b_A_sum 21 = .ok (.invokevirtual 46, 3) := by decide +kernel
theorem d_A_sum_24 : decode b_A_sum 24 = .ok (.if_icmp .ge 24, 3) := by decide +kernel
theorem d_A_sum_27 : decode b_A_sum 27 = .ok (.bipush 31, 2) := by decide +kernel
theorem d_A_sum_29 : decode b_A_sum 29 = .ok (.iload_n 2, 1) := by decide +kernel
theorem d_A_sum_30 : decode b_A_sum 30 = .ok (.imul, 1) := by decide +kernel
theorem d_A_sum_31 : decode b_A_sum 31 = .ok (.aload_n 0, 1) := by decide +kernel
theorem d_A_sum_32 : decode b_A_sum 32 = .ok (.getfield 10, 3) := by decide +kernel
theorem d_A_sum_35 : decode b_A_sum 35 = .ok (.iload_n 1, 1) := by decide +kernel
theorem d_A_sum_36 : decode b_A_sum 36 = .ok (.iload_n 3, 1) := by decide +kernel
theorem d_A_sum_37 : decode b_A_sum 37 = .ok (.invokevirtual 69, 3) := by decide +kernel
theorem d_A_sum_40 : decode b_A_sum 40 = .ok (.iadd, 1) := by decide +kernel
theorem d_A_sum_41 : decode b_A_sum 41 = .ok (.istore_n 2, 1) := by decide +kernel
theorem d_A_sum_42 : decode b_A_sum 42 = .ok (.iinc 3 1, 3) := by decide +kernel
theorem d_A_sum_45 : decode b_A_sum 45 = .ok (.goto (-30), 3) := by decide +kernel
theorem d_A_sum_48 : decode b_A_sum 48 = .ok (.iload_n 2, 1) := by decide +kernel
theorem d_A_sum_49 : decode b_A_sum 49 = .ok (.ireturn, 1) := by decide +kernel
theorem d_A_rows_0 : decode b_A_rows 0 = .ok (.aload_n 0, 1) := by decide +kernel
theorem d_A_rows_1 : decode b_A_rows 1 = .ok (.getfield 28, 3) := by decide +kernel
theorem d_A_rows_4 : decode b_A_rows 4 = .ok (.ireturn, 1) := by decide +kernel
theorem d_A_places_0 : decode b_A_places 0 = .ok (.aload_n 0, 1) := by decide +kernel
theorem d_A_places_1 : decode b_A_places 1 = .ok (.getfield 32, 3) := by decide +kernel
theorem d_A_places_4 : decode b_A_places 4 = .ok (.ireturn, 1) := by decide +kernel
end
section
theorem d_M_init_0 : decode b_M_init 0 = .ok (.aload_n 0, 1) := by decide +kernel
theorem d_M_init_1 : decode b_M_init 1 = .ok (.invokespecial 1, 3) := by decide +kernel
theorem d_M_init_4 : decode b_M_init 4 = .ok (.aload_n 0, 1) := by decide +kernel
theorem d_M_init_5 : decode b_M_init 5 = .ok (.ldc 7, 2) := by decide +kernel
theorem d_M_init_7 : decode b_M_init 7 = .ok (.newarray .byte, 2) := by decide +kernel
theorem d_M_init_9 : decode b_M_init 9 = .ok (.putfield 8, 3) := by decide +kernel
theorem d_M_init_12 : decode b_M_init 12 = .ok (.aload_n 0, 1) := by decide +kernel
theorem d_M_init_13 : decode b_M_init 13 = .ok (.sipush 20000, 3) := by decide +kernel
theorem d_M_init_16 : decode b_M_init 16 = .ok (.newarray .int, 2) := by decide +kernel
theorem d_M_init_18 : decode b_M_init 18 = .ok (.putfield 14, 3) := by decide +kernel
theorem d_M_init_21 : decode b_M_init 21 = .ok (.aload_n 0, 1) := by decide +kernel
theorem d_M_init_22 : decode b_M_init 22 = .ok (.sipush 20000, 3) := by decide +kernel
theorem d_M_init_25 : decode b_M_init 25 = .ok (.newarray .int, 2) := by decide +kernel
theorem d_M_init_27 : decode b_M_init 27 = .ok (.putfield 18, 3) := by decide +kernel
theorem d_M_init_30 : decode b_M_init 30 = .ok (.aload_n 0, 1) := by decide +kernel
theorem d_M_init_31 : decode b_M_init 31 = .ok (.sipush 20000, 3) := by decide +kernel
theorem d_M_init_34 : decode b_M_init 34 = .ok (.newarray .int, 2) := by decide +kernel
theorem d_M_init_36 : decode b_M_init 36 = .ok (.putfield 21, 3) := by decide +kernel
theorem d_M_init_39 : decode b_M_init 39 = .ok (.return_, 1) := by decide +kernel
theorem d_M_take_0 : decode b_M_take 0 = .ok (.iload_n 1, 1) := by decide +kernel
theorem d_M_take_1 : decode b_M_take 1 = .ok (.ifCond .lt 10, 3) := by decide +kernel
theorem d_M_take_4 : decode b_M_take 4 = .ok (.iload_n 1, 1) := by decide +kernel
theorem d_M_take_5 : decode b_M_take 5 = .ok (.sipush 16384, 3) := by decide +kernel
theorem d_M_take_8 : decode b_M_take 8 = .ok (.if_icmp .le 5, 3) := by decide +kernel
theorem d_M_take_11 : decode b_M_take 11 = .ok (.iconst (-1), 1) := by decide +kernel
theorem d_M_take_12 : decode b_M_take 12 = .ok (.ireturn, 1) := by decide +kernel
theorem d_M_take_13 : decode b_M_take 13 = .ok (.aload_n 0, 1) := by decide +kernel
theorem d_M_take_14 : decode b_M_take 14 = .ok (.invokevirtual 31, 3) := by decide +kernel
theorem d_M_take_17 : decode b_M_take 17 = .ok (.sipush 20000, 3) := by decide +kernel
theorem d_M_take_20 : decode b_M_take 20 = .ok (.if_icmp .eq 17, 3) := by decide +kernel
theorem d_M_take_23 : decode b_M_take 23 = .ok (.aload_n 0, 1) := by decide +kernel
theorem d_M_take_24 : decode b_M_take 24 = .ok (.getfield 35, 3) := by decide +kernel
theorem d_M_take_27 : decode b_M_take 27 = .ok (.iload_n 1, 1) := by decide +kernel
theorem d_M_take_28 : decode b_M_take 28 = .ok (.invokestatic 38, 3) := by decide +kernel
theorem d_M_take_31 : decode b_M_take 31 = .ok (.iadd, 1) := by decide +kernel
theorem d_M_take_32 : decode b_M_take 32 = .ok (.ldc 7, 2) := by decide +kernel
theorem d_M_take_34 : decode b_M_take 34 = .ok (.if_icmp .le 6, 3) := by decide +kernel
theorem d_M_take_37 : decode b_M_take 37 = .ok (.bipush (-2), 2) := by decide +kernel
theorem d_M_take_39 : decode b_M_take 39 = .ok (.ireturn, 1) := by decide +kernel
theorem d_M_take_40 : decode b_M_take 40 = .ok (.aload_n 0, 1) := by decide +kernel
theorem d_M_take_41 : decode b_M_take 41 = .ok (.getfield 24, 3) := by decide +kernel
theorem d_M_take_44 : decode b_M_take 44 = .ok (.istore_n 2, 1) := by decide +kernel
theorem d_M_take_45 : decode b_M_take 45 = .ok (.aload_n 0, 1) := by decide +kernel
theorem d_M_take_46 : decode b_M_take 46 = .ok (.getfield 28, 3) := by decide +kernel
theorem d_M_take_49 : decode b_M_take 49 = .ok (.ifCond .le 26, 3) := by decide +kernel
theorem d_M_take_52 : decode b_M_take 52 = .ok (.aload_n 0, 1) := by decide +kernel
theorem d_M_take_53 : decode b_M_take 53 = .ok (.dup, 1) := by decide +kernel
theorem d_M_take_54 : decode b_M_take 54 = .ok (.getfield 28, 3) := by decide +kernel
theorem d_M_take_57 : decode b_M_take 57 = .ok (.iconst 1, 1) := by decide +kernel
theorem d_M_take_58 : decode b_M_take 58 = .ok (.isub, 1) := by decide +kernel
theorem d_M_take_59 : decode b_M_take 59 = .ok (.putfield 28, 3) := by decide +kernel
theorem d_M_take_62 : decode b_M_take 62 = .ok (.aload_n 0, 1) := by decide +kernel
theorem d_M_take_63 : decode b_M_take 63 = .ok (.getfield 21, 3) := by decide +kernel
theorem d_M_take_66 : decode b_M_take 66 = .ok (.aload_n 0, 1) := by decide +kernel
theorem d_M_take_67 : decode b_M_take 67 = .ok (.getfield 28, 3) := by decide +kernel
theorem d_M_take_70 : decode b_M_take 70 = .ok (.iaload, 1) := by decide +kernel
theorem d_M_take_71 : decode b_M_take 71 = .ok (.istore_n 2, 1) := by decide +kernel
theorem d_M_take_72 : decode b_M_take 72 = .ok (.goto 13, 3) := by decide +kernel
theorem d_M_take_75 : decode b_M_take 75 = .ok (.aload_n 0, 1) := by decide +kernel
theorem d_M_take_76 : decode b_M_take 76 = .ok (.dup, 1) := by decide +kernel
theorem d_M_take_77 : decode b_M_take 77 = .ok (.getfield 24, 3) := by decide +kernel
theorem d_M_take_80 : decode b_M_take 80 = .ok (.iconst 1, 1) := by decide +kernel
theorem d_M_take_81 : decode b_M_take 81 = .ok (.iadd, 1) := by decide +kernel
theorem d_M_take_82 : decode b_M_take 82 = .ok (.putfield 24, 3) := by decide +kernel
theorem d_M_take_85 : decode b_M_take 85 = .ok (.aload_n 0, 1) := by decide +kernel
theorem d_M_take_86 : decode b_M_take 86 = .ok (.getfield 18, 3) := by decide +kernel
theorem d_M_take_89 : decode b_M_take 89 = .ok (.iload_n 2, 1) := by decide +kernel
theorem d_M_take_90 : decode b_M_take 90 = .ok (.iconst 0, 1) := by decide +kernel
theorem d_M_take_91 : decode b_M_take 91 = .ok (.iastore, 1) := by decide +kernel
theorem d_M_take_92 : decode b_M_take 92 = .ok (.aload_n 0, 1) := by decide +kernel
theorem d_M_take_93 : decode b_M_take 93 = .ok (.iload_n 2, 1) := by decide +kernel
theorem d_M_take_94 : decode b_M_take 94 = .ok (.iload_n 1, 1) := by decide +kernel
theorem d_M_take_95 : decode b_M_take 95 = .ok (.invokevirtual 42, 3) := by decide +kernel
theorem d_M_take_98 : decode b_M_take 98 = .ok (.iload_n 2, 1) := by decide +kernel
theorem d_M_take_99 : decode b_M_take 99 = .ok (.ireturn, 1) := by decide +kernel
theorem d_M_many_0 : decode b_M_many 0 = .ok (.aload_n 0, 1) := by decide +kernel
theorem d_M_many_1 : decode b_M_many 1 = .ok (.getfield 24, 3) := by decide +kernel
theorem d_M_many_4 : decode b_M_many 4 = .ok (.aload_n 0, 1) := by decide +kernel
theorem d_M_many_5 : decode b_M_many 5 = .ok (.getfield 28, 3) := by decide +kernel
theorem d_M_many_8 : decode b_M_many 8 = .ok (.isub, 1) := by decide +kernel
theorem d_M_many_9 : decode b_M_many 9 = .ok (.ireturn, 1) := by decide +kernel
theorem d_M_placesOf_0 : decode b_M_placesOf 0 = .ok (.iload_n 0, 1) := by decide +kernel
theorem d_M_placesOf_1 : decode b_M_placesOf 1 = .ok (.bipush 7, 2) := by decide +kernel
theorem d_M_placesOf_3 : decode b_M_placesOf 3 = .ok (.iadd, 1) := by decide +kernel
theorem d_M_placesOf_4 : decode b_M_placesOf 4 = .ok (.bipush 8, 2) := by decide +kernel
theorem d_M_placesOf_6 : decode b_M_placesOf 6 = .ok (.idiv, 1) := by decide +kernel
theorem d_M_placesOf_7 : decode b_M_placesOf 7 = .ok (.bipush 8, 2) := by decide +kernel
theorem d_M_placesOf_9 : decode b_M_placesOf 9 = .ok (.imul, 1) := by decide +kernel
theorem d_M_placesOf_10 : decode b_M_placesOf 10 = .ok (.ireturn, 1) := by decide +kernel
theorem d_M_change_0 : decode b_M_change 0 = .ok (.aload_n 0, 1) := by decide +kernel
theorem d_M_change_1 : decode b_M_change 1 = .ok (.getfield 18, 3) := by decide +kernel
theorem d_M_change_4 : decode b_M_change 4 = .ok (.iload_n 1, 1) := by decide +kernel
theorem d_M_change_5 : decode b_M_change 5 = .ok (.iaload, 1) := by decide +kernel
theorem d_M_change_6 : decode b_M_change 6 = .ok (.istore_n 3, 1) := by decide +kernel
theorem d_M_change_7 : decode b_M_change 7 = .ok (.aload_n 0, 1) := by decide +kernel
theorem d_M_change_8 : decode b_M_change 8 = .ok (.getfield 14, 3) := by decide +kernel
theorem d_M_change_11 : decode b_M_change 11 = .ok (.iload_n 1, 1) := by decide +kernel
theorem d_M_change_12 : decode b_M_change 12 = .ok (.iload_n 3, 1) := by decide +kernel
theorem d_M_change_13 : decode b_M_change 13 = .ok (.ifCond .ne 10, 3) := by decide +kernel
theorem d_M_change_16 : decode b_M_change 16 = .ok (.aload_n 0, 1) := by decide +kernel
theorem d_M_change_17 : decode b_M_change 17 = .ok (.getfield 46, 3) := by decide +kernel
theorem d_M_change_20 : decode b_M_change 20 = .ok (.goto 9, 3) := by decide +kernel
theorem d_M_change_23 : decode b_M_change 23 = .ok (.aload_n 0, 1) := by decide +kernel
theorem d_M_change_24 : decode b_M_change 24 = .ok (.getfield 14, 3) := by decide +kernel
theorem d_M_change_27 : decode b_M_change 27 = .ok (.iload_n 1, 1) := by decide +kernel
theorem d_M_change_28 : decode b_M_change 28 = .ok (.iaload, 1) := by decide +kernel
theorem d_M_change_29 : decode b_M_change 29 = .ok (.iastore, 1) := by decide +kernel
theorem d_M_change_30 : decode b_M_change 30 = .ok (.aload_n 0, 1) := by decide +kernel
theorem d_M_change_31 : decode b_M_change 31 = .ok (.getfield 14, 3) := by decide +kernel
theorem d_M_change_34 : decode b_M_change 34 = .ok (.iload_n 1, 1) := by decide +kernel
theorem d_M_change_35 : decode b_M_change 35 = .ok (.iaload, 1) := by decide +kernel
theorem d_M_change_36 : decode b_M_change 36 = .ok (.iload_n 3, 1) := by decide +kernel
theorem d_M_change_37 : decode b_M_change 37 = .ok (.iadd, 1) := by decide +kernel
theorem d_M_change_38 : decode b_M_change 38 = .ok (.istore 4, 2) := by decide +kernel
theorem d_M_change_40 : decode b_M_change 40 = .ok (.iload_n 2, 1) := by decide +kernel
theorem d_M_change_41 : decode b_M_change 41 = .ok (.iload_n 3, 1) := by decide +kernel
theorem d_M_change_42 : decode b_M_change 42 = .ok (.isub, 1) := by decide +kernel
theorem d_M_change_43 : decode b_M_change 43 = .ok (.istore 5, 2) := by decide +kernel
theorem d_M_change_45 : decode b_M_change 45 = .ok (.iload 4, 2) := by decide +kernel
theorem d_M_change_47 : decode b_M_change 47 = .ok (.istore 6, 2) := by decide +kernel
theorem d_M_change_49 : decode b_M_change 49 = .ok (.iload 6, 2) := by decide +kernel
theorem d_M_change_51 : decode b_M_change 51 = .ok (.aload_n 0, 1) := by decide +kernel
theorem d_M_change_52 : decode b_M_change 52 = .ok (.getfield 46, 3) := by decide +kernel
theorem d_M_change_55 : decode b_M_change 55 = .ok (.if_icmp .ge 31, 3) := by decide +kernel
theorem d_M_change_58 : decode b_M_change 58 = .ok (.iload 5, 2) := by decide +kernel
theorem d_M_change_60 : decode b_M_change 60 = .ok (.ifCond .ge 26, 3) := by decide +kernel
theorem d_M_change_63 : decode b_M_change 63 = .ok (.aload_n 0, 1) := by decide +kernel
theorem d_M_change_64 : decode b_M_change 64 = .ok (.getfield 8, 3) := by decide +kernel
theorem d_M_change_67 : decode b_M_change 67 = .ok (.iload 6, 2) := by decide +kernel
theorem d_M_change_69 : decode b_M_change 69 = .ok (.iload 5, 2) := by decide +kernel
theorem d_M_change_71 : decode b_M_change 71 = .ok (.iadd, 1) := by decide +kernel
theorem d_M_change_72 : decode b_M_change 72 = .ok (.aload_n 0, 1) := by decide +kernel
theorem d_M_change_73 : decode b_M_change 73 = .ok (.getfield 8, 3) := by decide +kernel
theorem d_M_change_76 : decode b_M_change 76 = .ok (.iload 6, 2) := by decide +kernel
theorem d_M_change_78 : decode b_M_change 78 = .ok (.baload, 1) := by decide +kernel
theorem d_M_change_79 : decode b_M_change 79 = .ok (.bastore, 1) := by decide +kernel
theorem d_M_change_80 : decode b_M_change 80 = .ok (.iinc 6 1, 3) := by decide +kernel
theorem d_M_change_83 : decode b_M_change 83 = .ok (.goto (-34), 3) := by decide +kernel
theorem d_M_change_86 : decode b_M_change 86 = .ok (.aload_n 0, 1) := by decide +kernel
theorem d_M_change_87 : decode b_M_change 87 = .ok (.getfield 46, 3) := by decide +kernel
theorem d_M_change_90 : decode b_M_change 90 = .ok (.iconst 1, 1) := by decide +kernel
theorem d_M_change_91 : decode b_M_change 91 = .ok (.isub, 1) := by decide +kernel
theorem d_M_change_92 : decode b_M_change 92 = .ok (.istore 6, 2) := by decide +kernel
theorem d_M_change_94 : decode b_M_change 94 = .ok (.iload 6, 2) := by decide +kernel
theorem d_M_change_96 : decode b_M_change 96 = .ok (.iload 4, 2) := by decide +kernel
theorem d_M_change_98 : decode b_M_change 98 = .ok (.if_icmp .lt 31, 3) := by decide +kernel
theorem d_M_change_101 : decode b_M_change 101 = .ok (.iload 5, 2) := by decide +kernel
theorem d_M_change_103 : decode b_M_change 103 = .ok (.ifCond .le 26, 3) := by decide +kernel
theorem d_M_change_106 : decode b_M_change 106 = .ok (.aload_n 0, 1) := by decide +kernel
theorem d_M_change_107 : decode b_M_change 107 = .ok (.getfield 8, 3) := by decide +kernel
theorem d_M_change_110 : decode b_M_change 110 = .ok (.iload 6, 2) := by decide +kernel
theorem d_M_change_112 : decode b_M_change 112 = .ok (.iload 5, 2) := by decide +kernel
theorem d_M_change_114 : decode b_M_change 114 = .ok (.iadd, 1) := by decide +kernel
theorem d_M_change_115 : decode b_M_change 115 = .ok (.aload_n 0, 1) := by decide +kernel
theorem d_M_change_116 : decode b_M_change 116 = .ok (.getfield 8, 3) := by decide +kernel
theorem d_M_change_119 : decode b_M_change 119 = .ok (.iload 6, 2) := by decide +kernel
theorem d_M_change_121 : decode b_M_change 121 = .ok (.baload, 1) := by decide +kernel
theorem d_M_change_122 : decode b_M_change 122 = .ok (.bastore, 1) := by decide +kernel
theorem d_M_change_123 : decode b_M_change 123 = .ok (.iinc 6 (-1), 3) := by decide +kernel
theorem d_M_change_126 : decode b_M_change 126 = .ok (.goto (-32), 3) := by decide +kernel
theorem d_M_change_129 : decode b_M_change 129 = .ok (.iload 4, 2) := by decide +kernel
theorem d_M_change_131 : decode b_M_change 131 = .ok (.istore 6, 2) := by decide +kernel
theorem d_M_change_133 : decode b_M_change 133 = .ok (.iload 6, 2) := by decide +kernel
theorem d_M_change_135 : decode b_M_change 135 = .ok (.iload 4, 2) := by decide +kernel
theorem d_M_change_137 : decode b_M_change 137 = .ok (.iload 5, 2) := by decide +kernel
theorem d_M_change_139 : decode b_M_change 139 = .ok (.iadd, 1) := by decide +kernel
theorem d_M_change_140 : decode b_M_change 140 = .ok (.if_icmp .ge 17, 3) := by decide +kernel
theorem d_M_change_143 : decode b_M_change 143 = .ok (.aload_n 0, 1) := by decide +kernel
theorem d_M_change_144 : decode b_M_change 144 = .ok (.getfield 8, 3) := by decide +kernel
theorem d_M_change_147 : decode b_M_change 147 = .ok (.iload 6, 2) := by decide +kernel
theorem d_M_change_149 : decode b_M_change 149 = .ok (.iconst 0, 1) := by decide +kernel
theorem d_M_change_150 : decode b_M_change 150 = .ok (.bastore, 1) := by decide +kernel
theorem d_M_change_151 : decode b_M_change 151 = .ok (.iinc 6 1, 3) := by decide +kernel
theorem d_M_change_154 : decode b_M_change 154 = .ok (.goto (-21), 3) := by decide +kernel
theorem d_M_change_157 : decode b_M_change 157 = .ok (.aload_n 0, 1) := by decide +kernel
theorem d_M_change_158 : decode b_M_change 158 = .ok (.aload_n 0, 1) := by decide +kernel
theorem d_M_change_159 : decode b_M_change 159 = .ok (.getfield 14, 3) := by decide +kernel
theorem d_M_change_162 : decode b_M_change 162 = .ok (.iload_n 1, 1) := by decide +kernel
theorem d_M_change_163 : decode b_M_change 163 = .ok (.iaload, 1) := by decide +kernel
theorem d_M_change_164 : decode b_M_change 164 = .ok (.iload 5, 2) := by decide +kernel
theorem d_M_change_166 : decode b_M_change 166 = .ok (.invokevirtual 49, 3) := by decide +kernel
theorem d_M_change_169 : decode b_M_change 169 = .ok (.aload_n 0, 1) := by decide +kernel
theorem d_M_change_170 : decode b_M_change 170 = .ok (.dup, 1) := by decide +kernel
theorem d_M_change_171 : decode b_M_change 171 = .ok (.getfield 46, 3) := by decide +kernel
theorem d_M_change_174 : decode b_M_change 174 = .ok (.iload 5, 2) := by decide +kernel
theorem d_M_change_176 : decode b_M_change 176 = .ok (.iadd, 1) := by decide +kernel
theorem d_M_change_177 : decode b_M_change 177 = .ok (.putfield 46, 3) := by decide +kernel
theorem d_M_change_180 : decode b_M_change 180 = .ok (.aload_n 0, 1) := by decide +kernel
theorem d_M_change_181 : decode b_M_change 181 = .ok (.dup, 1) := by decide +kernel
theorem d_M_change_182 : decode b_M_change 182 = .ok (.getfield 35, 3) := by decide +kernel
theorem d_M_change_185 : decode b_M_change 185 = .ok (.iload_n 2, 1) := by decide +kernel
theorem d_M_change_186 : decode b_M_change 186 = .ok (.invokestatic 38, 3) := by decide +kernel
theorem d_M_change_189 : decode b_M_change 189 = .ok (.iload_n 3, 1) := by decide +kernel
theorem d_M_change_190 : decode b_M_change 190 = .ok (.invokestatic 38, 3) := by decide +kernel
theorem d_M_change_193 : decode b_M_change 193 = .ok (.isub, 1) := by decide +kernel
theorem d_M_change_194 : decode b_M_change 194 = .ok (.iadd, 1) := by decide +kernel
theorem d_M_change_195 : decode b_M_change 195 = .ok (.putfield 35, 3) := by decide +kernel
theorem d_M_change_198 : decode b_M_change 198 = .ok (.aload_n 0, 1) := by decide +kernel
theorem d_M_change_199 : decode b_M_change 199 = .ok (.getfield 18, 3) := by decide +kernel
theorem d_M_change_202 : decode b_M_change 202 = .ok (.iload_n 1, 1) := by decide +kernel
theorem d_M_change_203 : decode b_M_change 203 = .ok (.iload_n 2, 1) := by decide +kernel
theorem d_M_change_204 : decode b_M_change 204 = .ok (.iastore, 1) := by decide +kernel
theorem d_M_change_205 : decode b_M_change 205 = .ok (.return_, 1) := by decide +kernel
theorem d_M_shift_0 : decode b_M_shift 0 = .ok (.iconst 0, 1) := by decide +kernel
theorem d_M_shift_1 : decode b_M_shift 1 = .ok (.istore_n 3, 1) := by decide +kernel
theorem d_M_shift_2 : decode b_M_shift 2 = .ok (.iload_n 3, 1) := by decide +kernel
theorem d_M_shift_3 : decode b_M_shift 3 = .ok (.aload_n 0, 1) := by decide +kernel
theorem d_M_shift_4 : decode b_M_shift 4 = .ok (.getfield 24, 3) := by decide +kernel
theorem d_M_shift_7 : decode b_M_shift 7 = .ok (.if_icmp .ge 42, 3) := by decide +kernel
theorem d_M_shift_10 : decode b_M_shift 10 = .ok (.aload_n 0, 1) := by decide +kernel
theorem d_M_shift_11 : decode b_M_shift 11 = .ok (.getfield 14, 3) := by decide +kernel
theorem d_M_shift_14 : decode b_M_shift 14 = .ok (.iload_n 3, 1) := by decide +kernel
theorem d_M_shift_15 : decode b_M_shift 15 = .ok (.dup2, 1) := by decide +kernel
theorem d_M_shift_16 : decode b_M_shift 16 = .ok (.iaload, 1) := by decide +kernel
theorem d_M_shift_17 : decode b_M_shift 17 = .ok (.aload_n 0, 1) := by decide +kernel
theorem d_M_shift_18 : decode b_M_shift 18 = .ok (.getfield 18, 3) := by decide +kernel
theorem d_M_shift_21 : decode b_M_shift 21 = .ok (.iload_n 3, 1) := by decide +kernel
theorem d_M_shift_22 : decode b_M_shift 22 = .ok (.iaload, 1) := by decide +kernel
theorem d_M_shift_23 : decode b_M_shift 23 = .ok (.ifCond .le 17, 3) := by decide +kernel
theorem d_M_shift_26 : decode b_M_shift 26 = .ok (.aload_n 0, 1) := by decide +kernel
theorem d_M_shift_27 : decode b_M_shift 27 = .ok (.getfield 14, 3) := by decide +kernel
theorem d_M_shift_30 : decode b_M_shift 30 = .ok (.iload_n 3, 1) := by decide +kernel
theorem d_M_shift_31 : decode b_M_shift 31 = .ok (.iaload, 1) := by decide +kernel
theorem d_M_shift_32 : decode b_M_shift 32 = .ok (.iload_n 1, 1) := by decide +kernel
theorem d_M_shift_33 : decode b_M_shift 33 = .ok (.if_icmp .le 7, 3) := by decide +kernel
theorem d_M_shift_36 : decode b_M_shift 36 = .ok (.iload_n 2, 1) := by decide +kernel
theorem d_M_shift_37 : decode b_M_shift 37 = .ok (.goto 4, 3) := by decide +kernel
theorem d_M_shift_40 : decode b_M_shift 40 = .ok (.iconst 0, 1) := by decide +kernel
theorem d_M_shift_41 : decode b_M_shift 41 = .ok (.iadd, 1) := by decide +kernel
theorem d_M_shift_42 : decode b_M_shift 42 = .ok (.iastore, 1) := by decide +kernel
theorem d_M_shift_43 : decode b_M_shift 43 = .ok (.iinc 3 1, 3) := by decide +kernel
theorem d_M_shift_46 : decode b_M_shift 46 = .ok (.goto (-44), 3) := by decide +kernel
theorem d_M_shift_49 : decode b_M_shift 49 = .ok (.return_, 1) := by decide +kernel
theorem d_M_give_0 : decode b_M_give 0 = .ok (.aload_n 0, 1) := by decide +kernel
theorem d_M_give_1 : decode b_M_give 1 = .ok (.iload_n 1, 1) := by decide +kernel
theorem d_M_give_2 : decode b_M_give 2 = .ok (.invokevirtual 52, 3) := by decide +kernel
theorem d_M_give_5 : decode b_M_give 5 = .ok (.ifCond .ne 5, 3) := by decide +kernel
theorem d_M_give_8 : decode b_M_give 8 = .ok (.iconst 0, 1) := by decide +kernel
theorem d_M_give_9 : decode b_M_give 9 = .ok (.ireturn, 1) := by decide +kernel
theorem d_M_give_10 : decode b_M_give 10 = .ok (.aload_n 0, 1) := by decide +kernel
theorem d_M_give_11 : decode b_M_give 11 = .ok (.iload_n 1, 1) := by decide +kernel
theorem d_M_give_12 : decode b_M_give 12 = .ok (.iconst 0, 1) := by decide +kernel
theorem d_M_give_13 : decode b_M_give 13 = .ok (.invokevirtual 42, 3) := by decide +kernel
theorem d_M_give_16 : decode b_M_give 16 = .ok (.aload_n 0, 1) := by decide +kernel
theorem d_M_give_17 : decode b_M_give 17 = .ok (.getfield 18, 3) := by decide +kernel
theorem d_M_give_20 : decode b_M_give 20 = .ok (.iload_n 1, 1) := by decide +kernel
theorem d_M_give_21 : decode b_M_give 21 = .ok (.iconst (-1), 1) := by decide +kernel
theorem d_M_give_22 : decode b_M_give 22 = .ok (.iastore, 1) := by decide +kernel
theorem d_M_give_23 : decode b_M_give 23 = .ok (.aload_n 0, 1) := by decide +kernel
theorem d_M_give_24 : decode b_M_give 24 = .ok (.getfield 21, 3) := by decide +kernel
theorem d_M_give_27 : decode b_M_give 27 = .ok (.aload_n 0, 1) := by decide +kernel
theorem d_M_give_28 : decode b_M_give 28 = .ok (.getfield 28, 3) := by decide +kernel
theorem d_M_give_31 : decode b_M_give 31 = .ok (.iload_n 1, 1) := by decide +kernel
theorem d_M_give_32 : decode b_M_give 32 = .ok (.iastore, 1) := by decide +kernel
theorem d_M_give_33 : decode b_M_give 33 = .ok (.aload_n 0, 1) := by decide +kernel
theorem d_M_give_34 : decode b_M_give 34 = .ok (.dup, 1) := by decide +kernel
theorem d_M_give_35 : decode b_M_give 35 = .ok (.getfield 28, 3) := by decide +kernel
theorem d_M_give_38 : decode b_M_give 38 = .ok (.iconst 1, 1) := by decide +kernel
theorem d_M_give_39 : decode b_M_give 39 = .ok (.iadd, 1) := by decide +kernel
theorem d_M_give_40 : decode b_M_give 40 = .ok (.putfield 28, 3) := by decide +kernel
theorem d_M_give_43 : decode b_M_give 43 = .ok (.iconst 1, 1) := by decide +kernel
theorem d_M_give_44 : decode b_M_give 44 = .ok (.ireturn, 1) := by decide +kernel
theorem d_M_isRow_0 : decode b_M_isRow 0 = .ok (.iload_n 1, 1) := by decide +kernel
theorem d_M_isRow_1 : decode b_M_isRow 1 = .ok (.ifCond .lt 24, 3) := by decide +kernel
theorem d_M_isRow_4 : decode b_M_isRow 4 = .ok (.iload_n 1, 1) := by decide +kernel
theorem d_M_isRow_5 : decode b_M_isRow 5 = .ok (.aload_n 0, 1) := by decide +kernel
theorem d_M_isRow_6 : decode b_M_isRow 6 = .ok (.getfield 24, 3) := by decide +kernel
theorem d_M_isRow_9 : decode b_M_isRow 9 = .ok (.if_icmp .ge 16, 3) := by decide +kernel
theorem d_M_isRow_12 : decode b_M_isRow 12 = .ok (.aload_n 0, 1) := by decide +kernel
theorem d_M_isRow_13 : decode b_M_isRow 13 = .ok (.getfield 18, 3) := by decide +kernel
theorem d_M_isRow_16 : decode b_M_isRow 16 = .ok (.iload_n 1, 1) := by decide +kernel
theorem d_M_isRow_17 : decode b_M_isRow 17 = .ok (.iaload, 1) := by decide +kernel
theorem d_M_isRow_18 : decode b_M_isRow 18 = .ok (.ifCond .lt 7, 3) := by decide +kernel
theorem d_M_isRow_21 : decode b_M_isRow 21 = .ok (.iconst 1, 1) := by decide +kernel
theorem d_M_isRow_22 : decode b_M_isRow 22 = .ok (.goto 4, 3) := by decide +kernel
theorem d_M_isRow_25 : decode b_M_isRow 25 = .ok (.iconst 0, 1) := by decide +kernel
theorem d_M_isRow_26 : decode b_M_isRow 26 = .ok (.ireturn, 1) := by decide +kernel
theorem d_M_resize_0 : decode b_M_resize 0 = .ok (.aload_n 0, 1) := by decide +kernel
theorem d_M_resize_1 : decode b_M_resize 1 = .ok (.iload_n 1, 1) := by decide +kernel
theorem d_M_resize_2 : decode b_M_resize 2 = .ok (.invokevirtual 52, 3) := by decide +kernel
theorem d_M_resize_5 : decode b_M_resize 5 = .ok (.ifCond .eq 14, 3) := by decide +kernel
theorem d_M_resize_8 : decode b_M_resize 8 = .ok (.iload_n 2, 1) := by decide +kernel
theorem d_M_resize_9 : decode b_M_resize 9 = .ok (.ifCond .lt 10, 3) := by decide +kernel
theorem d_M_resize_12 : decode b_M_resize 12 = .ok (.iload_n 2, 1) := by decide +kernel
theorem d_M_resize_13 : decode b_M_resize 13 = .ok (.sipush 16384, 3) := by decide +kernel
theorem d_M_resize_16 : decode b_M_resize 16 = .ok (.if_icmp .le 5, 3) := by decide +kernel
theorem d_M_resize_19 : decode b_M_resize 19 = .ok (.iconst (-1), 1) := by decide +kernel
theorem d_M_resize_20 : decode b_M_resize 20 = .ok (.ireturn, 1) := by decide +kernel
theorem d_M_resize_21 : decode b_M_resize 21 = .ok (.aload_n 0, 1) := by decide +kernel
theorem d_M_resize_22 : decode b_M_resize 22 = .ok (.iload_n 1, 1) := by decide +kernel
theorem d_M_resize_23 : decode b_M_resize 23 = .ok (.iload_n 2, 1) := by decide +kernel
theorem d_M_resize_24 : decode b_M_resize 24 = .ok (.invokevirtual 56, 3) := by decide +kernel
theorem d_M_resize_27 : decode b_M_resize 27 = .ok (.ifCond .ne 6, 3) := by decide +kernel
theorem d_M_resize_30 : decode b_M_resize 30 = .ok (.bipush (-2), 2) := by decide +kernel
theorem d_M_resize_32 : decode b_M_resize 32 = .ok (.ireturn, 1) := by decide +kernel
theorem d_M_resize_33 : decode b_M_resize 33 = .ok (.aload_n 0, 1) := by decide +kernel
theorem d_M_resize_34 : decode b_M_resize 34 = .ok (.iload_n 1, 1) := by decide +kernel
theorem d_M_resize_35 : decode b_M_resize 35 = .ok (.iload_n 2, 1) := by decide +kernel
theorem d_M_resize_36 : decode b_M_resize 36 = .ok (.invokevirtual 42, 3) := by decide +kernel
theorem d_M_resize_39 : decode b_M_resize 39 = .ok (.iload_n 2, 1) := by decide +kernel
theorem d_M_resize_40 : decode b_M_resize 40 = .ok (.ireturn, 1) := by decide +kernel
theorem d_M_hasRoom_0 : decode b_M_hasRoom 0 = .ok (.iload_n 2, 1) := by decide +kernel
theorem d_M_hasRoom_1 : decode b_M_hasRoom 1 = .ok (.invokestatic 38, 3) := by decide +kernel
theorem d_M_hasRoom_4 : decode b_M_hasRoom 4 = .ok (.aload_n 0, 1) := by decide +kernel
theorem d_M_hasRoom_5 : decode b_M_hasRoom 5 = .ok (.getfield 18, 3) := by decide +kernel
theorem d_M_hasRoom_8 : decode b_M_hasRoom 8 = .ok (.iload_n 1, 1) := by decide +kernel
theorem d_M_hasRoom_9 : decode b_M_hasRoom 9 = .ok (.iaload, 1) := by decide +kernel
theorem d_M_hasRoom_10 : decode b_M_hasRoom 10 = .ok (.invokestatic 38, 3) := by decide +kernel
theorem d_M_hasRoom_13 : decode b_M_hasRoom 13 = .ok (.if_icmp .le 17, 3) := by decide +kernel
theorem d_M_hasRoom_16 : decode b_M_hasRoom 16 = .ok (.aload_n 0, 1) := by decide +kernel
theorem d_M_hasRoom_17 : decode b_M_hasRoom 17 = .ok (.getfield 35, 3) := by decide +kernel
theorem d_M_hasRoom_20 : decode b_M_hasRoom 20 = .ok (.iload_n 2, 1) := by decide +kernel
theorem d_M_hasRoom_21 : decode b_M_hasRoom 21 = .ok (.invokestatic 38, 3) := by decide +kernel
theorem d_M_hasRoom_24 : decode b_M_hasRoom 24 = .ok (.iadd, 1) := by decide +kernel
theorem d_M_hasRoom_25 : decode b_M_hasRoom 25 = .ok (.ldc 7, 2) := by decide +kernel
theorem d_M_hasRoom_27 : decode b_M_hasRoom 27 = .ok (.if_icmp .gt 7, 3) := by decide +kernel
theorem d_M_hasRoom_30 : decode b_M_hasRoom 30 = .ok (.iconst 1, 1) := by decide +kernel
theorem d_M_hasRoom_31 : decode b_M_hasRoom 31 = .ok (.goto 4, 3) := by decide +kernel
theorem d_M_hasRoom_34 : decode b_M_hasRoom 34 = .ok (.iconst 0, 1) := by decide +kernel
theorem d_M_hasRoom_35 : decode b_M_hasRoom 35 = .ok (.ireturn, 1) := by decide +kernel
theorem d_M_put_0 : decode b_M_put 0 = .ok (.aload_n 0, 1) := by decide +kernel
theorem d_M_put_1 : decode b_M_put 1 = .ok (.iload_n 1, 1) := by decide +kernel
theorem d_M_put_2 : decode b_M_put 2 = .ok (.invokevirtual 52, 3) := by decide +kernel
theorem d_M_put_5 : decode b_M_put 5 = .ok (.ifCond .eq 17, 3) := by decide +kernel
theorem d_M_put_8 : decode b_M_put 8 = .ok (.iload_n 2, 1) := by decide +kernel
theorem d_M_put_9 : decode b_M_put 9 = .ok (.ifCond .lt 13, 3) := by decide +kernel
theorem d_M_put_12 : decode b_M_put 12 = .ok (.iload_n 2, 1) := by decide +kernel
theorem d_M_put_13 : decode b_M_put 13 = .ok (.aload_n 0, 1) := by decide +kernel
theorem d_M_put_14 : decode b_M_put 14 = .ok (.getfield 18, 3) := by decide +kernel
theorem d_M_put_17 : decode b_M_put 17 = .ok (.iload_n 1, 1) := by decide +kernel
theorem d_M_put_18 : decode b_M_put 18 = .ok (.iaload, 1) := by decide +kernel
theorem d_M_put_19 : decode b_M_put 19 = .ok (.if_icmp .lt 5, 3) := by decide +kernel
theorem d_M_put_22 : decode b_M_put 22 = .ok (.iconst 0, 1) := by decide +kernel
theorem d_M_put_23 : decode b_M_put 23 = .ok (.ireturn, 1) := by decide +kernel
theorem d_M_put_24 : decode b_M_put 24 = .ok (.aload_n 0, 1) := by decide +kernel
theorem d_M_put_25 : decode b_M_put 25 = .ok (.getfield 8, 3) := by decide +kernel
theorem d_M_put_28 : decode b_M_put 28 = .ok (.aload_n 0, 1) := by decide +kernel
theorem d_M_put_29 : decode b_M_put 29 = .ok (.getfield 14, 3) := by decide +kernel
theorem d_M_put_32 : decode b_M_put 32 = .ok (.iload_n 1, 1) := by decide +kernel
theorem d_M_put_33 : decode b_M_put 33 = .ok (.iaload, 1) := by decide +kernel
theorem d_M_put_34 : decode b_M_put 34 = .ok (.iload_n 2, 1) := by decide +kernel
theorem d_M_put_35 : decode b_M_put 35 = .ok (.iadd, 1) := by decide +kernel
theorem d_M_put_36 : decode b_M_put 36 = .ok (.iload_n 3, 1) := by decide +kernel
theorem d_M_put_37 : decode b_M_put 37 = .ok (.i2b, 1) := by decide +kernel
theorem d_M_put_38 : decode b_M_put 38 = .ok (.bastore, 1) := by decide +kernel
theorem d_M_put_39 : decode b_M_put 39 = .ok (.iconst 1, 1) := by decide +kernel
theorem d_M_put_40 : decode b_M_put 40 = .ok (.ireturn, 1) := by decide +kernel
theorem d_M_fill_0 : decode b_M_fill 0 = .ok (.aload_n 0, 1) := by decide +kernel
theorem d_M_fill_1 : decode b_M_fill 1 = .ok (.iload_n 1, 1) := by decide +kernel
theorem d_M_fill_2 : decode b_M_fill 2 = .ok (.invokevirtual 52, 3) := by decide +kernel
theorem d_M_fill_5 : decode b_M_fill 5 = .ok (.ifCond .eq 33, 3) := by decide +kernel
theorem d_M_fill_8 : decode b_M_fill 8 = .ok (.iload_n 2, 1) := by decide +kernel
theorem d_M_fill_9 : decode b_M_fill 9 = .ok (.ifCond .lt 29, 3) := by decide +kernel
theorem d_M_fill_12 : decode b_M_fill 12 = .ok (.iload_n 3, 1) := by decide +kernel
theorem d_M_fill_13 : decode b_M_fill 13 = .ok (.ifCond .lt 25, 3) := by decide +kernel
theorem d_M_fill_16 : decode b_M_fill 16 = .ok (.iload_n 2, 1) := by decide +kernel
theorem d_M_fill_17 : decode b_M_fill 17 = .ok (.aload_n 0, 1) := by decide +kernel
theorem d_M_fill_18 : decode b_M_fill 18 = .ok (.getfield 18, 3) := by decide +kernel
theorem d_M_fill_21 : decode b_M_fill 21 = .ok (.iload_n 1, 1) := by decide +kernel
theorem d_M_fill_22 : decode b_M_fill 22 = .ok (.iaload, 1) := by decide +kernel
theorem d_M_fill_23 : decode b_M_fill 23 = .ok (.if_icmp .gt 15, 3) := by decide +kernel
theorem d_M_fill_26 : decode b_M_fill 26 = .ok (.iload_n 3, 1) := by decide +kernel
theorem d_M_fill_27 : decode b_M_fill 27 = .ok (.aload_n 0, 1) := by decide +kernel
theorem d_M_fill_28 : decode b_M_fill 28 = .ok (.getfield 18, 3) := by decide +kernel
theorem d_M_fill_31 : decode b_M_fill 31 = .ok (.iload_n 1, 1) := by decide +kernel
theorem d_M_fill_32 : decode b_M_fill 32 = .ok (.iaload, 1) := by decide +kernel
theorem d_M_fill_33 : decode b_M_fill 33 = .ok (.iload_n 2, 1) := by decide +kernel
theorem d_M_fill_34 : decode b_M_fill 34 = .ok (.isub, 1) := by decide +kernel
theorem d_M_fill_35 : decode b_M_fill 35 = .ok (.if_icmp .le 5, 3) := by decide +kernel
theorem d_M_fill_38 : decode b_M_fill 38 = .ok (.iconst 0, 1) := by decide +kernel
theorem d_M_fill_39 : decode b_M_fill 39 = .ok (.ireturn, 1) := by decide +kernel
theorem d_M_fill_40 : decode b_M_fill 40 = .ok (.iconst 0, 1) := by decide +kernel
theorem d_M_fill_41 : decode b_M_fill 41 = .ok (.istore 5, 2) := by decide +kernel
theorem d_M_fill_43 : decode b_M_fill 43 = .ok (.iload 5, 2) := by decide +kernel
theorem d_M_fill_45 : decode b_M_fill 45 = .ok (.iload_n 3, 1) := by decide +kernel
theorem d_M_fill_46 : decode b_M_fill 46 = .ok (.if_icmp .ge 41, 3) := by decide +kernel
theorem d_M_fill_49 : decode b_M_fill 49 = .ok (.aload_n 0, 1) := by decide +kernel
theorem d_M_fill_50 : decode b_M_fill 50 = .ok (.getfield 8, 3) := by decide +kernel
theorem d_M_fill_53 : decode b_M_fill 53 = .ok (.aload_n 0, 1) := by decide +kernel
theorem d_M_fill_54 : decode b_M_fill 54 = .ok (.getfield 14, 3) := by decide +kernel
theorem d_M_fill_57 : decode b_M_fill 57 = .ok (.iload_n 1, 1) := by decide +kernel
theorem d_M_fill_58 : decode b_M_fill 58 = .ok (.iaload, 1) := by decide +kernel
theorem d_M_fill_59 : decode b_M_fill 59 = .ok (.iload_n 2, 1) := by decide +kernel
theorem d_M_fill_60 : decode b_M_fill 60 = .ok (.iadd, 1) := by decide +kernel
theorem d_M_fill_61 : decode b_M_fill 61 = .ok (.iload 5, 2) := by decide +kernel
theorem d_M_fill_63 : decode b_M_fill 63 = .ok (.iadd, 1) := by decide +kernel
theorem d_M_fill_64 : decode b_M_fill 64 = .ok (.iload 4, 2) := by decide +kernel
theorem d_M_fill_66 : decode b_M_fill 66 = .ok (.bipush 7, 2) := by decide +kernel
theorem d_M_fill_68 : decode b_M_fill 68 = .ok (.iload 5, 2) := by decide +kernel
theorem d_M_fill_70 : decode b_M_fill 70 = .ok (.imul, 1) := by decide +kernel
theorem d_M_fill_71 : decode b_M_fill 71 = .ok (.iadd, 1) := by decide +kernel
theorem d_M_fill_72 : decode b_M_fill 72 = .ok (.iload 5, 2) := by decide +kernel
theorem d_M_fill_74 : decode b_M_fill 74 = .ok (.sipush 250, 3) := by decide +kernel
theorem d_M_fill_77 : decode b_M_fill 77 = .ok (.idiv, 1) := by decide +kernel
theorem d_M_fill_78 : decode b_M_fill 78 = .ok (.iadd, 1) := by decide +kernel
theorem d_M_fill_79 : decode b_M_fill 79 = .ok (.i2b, 1) := by decide +kernel
theorem d_M_fill_80 : decode b_M_fill 80 = .ok (.bastore, 1) := by decide +kernel
theorem d_M_fill_81 : decode b_M_fill 81 = .ok (.iinc 5 1, 3) := by decide +kernel
theorem d_M_fill_84 : decode b_M_fill 84 = .ok (.goto (-41), 3) := by decide +kernel
theorem d_M_fill_87 : decode b_M_fill 87 = .ok (.iconst 1, 1) := by decide +kernel
theorem d_M_fill_88 : decode b_M_fill 88 = .ok (.ireturn, 1) := by decide +kernel
theorem d_M_copy_0 : decode b_M_copy 0 = .ok (.aload_n 0, 1) := by decide +kernel
theorem d_M_copy_1 : decode b_M_copy 1 = .ok (.iload_n 1, 1) := by decide +kernel
theorem d_M_copy_2 : decode b_M_copy 2 = .ok (.invokevirtual 52, 3) := by decide +kernel
theorem d_M_copy_5 : decode b_M_copy 5 = .ok (.ifCond .eq 11, 3) := by decide +kernel
theorem d_M_copy_8 : decode b_M_copy 8 = .ok (.aload_n 0, 1) := by decide +kernel
theorem d_M_copy_9 : decode b_M_copy 9 = .ok (.iload_n 2, 1) := by decide +kernel
theorem d_M_copy_10 : decode b_M_copy 10 = .ok (.invokevirtual 52, 3) := by decide +kernel
theorem d_M_copy_13 : decode b_M_copy 13 = .ok (.ifCond .ne 5, 3) := by decide +kernel
theorem d_M_copy_16 : decode b_M_copy 16 = .ok (.iconst (-1), 1) := by decide +kernel
theorem d_M_copy_17 : decode b_M_copy 17 = .ok (.ireturn, 1) := by decide +kernel
theorem d_M_copy_18 : decode b_M_copy 18 = .ok (.aload_n 0, 1) := by decide +kernel
theorem d_M_copy_19 : decode b_M_copy 19 = .ok (.getfield 18, 3) := by decide +kernel
theorem d_M_copy_22 : decode b_M_copy 22 = .ok (.iload_n 2, 1) := by decide +kernel
theorem d_M_copy_23 : decode b_M_copy 23 = .ok (.iaload, 1) := by decide +kernel
theorem d_M_copy_24 : decode b_M_copy 24 = .ok (.istore_n 3, 1) := by decide +kernel
theorem d_M_copy_25 : decode b_M_copy 25 = .ok (.aload_n 0, 1) := by decide +kernel
theorem d_M_copy_26 : decode b_M_copy 26 = .ok (.iload_n 1, 1) := by decide +kernel
theorem d_M_copy_27 : decode b_M_copy 27 = .ok (.iload_n 3, 1) := by decide +kernel
theorem d_M_copy_28 : decode b_M_copy 28 = .ok (.invokevirtual 56, 3) := by decide +kernel
theorem d_M_copy_31 : decode b_M_copy 31 = .ok (.ifCond .ne 6, 3) := by decide +kernel
theorem d_M_copy_34 : decode b_M_copy 34 = .ok (.bipush (-2), 2) := by decide +kernel
theorem d_M_copy_36 : decode b_M_copy 36 = .ok (.ireturn, 1) := by decide +kernel
theorem d_M_copy_37 : decode b_M_copy 37 = .ok (.aload_n 0, 1) := by decide +kernel
theorem d_M_copy_38 : decode b_M_copy 38 = .ok (.iload_n 1, 1) := by decide +kernel
theorem d_M_copy_39 : decode b_M_copy 39 = .ok (.iload_n 3, 1) := by decide +kernel
theorem d_M_copy_40 : decode b_M_copy 40 = .ok (.invokevirtual 42, 3) := by decide +kernel
theorem d_M_copy_43 : decode b_M_copy 43 = .ok (.iconst 0, 1) := by decide +kernel
theorem d_M_copy_44 : decode b_M_copy 44 = .ok (.istore 4, 2) := by decide +kernel
theorem d_M_copy_46 : decode b_M_copy 46 = .ok (.iload 4, 2) := by decide +kernel
theorem d_M_copy_48 : decode b_M_copy 48 = .ok (.iload_n 3, 1) := by decide +kernel
theorem d_M_copy_49 : decode b_M_copy 49 = .ok (.if_icmp .ge 37, 3) := by decide +kernel
theorem d_M_copy_52 : decode b_M_copy 52 = .ok (.aload_n 0, 1) := by decide +kernel
theorem d_M_copy_53 : decode b_M_copy 53 = .ok (.getfield 8, 3) := by decide +kernel
theorem d_M_copy_56 : decode b_M_copy 56 = .ok (.aload_n 0, 1) := by decide +kernel
theorem d_M_copy_57 : decode b_M_copy 57 = .ok (.getfield 14, 3) := by decide +kernel
theorem d_M_copy_60 : decode b_M_copy 60 = .ok (.iload_n 1, 1) := by decide +kernel
theorem d_M_copy_61 : decode b_M_copy 61 = .ok (.iaload, 1) := by decide +kernel
theorem d_M_copy_62 : decode b_M_copy 62 = .ok (.iload 4, 2) := by decide +kernel
theorem d_M_copy_64 : decode b_M_copy 64 = .ok (.iadd, 1) := by decide +kernel
theorem d_M_copy_65 : decode b_M_copy 65 = .ok (.aload_n 0, 1) := by decide +kernel
theorem d_M_copy_66 : decode b_M_copy 66 = .ok (.getfield 8, 3) := by decide +kernel
theorem d_M_copy_69 : decode b_M_copy 69 = .ok (.aload_n 0, 1) := by decide +kernel
theorem d_M_copy_70 : decode b_M_copy 70 = .ok (.getfield 14, 3) := by decide +kernel
theorem d_M_copy_73 : decode b_M_copy 73 = .ok (.iload_n 2, 1) := by decide +kernel
theorem d_M_copy_74 : decode b_M_copy 74 = .ok (.iaload, 1) := by decide +kernel
theorem d_M_copy_75 : decode b_M_copy 75 = .ok (.iload 4, 2) := by decide +kernel
theorem d_M_copy_77 : decode b_M_copy 77 = .ok (.iadd, 1) := by decide +kernel
theorem d_M_copy_78 : decode b_M_copy 78 = .ok (.baload, 1) := by decide +kernel
theorem d_M_copy_79 : decode b_M_copy 79 = .ok (.bastore, 1) := by decide +kernel
theorem d_M_copy_80 : decode b_M_copy 80 = .ok (.iinc 4 1, 3) := by decide +kernel
theorem d_M_copy_83 : decode b_M_copy 83 = .ok (.goto (-37), 3) := by decide +kernel
theorem d_M_copy_86 : decode b_M_copy 86 = .ok (.iload_n 3, 1) := by decide +kernel
theorem d_M_copy_87 : decode b_M_copy 87 = .ok (.ireturn, 1) := by decide +kernel
theorem d_M_get_0 : decode b_M_get 0 = .ok (.aload_n 0, 1) := by decide +kernel
theorem d_M_get_1 : decode b_M_get 1 = .ok (.iload_n 1, 1) := by decide +kernel
theorem d_M_get_2 : decode b_M_get 2 = .ok (.invokevirtual 52, 3) := by decide +kernel
theorem d_M_get_5 : decode b_M_get 5 = .ok (.ifCond .eq 37, 3) := by decide +kernel
theorem d_M_get_8 : decode b_M_get 8 = .ok (.iload_n 2, 1) := by decide +kernel
theorem d_M_get_9 : decode b_M_get 9 = .ok (.ifCond .lt 33, 3) := by decide +kernel
theorem d_M_get_12 : decode b_M_get 12 = .ok (.iload_n 2, 1) := by decide +kernel
theorem d_M_get_13 : decode b_M_get 13 = .ok (.aload_n 0, 1) := by decide +kernel
theorem d_M_get_14 : decode b_M_get 14 = .ok (.getfield 18, 3) := by decide +kernel
theorem d_M_get_17 : decode b_M_get 17 = .ok (.iload_n 1, 1) := by decide +kernel
theorem d_M_get_18 : decode b_M_get 18 = .ok (.iaload, 1) := by decide +kernel
theorem d_M_get_19 : decode b_M_get 19 = .ok (.if_icmp .ge 23, 3) := by decide +kernel
theorem d_M_get_22 : decode b_M_get 22 = .ok (.aload_n 0, 1) := by decide +kernel
theorem d_M_get_23 : decode b_M_get 23 = .ok (.getfield 8, 3) := by decide +kernel
theorem d_M_get_26 : decode b_M_get 26 = .ok (.aload_n 0, 1) := by decide +kernel
theorem d_M_get_27 : decode b_M_get 27 = .ok (.getfield 14, 3) := by decide +kernel
theorem d_M_get_30 : decode b_M_get 30 = .ok (.iload_n 1, 1) := by decide +kernel
theorem d_M_get_31 : decode b_M_get 31 = .ok (.iaload, 1) := by decide +kernel
theorem d_M_get_32 : decode b_M_get 32 = .ok (.iload_n 2, 1) := by decide +kernel
theorem d_M_get_33 : decode b_M_get 33 = .ok (.iadd, 1) := by decide +kernel
theorem d_M_get_34 : decode b_M_get 34 = .ok (.baload, 1) := by decide +kernel
theorem d_M_get_35 : decode b_M_get 35 = .ok (.sipush 255, 3) := by decide +kernel
theorem d_M_get_38 : decode b_M_get 38 = .ok (.iand, 1) := by decide +kernel
theorem d_M_get_39 : decode b_M_get 39 = .ok (.goto 4, 3) := by decide +kernel
theorem d_M_get_42 : decode b_M_get 42 = .ok (.iconst (-1), 1) := by decide +kernel
theorem d_M_get_43 : decode b_M_get 43 = .ok (.ireturn, 1) := by decide +kernel
theorem d_M_size_0 : decode b_M_size 0 = .ok (.aload_n 0, 1) := by decide +kernel
theorem d_M_size_1 : decode b_M_size 1 = .ok (.iload_n 1, 1) := by decide +kernel
theorem d_M_size_2 : decode b_M_size 2 = .ok (.invokevirtual 52, 3) := by decide +kernel
theorem d_M_size_5 : decode b_M_size 5 = .ok (.ifCond .eq 12, 3) := by decide +kernel
theorem d_M_size_8 : decode b_M_size 8 = .ok (.aload_n 0, 1) := by decide +kernel
theorem d_M_size_9 : decode b_M_size 9 = .ok (.getfield 18, 3) := by decide +kernel
theorem d_M_size_12 : decode b_M_size 12 = .ok (.iload_n 1, 1) := by decide +kernel
theorem d_M_size_13 : decode b_M_size 13 = .ok (.iaload, 1) := by decide +kernel
theorem d_M_size_14 : decode b_M_size 14 = .ok (.goto 4, 3) := by decide +kernel
theorem d_M_size_17 : decode b_M_size 17 = .ok (.iconst (-1), 1) := by decide +kernel
theorem d_M_size_18 : decode b_M_size 18 = .ok (.ireturn, 1) := by decide +kernel
theorem d_M_compare_0 : decode b_M_compare 0 = .ok (.aload_n 0, 1) := by decide +kernel
theorem d_M_compare_1 : decode b_M_compare 1 = .ok (.iload_n 1, 1) := by decide +kernel
theorem d_M_compare_2 : decode b_M_compare 2 = .ok (.invokevirtual 52, 3) := by decide +kernel
theorem d_M_compare_5 : decode b_M_compare 5 = .ok (.ifCond .eq 11, 3) := by decide +kernel
theorem d_M_compare_8 : decode b_M_compare 8 = .ok (.aload_n 0, 1) := by decide +kernel
theorem d_M_compare_9 : decode b_M_compare 9 = .ok (.iload_n 2, 1) := by decide +kernel
theorem d_M_compare_10 : decode b_M_compare 10 = .ok (.invokevirtual 52, 3) := by decide +kernel
theorem d_M_compare_13 : decode b_M_compare 13 = .ok (.ifCond .ne 6, 3) := by decide +kernel
theorem d_M_compare_16 : decode b_M_compare 16 = .ok (.bipush (-2), 2) := by decide +kernel
theorem d_M_compare_18 : decode b_M_compare 18 = .ok (.ireturn, 1) := by decide +kernel
theorem d_M_compare_19 : decode b_M_compare 19 = .ok (.iconst 0, 1) := by decide +kernel
theorem d_M_compare_20 : decode b_M_compare 20 = .ok (.istore_n 3, 1) := by decide +kernel
theorem d_M_compare_21 : decode b_M_compare 21 = .ok (.iload_n 3, 1) := by decide +kernel
theorem d_M_compare_22 : decode b_M_compare 22 = .ok (.aload_n 0, 1) := by decide +kernel
theorem d_M_compare_23 : decode b_M_compare 23 = .ok (.getfield 18, 3) := by decide +kernel
theorem d_M_compare_26 : decode b_M_compare 26 = .ok (.iload_n 1, 1) := by decide +kernel
theorem d_M_compare_27 : decode b_M_compare 27 = .ok (.iaload, 1) := by decide +kernel
theorem d_M_compare_28 : decode b_M_compare 28 = .ok (.if_icmp .ge 50, 3) := by decide +kernel
theorem d_M_compare_31 : decode b_M_compare 31 = .ok (.iload_n 3, 1) := by decide +kernel
theorem d_M_compare_32 : decode b_M_compare 32 = .ok (.aload_n 0, 1) := by decide +kernel
theorem d_M_compare_33 : decode b_M_compare 33 = .ok (.getfield 18, 3) := by decide +kernel
theorem d_M_compare_36 : decode b_M_compare 36 = .ok (.iload_n 2, 1) := by decide +kernel
theorem d_M_compare_37 : decode b_M_compare 37 = .ok (.iaload, 1) := by decide +kernel
theorem d_M_compare_38 : decode b_M_compare 38 = .ok (.if_icmp .ge 40, 3) := by decide +kernel
theorem d_M_compare_41 : decode b_M_compare 41 = .ok (.aload_n 0, 1) := by decide +kernel
theorem d_M_compare_42 : decode b_M_compare 42 = .ok (.iload_n 1, 1) := by decide +kernel
theorem d_M_compare_43 : decode b_M_compare 43 = .ok (.iload_n 3, 1) := by decide +kernel
theorem d_M_compare_44 : decode b_M_compare 44 = .ok (.invokevirtual 60, 3) := by decide +kernel
theorem d_M_compare_47 : decode b_M_compare 47 = .ok (.aload_n 0, 1) := by decide +kernel
theorem d_M_compare_48 : decode b_M_compare 48 = .ok (.iload_n 2, 1) := by decide +kernel
theorem d_M_compare_49 : decode b_M_compare 49 = .ok (.iload_n 3, 1) := by decide +kernel
theorem d_M_compare_50 : decode b_M_compare 50 = .ok (.invokevirtual 60, 3) := by decide +kernel
theorem d_M_compare_53 : decode b_M_compare 53 = .ok (.isub, 1) := by decide +kernel
theorem d_M_compare_54 : decode b_M_compare 54 = .ok (.istore 4, 2) := by decide +kernel
theorem d_M_compare_56 : decode b_M_compare 56 = .ok (.iload 4, 2) := by decide +kernel
theorem d_M_compare_58 : decode b_M_compare 58 = .ok (.ifCond .eq 14, 3) := by decide +kernel
theorem d_M_compare_61 : decode b_M_compare 61 = .ok (.iload 4, 2) := by decide +kernel
theorem d_M_compare_63 : decode b_M_compare 63 = .ok (.ifCond .ge 7, 3) := by decide +kernel
theorem d_M_compare_66 : decode b_M_compare 66 = .ok (.iconst (-1), 1) := by decide +kernel
theorem d_M_compare_67 : decode b_M_compare 67 = .ok (.goto 4, 3) := by decide +kernel
theorem d_M_compare_70 : decode b_M_compare 70 = .ok (.iconst 1, 1) := by decide +kernel
theorem d_M_compare_71 : decode b_M_compare 71 = .ok (.ireturn, 1) := by decide +kernel
theorem d_M_compare_72 : decode b_M_compare 72 = .ok (.iinc 3 1, 3) := by decide +kernel
theorem d_M_compare_75 : decode b_M_compare 75 = .ok (.goto (-54), 3) := by decide +kernel
theorem d_M_compare_78 : decode b_M_compare 78 = .ok (.aload_n 0, 1) := by decide +kernel
theorem d_M_compare_79 : decode b_M_compare 79 = .ok (.getfield 18, 3) := by decide +kernel
theorem d_M_compare_82 : decode b_M_compare 82 = .ok (.iload_n 1, 1) := by decide +kernel
theorem d_M_compare_83 : decode b_M_compare 83 = .ok (.iaload, 1) := by decide +kernel
theorem d_M_compare_84 : decode b_M_compare 84 = .ok (.aload_n 0, 1) := by decide +kernel
theorem d_M_compare_85 : decode b_M_compare 85 = .ok (.getfield 18, 3) := by decide +kernel
theorem d_M_compare_88 : decode b_M_compare 88 = .ok (.iload_n 2, 1) := by decide +kernel
theorem d_M_compare_89 : decode b_M_compare 89 = .ok (.iaload, 1) := by decide +kernel
theorem d_M_compare_90 : decode b_M_compare 90 = .ok (.if_icmp .ge 7, 3) := by decide +kernel
theorem d_M_compare_93 : decode b_M_compare 93 = .ok (.iconst (-1), 1) := by decide +kernel
theorem d_M_compare_94 : decode b_M_compare 94 = .ok (.goto 23, 3) := by decide +kernel
theorem d_M_compare_97 : decode b_M_compare 97 = .ok (.aload_n 0, 1) := by decide +kernel
theorem d_M_compare_98 : decode b_M_compare 98 = .ok (.getfield 18, 3) := by decide +kernel
theorem d_M_compare_101 : decode b_M_compare 101 = .ok (.iload_n 1, 1) := by decide +kernel
theorem d_M_compare_102 : decode b_M_compare 102 = .ok (.iaload, 1) := by decide +kernel
theorem d_M_compare_103 : decode b_M_compare 103 = .ok (.aload_n 0, 1) := by decide +kernel
theorem d_M_compare_104 : decode b_M_compare 104 = .ok (.getfield 18, 3) := by decide +kernel
theorem d_M_compare_107 : decode b_M_compare 107 = .ok (.iload_n 2, 1) := by decide +kernel
theorem d_M_compare_108 : decode b_M_compare 108 = .ok (.iaload, 1) := by decide +kernel
theorem d_M_compare_109 : decode b_M_compare 109 = .ok (.if_icmp .le 7, 3) := by decide +kernel
theorem d_M_compare_112 : decode b_M_compare 112 = .ok (.iconst 1, 1) := by decide +kernel
theorem d_M_compare_113 : decode b_M_compare 113 = .ok (.goto 4, 3) := by decide +kernel
theorem d_M_compare_116 : decode b_M_compare 116 = .ok (.iconst 0, 1) := by decide +kernel
theorem d_M_compare_117 : decode b_M_compare 117 = .ok (.ireturn, 1) := by decide +kernel
theorem d_M_sum_0 : decode b_M_sum 0 = .ok (.bipush 7, 2) := by decide +kernel
theorem d_M_sum_2 : decode b_M_sum 2 = .ok (.istore_n 2, 1) := by decide +kernel
theorem d_M_sum_3 : decode b_M_sum 3 = .ok (.iconst 0, 1) := by decide +kernel
theorem d_M_sum_4 : decode b_M_sum 4 = .ok (.istore_n 3, 1) := by decide +kernel
theorem d_M_sum_5 : decode b_M_sum 5 = .ok (.iload_n 3, 1) := by decide +kernel
theorem d_M_sum_6 : decode b_M_sum 6 = .ok (.aload_n 0, 1) := by decide +kernel
theorem d_M_sum_7 : decode b_M_sum 7 = .ok (.iload_n 1, 1) := by decide +kernel
theorem d_M_sum_8 : decode b_M_sum 8 = .ok (.invokevirtual 64, 3) := by decide +kernel
theorem d_M_sum_11 : decode b_M_sum 11 = .ok (.if_icmp .ge 21, 3) := by decide +kernel
theorem d_M_sum_14 : decode b_M_sum 14 = .ok (.bipush 31, 2) := by decide +kernel
theorem d_M_sum_16 : decode b_M_sum 16 = .ok (.iload_n 2, 1) := by decide +kernel
theorem d_M_sum_17 : decode b_M_sum 17 = .ok (.imul, 1) := by decide +kernel
theorem d_M_sum_18 : decode b_M_sum 18 = .ok (.aload_n 0, 1) := by decide +kernel
theorem d_M_sum_19 : decode b_M_sum 19 = .ok (.iload_n 1, 1) := by decide +kernel
theorem d_M_sum_20 : decode b_M_sum 20 = .ok (.iload_n 3, 1) := by decide +kernel
theorem d_M_sum_21 : decode b_M_sum 21 = .ok (.invokevirtual 60, 3) := by decide +kernel
theorem d_M_sum_24 : decode b_M_sum 24 = .ok (.iadd, 1) := by decide +kernel
theorem d_M_sum_25 : decode b_M_sum 25 = .ok (.istore_n 2, 1) := by decide +kernel
theorem d_M_sum_26 : decode b_M_sum 26 = .ok (.iinc 3 1, 3) := by decide +kernel
theorem d_M_sum_29 : decode b_M_sum 29 = .ok (.goto (-24), 3) := by decide +kernel
theorem d_M_sum_32 : decode b_M_sum 32 = .ok (.aload_n 0, 1) := by decide +kernel
theorem d_M_sum_33 : decode b_M_sum 33 = .ok (.iload_n 1, 1) := by decide +kernel
theorem d_M_sum_34 : decode b_M_sum 34 = .ok (.invokevirtual 52, 3) := by decide +kernel
theorem d_M_sum_37 : decode b_M_sum 37 = .ok (.ifCond .eq 7, 3) := by decide +kernel
theorem d_M_sum_40 : decode b_M_sum 40 = .ok (.iload_n 2, 1) := by decide +kernel
theorem d_M_sum_41 : decode b_M_sum 41 = .ok (.goto 4, 3) := by decide +kernel
theorem d_M_sum_44 : decode b_M_sum 44 = .ok (.iconst 0, 1) := by decide +kernel
theorem d_M_sum_45 : decode b_M_sum 45 = .ok (.ireturn, 1) := by decide +kernel
theorem d_M_rows_0 : decode b_M_rows 0 = .ok (.aload_n 0, 1) := by decide +kernel
theorem d_M_rows_1 : decode b_M_rows 1 = .ok (.invokevirtual 31, 3) := by decide +kernel
theorem d_M_rows_4 : decode b_M_rows 4 = .ok (.ireturn, 1) := by decide +kernel
theorem d_M_places_0 : decode b_M_places 0 = .ok (.aload_n 0, 1) := by decide +kernel
theorem d_M_places_1 : decode b_M_places 1 = .ok (.getfield 35, 3) := by decide +kernel
theorem d_M_places_4 : decode b_M_places 4 = .ok (.ireturn, 1) := by decide +kernel
end
section
theorem d_law_0 : decode code 0 = .ok (.new 7, 3) := by decide +kernel
theorem d_law_3 : decode code 3 = .ok (.dup, 1) := by decide +kernel
theorem d_law_4 : decode code 4 = .ok (.invokespecial 9, 3) := by decide +kernel
theorem d_law_7 : decode code 7 = .ok (.astore_n 1, 1) := by decide +kernel
theorem d_law_8 : decode code 8 = .ok (.new 10, 3) := by decide +kernel
theorem d_law_11 : decode code 11 = .ok (.dup, 1) := by decide +kernel
theorem d_law_12 : decode code 12 = .ok (.invokespecial 12, 3) := by decide +kernel
theorem d_law_15 : decode code 15 = .ok (.astore_n 2, 1) := by decide +kernel
theorem d_law_16 : decode code 16 = .ok (.iconst 0, 1) := by decide +kernel
theorem d_law_17 : decode code 17 = .ok (.istore_n 3, 1) := by decide +kernel
theorem d_law_18 : decode code 18 = .ok (.iload_n 3, 1) := by decide +kernel
theorem d_law_19 : decode code 19 = .ok (.aload_n 0, 1) := by decide +kernel
theorem d_law_20 : decode code 20 = .ok (.arraylength, 1) := by decide +kernel
theorem d_law_21 : decode code 21 = .ok (.iconst 5, 1) := by decide +kernel
theorem d_law_22 : decode code 22 = .ok (.isub, 1) := by decide +kernel
theorem d_law_23 : decode code 23 = .ok (.if_icmp .gt 425, 3) := by decide +kernel
theorem d_law_26 : decode code 26 = .ok (.aload_n 0, 1) := by decide +kernel
theorem d_law_27 : decode code 27 = .ok (.iload_n 3, 1) := by decide +kernel
theorem d_law_28 : decode code 28 = .ok (.iaload, 1) := by decide +kernel
theorem d_law_29 : decode code 29 = .ok (.bipush 15, 2) := by decide +kernel
theorem d_law_31 : decode code 31 = .ok (.iand, 1) := by decide +kernel
theorem d_law_32 : decode code 32 = .ok (.tableswitch 410 0 11 #[64, 87, 110, 143, 186, 239, 272, 305, 328, 361, 384, 397], 64) := by decide +kernel
theorem d_law_96 : decode code 96 = .ok (.aload_n 1, 1) := by decide +kernel
theorem d_law_97 : decode code 97 = .ok (.aload_n 0, 1) := by decide +kernel
theorem d_law_98 : decode code 98 = .ok (.iload_n 3, 1) := by decide +kernel
theorem d_law_99 : decode code 99 = .ok (.iconst 1, 1) := by decide +kernel
theorem d_law_100 : decode code 100 = .ok (.iadd, 1) := by decide +kernel
theorem d_law_101 : decode code 101 = .ok (.iaload, 1) := by decide +kernel
theorem d_law_102 : decode code 102 = .ok (.invokevirtual 13, 3) := by decide +kernel
theorem d_law_105 : decode code 105 = .ok (.aload_n 2, 1) := by decide +kernel
theorem d_law_106 : decode code 106 = .ok (.aload_n 0, 1) := by decide +kernel
theorem d_law_107 : decode code 107 = .ok (.iload_n 3, 1) := by decide +kernel
theorem d_law_108 : decode code 108 = .ok (.iconst 1, 1) := by decide +kernel
theorem d_law_109 : decode code 109 = .ok (.iadd, 1) := by decide +kernel
theorem d_law_110 : decode code 110 = .ok (.iaload, 1) := by decide +kernel
theorem d_law_111 : decode code 111 = .ok (.invokevirtual 17, 3) := by decide +kernel
theorem d_law_114 : decode code 114 = .ok (.if_icmp .eq 328, 3) := by decide +kernel
theorem d_law_117 : decode code 117 = .ok (.iconst 0, 1) := by decide +kernel
theorem d_law_118 : decode code 118 = .ok (.ireturn, 1) := by decide +kernel
theorem d_law_119 : decode code 119 = .ok (.aload_n 1, 1) := by decide +kernel
theorem d_law_120 : decode code 120 = .ok (.aload_n 0, 1) := by decide +kernel
theorem d_law_121 : decode code 121 = .ok (.iload_n 3, 1) := by decide +kernel
theorem d_law_122 : decode code 122 = .ok (.iconst 1, 1) := by decide +kernel
theorem d_law_123 : decode code 123 = .ok (.iadd, 1) := by decide +kernel
theorem d_law_124 : decode code 124 = .ok (.iaload, 1) := by decide +kernel
theorem d_law_125 : decode code 125 = .ok (.invokevirtual 18, 3) := by decide +kernel
theorem d_law_128 : decode code 128 = .ok (.aload_n 2, 1) := by decide +kernel
theorem d_law_129 : decode code 129 = .ok (.aload_n 0, 1) := by decide +kernel
theorem d_law_130 : decode code 130 = .ok (.iload_n 3, 1) := by decide +kernel
theorem d_law_131 : decode code 131 = .ok (.iconst 1, 1) := by decide +kernel
theorem d_law_132 : decode code 132 = .ok (.iadd, 1) := by decide +kernel
theorem d_law_133 : decode code 133 = .ok (.iaload, 1) := by decide +kernel
theorem d_law_134 : decode code 134 = .ok (.invokevirtual 22, 3) := by decide +kernel
theorem d_law_137 : decode code 137 = .ok (.if_icmp .eq 305, 3) := by decide +kernel
theorem d_law_140 : decode code 140 = .ok (.iconst 0, 1) := by decide +kernel
theorem d_law_141 : decode code 141 = .ok (.ireturn, 1) := by decide +kernel
theorem d_law_142 : decode code 142 = .ok (.aload_n 1, 1) := by decide +kernel
theorem d_law_143 : decode code 143 = .ok (.aload_n 0, 1) := by decide +kernel
theorem d_law_144 : decode code 144 = .ok (.iload_n 3, 1) := by decide +kernel
theorem d_law_145 : decode code 145 = .ok (.iconst 1, 1) := by decide +kernel
theorem d_law_146 : decode code 146 = .ok (.iadd, 1) := by decide +kernel
theorem d_law_147 : decode code 147 = .ok (.iaload, 1) := by decide +kernel
theorem d_law_148 : decode code 148 = .ok (.aload_n 0, 1) := by decide +kernel
theorem d_law_149 : decode code 149 = .ok (.iload_n 3, 1) := by decide +kernel
theorem d_law_150 : decode code 150 = .ok (.iconst 2, 1) := by decide +kernel
theorem d_law_151 : decode code 151 = .ok (.iadd, 1) := by decide +kernel
theorem d_law_152 : decode code 152 = .ok (.iaload, 1) := by decide +kernel
theorem d_law_153 : decode code 153 = .ok (.invokevirtual 23, 3) := by decide +kernel
theorem d_law_156 : decode code 156 = .ok (.aload_n 2, 1) := by decide +kernel
theorem d_law_157 : decode code 157 = .ok (.aload_n 0, 1) := by decide +kernel
theorem d_law_158 : decode code 158 = .ok (.iload_n 3, 1) := by decide +kernel
theorem d_law_159 : decode code 159 = .ok (.iconst 1, 1) := by decide +kernel
theorem d_law_160 : decode code 160 = .ok (.iadd, 1) := by decide +kernel
theorem d_law_161 : decode code 161 = .ok (.iaload, 1) := by decide +kernel
theorem d_law_162 : decode code 162 = .ok (.aload_n 0, 1) := by decide +kernel
theorem d_law_163 : decode code 163 = .ok (.iload_n 3, 1) := by decide +kernel
theorem d_law_164 : decode code 164 = .ok (.iconst 2, 1) := by decide +kernel
theorem d_law_165 : decode code 165 = .ok (.iadd, 1) := by decide +kernel
theorem d_law_166 : decode code 166 = .ok (.iaload, 1) := by decide +kernel
theorem d_law_167 : decode code 167 = .ok (.invokevirtual 27, 3) := by decide +kernel
theorem d_law_170 : decode code 170 = .ok (.if_icmp .eq 272, 3) := by decide +kernel
theorem d_law_173 : decode code 173 = .ok (.iconst 0, 1) := by decide +kernel
theorem d_law_174 : decode code 174 = .ok (.ireturn, 1) := by decide +kernel
theorem d_law_175 : decode code 175 = .ok (.aload_n 1, 1) := by decide +kernel
theorem d_law_176 : decode code 176 = .ok (.aload_n 0, 1) := by decide +kernel
theorem d_law_177 : decode code 177 = .ok (.iload_n 3, 1) := by decide +kernel
theorem d_law_178 : decode code 178 = .ok (.iconst 1, 1) := by decide +kernel
theorem d_law_179 : decode code 179 = .ok (.iadd, 1) := by decide +kernel
theorem d_law_180 : decode code 180 = .ok (.iaload, 1) := by decide +kernel
theorem d_law_181 : decode code 181 = .ok (.aload_n 0, 1) := by decide +kernel
theorem d_law_182 : decode code 182 = .ok (.iload_n 3, 1) := by decide +kernel
theorem d_law_183 : decode code 183 = .ok (.iconst 2, 1) := by decide +kernel
theorem d_law_184 : decode code 184 = .ok (.iadd, 1) := by decide +kernel
theorem d_law_185 : decode code 185 = .ok (.iaload, 1) := by decide +kernel
theorem d_law_186 : decode code 186 = .ok (.aload_n 0, 1) := by decide +kernel
theorem d_law_187 : decode code 187 = .ok (.iload_n 3, 1) := by decide +kernel
theorem d_law_188 : decode code 188 = .ok (.iconst 3, 1) := by decide +kernel
theorem d_law_189 : decode code 189 = .ok (.iadd, 1) := by decide +kernel
theorem d_law_190 : decode code 190 = .ok (.iaload, 1) := by decide +kernel
theorem d_law_191 : decode code 191 = .ok (.invokevirtual 28, 3) := by decide +kernel
theorem d_law_194 : decode code 194 = .ok (.aload_n 2, 1) := by decide +kernel
theorem d_law_195 : decode code 195 = .ok (.aload_n 0, 1) := by decide +kernel
theorem d_law_196 : decode code 196 = .ok (.iload_n 3, 1) := by decide +kernel
theorem d_law_197 : decode code 197 = .ok (.iconst 1, 1) := by decide +kernel
theorem d_law_198 : decode code 198 = .ok (.iadd, 1) := by decide +kernel
theorem d_law_199 : decode code 199 = .ok (.iaload, 1) := by decide +kernel
theorem d_law_200 : decode code 200 = .ok (.aload_n 0, 1) := by decide +kernel
theorem d_law_201 : decode code 201 = .ok (.iload_n 3, 1) := by decide +kernel
theorem d_law_202 : decode code 202 = .ok (.iconst 2, 1) := by decide +kernel
theorem d_law_203 : decode code 203 = .ok (.iadd, 1) := by decide +kernel
theorem d_law_204 : decode code 204 = .ok (.iaload, 1) := by decide +kernel
theorem d_law_205 : decode code 205 = .ok (.aload_n 0, 1) := by decide +kernel
theorem d_law_206 : decode code 206 = .ok (.iload_n 3, 1) := by decide +kernel
theorem d_law_207 : decode code 207 = .ok (.iconst 3, 1) := by decide +kernel
theorem d_law_208 : decode code 208 = .ok (.iadd, 1) := by decide +kernel
theorem d_law_209 : decode code 209 = .ok (.iaload, 1) := by decide +kernel
theorem d_law_210 : decode code 210 = .ok (.invokevirtual 32, 3) := by decide +kernel
theorem d_law_213 : decode code 213 = .ok (.if_icmp .eq 229, 3) := by decide +kernel
theorem d_law_216 : decode code 216 = .ok (.iconst 0, 1) := by decide +kernel
theorem d_law_217 : decode code 217 = .ok (.ireturn, 1) := by decide +kernel
theorem d_law_218 : decode code 218 = .ok (.aload_n 1, 1) := by decide +kernel
theorem d_law_219 : decode code 219 = .ok (.aload_n 0, 1) := by decide +kernel
theorem d_law_220 : decode code 220 = .ok (.iload_n 3, 1) := by decide +kernel
theorem d_law_221 : decode code 221 = .ok (.iconst 1, 1) := by decide +kernel
theorem d_law_222 : decode code 222 = .ok (.iadd, 1) := by decide +kernel
theorem d_law_223 : decode code 223 = .ok (.iaload, 1) := by decide +kernel
theorem d_law_224 : decode code 224 = .ok (.aload_n 0, 1) := by decide +kernel
theorem d_law_225 : decode code 225 = .ok (.iload_n 3, 1) := by decide +kernel
theorem d_law_226 : decode code 226 = .ok (.iconst 2, 1) := by decide +kernel
theorem d_law_227 : decode code 227 = .ok (.iadd, 1) := by decide +kernel
theorem d_law_228 : decode code 228 = .ok (.iaload, 1) := by decide +kernel
theorem d_law_229 : decode code 229 = .ok (.aload_n 0, 1) := by decide +kernel
theorem d_law_230 : decode code 230 = .ok (.iload_n 3, 1) := by decide +kernel
theorem d_law_231 : decode code 231 = .ok (.iconst 3, 1) := by decide +kernel
theorem d_law_232 : decode code 232 = .ok (.iadd, 1) := by decide +kernel
theorem d_law_233 : decode code 233 = .ok (.iaload, 1) := by decide +kernel
theorem d_law_234 : decode code 234 = .ok (.aload_n 0, 1) := by decide +kernel
theorem d_law_235 : decode code 235 = .ok (.iload_n 3, 1) := by decide +kernel
theorem d_law_236 : decode code 236 = .ok (.iconst 4, 1) := by decide +kernel
theorem d_law_237 : decode code 237 = .ok (.iadd, 1) := by decide +kernel
theorem d_law_238 : decode code 238 = .ok (.iaload, 1) := by decide +kernel
theorem d_law_239 : decode code 239 = .ok (.invokevirtual 33, 3) := by decide +kernel
theorem d_law_242 : decode code 242 = .ok (.aload_n 2, 1) := by decide +kernel
theorem d_law_243 : decode code 243 = .ok (.aload_n 0, 1) := by decide +kernel
theorem d_law_244 : decode code 244 = .ok (.iload_n 3, 1) := by decide +kernel
theorem d_law_245 : decode code 245 = .ok (.iconst 1, 1) := by decide +kernel
theorem d_law_246 : decode code 246 = .ok (.iadd, 1) := by decide +kernel
theorem d_law_247 : decode code 247 = .ok (.iaload, 1) := by decide +kernel
theorem d_law_248 : decode code 248 = .ok (.aload_n 0, 1) := by decide +kernel
theorem d_law_249 : decode code 249 = .ok (.iload_n 3, 1) := by decide +kernel
end
section
theorem d_law_250 : decode code 250 = .ok (.iconst 2, 1) := by decide +kernel
theorem d_law_251 : decode code 251 = .ok (.iadd, 1) := by decide +kernel
theorem d_law_252 : decode code 252 = .ok (.iaload, 1) := by decide +kernel
theorem d_law_253 : decode code 253 = .ok (.aload_n 0, 1) := by decide +kernel
theorem d_law_254 : decode code 254 = .ok (.iload_n 3, 1) := by decide +kernel
theorem d_law_255 : decode code 255 = .ok (.iconst 3, 1) := by decide +kernel
theorem d_law_256 : decode code 256 = .ok (.iadd, 1) := by decide +kernel
theorem d_law_257 : decode code 257 = .ok (.iaload, 1) := by decide +kernel
theorem d_law_258 : decode code 258 = .ok (.aload_n 0, 1) := by decide +kernel
theorem d_law_259 : decode code 259 = .ok (.iload_n 3, 1) := by decide +kernel
theorem d_law_260 : decode code 260 = .ok (.iconst 4, 1) := by decide +kernel
theorem d_law_261 : decode code 261 = .ok (.iadd, 1) := by decide +kernel
theorem d_law_262 : decode code 262 = .ok (.iaload, 1) := by decide +kernel
theorem d_law_263 : decode code 263 = .ok (.invokevirtual 37, 3) := by decide +kernel
theorem d_law_266 : decode code 266 = .ok (.if_icmp .eq 176, 3) := by decide +kernel
theorem d_law_269 : decode code 269 = .ok (.iconst 0, 1) := by decide +kernel
theorem d_law_270 : decode code 270 = .ok (.ireturn, 1) := by decide +kernel
theorem d_law_271 : decode code 271 = .ok (.aload_n 1, 1) := by decide +kernel
theorem d_law_272 : decode code 272 = .ok (.aload_n 0, 1) := by decide +kernel
theorem d_law_273 : decode code 273 = .ok (.iload_n 3, 1) := by decide +kernel
theorem d_law_274 : decode code 274 = .ok (.iconst 1, 1) := by decide +kernel
theorem d_law_275 : decode code 275 = .ok (.iadd, 1) := by decide +kernel
theorem d_law_276 : decode code 276 = .ok (.iaload, 1) := by decide +kernel
theorem d_law_277 : decode code 277 = .ok (.aload_n 0, 1) := by decide +kernel
theorem d_law_278 : decode code 278 = .ok (.iload_n 3, 1) := by decide +kernel
theorem d_law_279 : decode code 279 = .ok (.iconst 2, 1) := by decide +kernel
theorem d_law_280 : decode code 280 = .ok (.iadd, 1) := by decide +kernel
theorem d_law_281 : decode code 281 = .ok (.iaload, 1) := by decide +kernel
theorem d_law_282 : decode code 282 = .ok (.invokevirtual 38, 3) := by decide +kernel
theorem d_law_285 : decode code 285 = .ok (.aload_n 2, 1) := by decide +kernel
theorem d_law_286 : decode code 286 = .ok (.aload_n 0, 1) := by decide +kernel
theorem d_law_287 : decode code 287 = .ok (.iload_n 3, 1) := by decide +kernel
theorem d_law_288 : decode code 288 = .ok (.iconst 1, 1) := by decide +kernel
theorem d_law_289 : decode code 289 = .ok (.iadd, 1) := by decide +kernel
theorem d_law_290 : decode code 290 = .ok (.iaload, 1) := by decide +kernel
theorem d_law_291 : decode code 291 = .ok (.aload_n 0, 1) := by decide +kernel
theorem d_law_292 : decode code 292 = .ok (.iload_n 3, 1) := by decide +kernel
theorem d_law_293 : decode code 293 = .ok (.iconst 2, 1) := by decide +kernel
theorem d_law_294 : decode code 294 = .ok (.iadd, 1) := by decide +kernel
theorem d_law_295 : decode code 295 = .ok (.iaload, 1) := by decide +kernel
theorem d_law_296 : decode code 296 = .ok (.invokevirtual 41, 3) := by decide +kernel
theorem d_law_299 : decode code 299 = .ok (.if_icmp .eq 143, 3) := by decide +kernel
theorem d_law_302 : decode code 302 = .ok (.iconst 0, 1) := by decide +kernel
theorem d_law_303 : decode code 303 = .ok (.ireturn, 1) := by decide +kernel
theorem d_law_304 : decode code 304 = .ok (.aload_n 1, 1) := by decide +kernel
theorem d_law_305 : decode code 305 = .ok (.aload_n 0, 1) := by decide +kernel
theorem d_law_306 : decode code 306 = .ok (.iload_n 3, 1) := by decide +kernel
theorem d_law_307 : decode code 307 = .ok (.iconst 1, 1) := by decide +kernel
theorem d_law_308 : decode code 308 = .ok (.iadd, 1) := by decide +kernel
theorem d_law_309 : decode code 309 = .ok (.iaload, 1) := by decide +kernel
theorem d_law_310 : decode code 310 = .ok (.aload_n 0, 1) := by decide +kernel
theorem d_law_311 : decode code 311 = .ok (.iload_n 3, 1) := by decide +kernel
theorem d_law_312 : decode code 312 = .ok (.iconst 2, 1) := by decide +kernel
theorem d_law_313 : decode code 313 = .ok (.iadd, 1) := by decide +kernel
theorem d_law_314 : decode code 314 = .ok (.iaload, 1) := by decide +kernel
theorem d_law_315 : decode code 315 = .ok (.invokevirtual 42, 3) := by decide +kernel
theorem d_law_318 : decode code 318 = .ok (.aload_n 2, 1) := by decide +kernel
theorem d_law_319 : decode code 319 = .ok (.aload_n 0, 1) := by decide +kernel
theorem d_law_320 : decode code 320 = .ok (.iload_n 3, 1) := by decide +kernel
theorem d_law_321 : decode code 321 = .ok (.iconst 1, 1) := by decide +kernel
theorem d_law_322 : decode code 322 = .ok (.iadd, 1) := by decide +kernel
theorem d_law_323 : decode code 323 = .ok (.iaload, 1) := by decide +kernel
theorem d_law_324 : decode code 324 = .ok (.aload_n 0, 1) := by decide +kernel
theorem d_law_325 : decode code 325 = .ok (.iload_n 3, 1) := by decide +kernel
theorem d_law_326 : decode code 326 = .ok (.iconst 2, 1) := by decide +kernel
theorem d_law_327 : decode code 327 = .ok (.iadd, 1) := by decide +kernel
theorem d_law_328 : decode code 328 = .ok (.iaload, 1) := by decide +kernel
theorem d_law_329 : decode code 329 = .ok (.invokevirtual 45, 3) := by decide +kernel
theorem d_law_332 : decode code 332 = .ok (.if_icmp .eq 110, 3) := by decide +kernel
theorem d_law_335 : decode code 335 = .ok (.iconst 0, 1) := by decide +kernel
theorem d_law_336 : decode code 336 = .ok (.ireturn, 1) := by decide +kernel
theorem d_law_337 : decode code 337 = .ok (.aload_n 1, 1) := by decide +kernel
theorem d_law_338 : decode code 338 = .ok (.aload_n 0, 1) := by decide +kernel
theorem d_law_339 : decode code 339 = .ok (.iload_n 3, 1) := by decide +kernel
theorem d_law_340 : decode code 340 = .ok (.iconst 1, 1) := by decide +kernel
theorem d_law_341 : decode code 341 = .ok (.iadd, 1) := by decide +kernel
theorem d_law_342 : decode code 342 = .ok (.iaload, 1) := by decide +kernel
theorem d_law_343 : decode code 343 = .ok (.invokevirtual 46, 3) := by decide +kernel
theorem d_law_346 : decode code 346 = .ok (.aload_n 2, 1) := by decide +kernel
theorem d_law_347 : decode code 347 = .ok (.aload_n 0, 1) := by decide +kernel
theorem d_law_348 : decode code 348 = .ok (.iload_n 3, 1) := by decide +kernel
theorem d_law_349 : decode code 349 = .ok (.iconst 1, 1) := by decide +kernel
theorem d_law_350 : decode code 350 = .ok (.iadd, 1) := by decide +kernel
theorem d_law_351 : decode code 351 = .ok (.iaload, 1) := by decide +kernel
theorem d_law_352 : decode code 352 = .ok (.invokevirtual 49, 3) := by decide +kernel
theorem d_law_355 : decode code 355 = .ok (.if_icmp .eq 87, 3) := by decide +kernel
theorem d_law_358 : decode code 358 = .ok (.iconst 0, 1) := by decide +kernel
theorem d_law_359 : decode code 359 = .ok (.ireturn, 1) := by decide +kernel
theorem d_law_360 : decode code 360 = .ok (.aload_n 1, 1) := by decide +kernel
theorem d_law_361 : decode code 361 = .ok (.aload_n 0, 1) := by decide +kernel
theorem d_law_362 : decode code 362 = .ok (.iload_n 3, 1) := by decide +kernel
theorem d_law_363 : decode code 363 = .ok (.iconst 1, 1) := by decide +kernel
theorem d_law_364 : decode code 364 = .ok (.iadd, 1) := by decide +kernel
theorem d_law_365 : decode code 365 = .ok (.iaload, 1) := by decide +kernel
theorem d_law_366 : decode code 366 = .ok (.aload_n 0, 1) := by decide +kernel
theorem d_law_367 : decode code 367 = .ok (.iload_n 3, 1) := by decide +kernel
theorem d_law_368 : decode code 368 = .ok (.iconst 2, 1) := by decide +kernel
theorem d_law_369 : decode code 369 = .ok (.iadd, 1) := by decide +kernel
theorem d_law_370 : decode code 370 = .ok (.iaload, 1) := by decide +kernel
theorem d_law_371 : decode code 371 = .ok (.invokevirtual 50, 3) := by decide +kernel
theorem d_law_374 : decode code 374 = .ok (.aload_n 2, 1) := by decide +kernel
theorem d_law_375 : decode code 375 = .ok (.aload_n 0, 1) := by decide +kernel
theorem d_law_376 : decode code 376 = .ok (.iload_n 3, 1) := by decide +kernel
theorem d_law_377 : decode code 377 = .ok (.iconst 1, 1) := by decide +kernel
theorem d_law_378 : decode code 378 = .ok (.iadd, 1) := by decide +kernel
theorem d_law_379 : decode code 379 = .ok (.iaload, 1) := by decide +kernel
theorem d_law_380 : decode code 380 = .ok (.aload_n 0, 1) := by decide +kernel
theorem d_law_381 : decode code 381 = .ok (.iload_n 3, 1) := by decide +kernel
theorem d_law_382 : decode code 382 = .ok (.iconst 2, 1) := by decide +kernel
theorem d_law_383 : decode code 383 = .ok (.iadd, 1) := by decide +kernel
theorem d_law_384 : decode code 384 = .ok (.iaload, 1) := by decide +kernel
theorem d_law_385 : decode code 385 = .ok (.invokevirtual 53, 3) := by decide +kernel
theorem d_law_388 : decode code 388 = .ok (.if_icmp .eq 54, 3) := by decide +kernel
theorem d_law_391 : decode code 391 = .ok (.iconst 0, 1) := by decide +kernel
theorem d_law_392 : decode code 392 = .ok (.ireturn, 1) := by decide +kernel
theorem d_law_393 : decode code 393 = .ok (.aload_n 1, 1) := by decide +kernel
theorem d_law_394 : decode code 394 = .ok (.aload_n 0, 1) := by decide +kernel
theorem d_law_395 : decode code 395 = .ok (.iload_n 3, 1) := by decide +kernel
theorem d_law_396 : decode code 396 = .ok (.iconst 1, 1) := by decide +kernel
theorem d_law_397 : decode code 397 = .ok (.iadd, 1) := by decide +kernel
theorem d_law_398 : decode code 398 = .ok (.iaload, 1) := by decide +kernel
theorem d_law_399 : decode code 399 = .ok (.invokevirtual 54, 3) := by decide +kernel
theorem d_law_402 : decode code 402 = .ok (.aload_n 2, 1) := by decide +kernel
theorem d_law_403 : decode code 403 = .ok (.aload_n 0, 1) := by decide +kernel
theorem d_law_404 : decode code 404 = .ok (.iload_n 3, 1) := by decide +kernel
theorem d_law_405 : decode code 405 = .ok (.iconst 1, 1) := by decide +kernel
theorem d_law_406 : decode code 406 = .ok (.iadd, 1) := by decide +kernel
theorem d_law_407 : decode code 407 = .ok (.iaload, 1) := by decide +kernel
theorem d_law_408 : decode code 408 = .ok (.invokevirtual 57, 3) := by decide +kernel
theorem d_law_411 : decode code 411 = .ok (.if_icmp .eq 31, 3) := by decide +kernel
theorem d_law_414 : decode code 414 = .ok (.iconst 0, 1) := by decide +kernel
theorem d_law_415 : decode code 415 = .ok (.ireturn, 1) := by decide +kernel
theorem d_law_416 : decode code 416 = .ok (.aload_n 1, 1) := by decide +kernel
theorem d_law_417 : decode code 417 = .ok (.invokevirtual 58, 3) := by decide +kernel
theorem d_law_420 : decode code 420 = .ok (.aload_n 2, 1) := by decide +kernel
theorem d_law_421 : decode code 421 = .ok (.invokevirtual 62, 3) := by decide +kernel
theorem d_law_424 : decode code 424 = .ok (.if_icmp .eq 18, 3) := by decide +kernel
theorem d_law_427 : decode code 427 = .ok (.iconst 0, 1) := by decide +kernel
theorem d_law_428 : decode code 428 = .ok (.ireturn, 1) := by decide +kernel
theorem d_law_429 : decode code 429 = .ok (.aload_n 1, 1) := by decide +kernel
theorem d_law_430 : decode code 430 = .ok (.invokevirtual 63, 3) := by decide +kernel
theorem d_law_433 : decode code 433 = .ok (.aload_n 2, 1) := by decide +kernel
theorem d_law_434 : decode code 434 = .ok (.invokevirtual 66, 3) := by decide +kernel
theorem d_law_437 : decode code 437 = .ok (.if_icmp .eq 5, 3) := by decide +kernel
theorem d_law_440 : decode code 440 = .ok (.iconst 0, 1) := by decide +kernel
theorem d_law_441 : decode code 441 = .ok (.ireturn, 1) := by decide +kernel
theorem d_law_442 : decode code 442 = .ok (.iinc 3 5, 3) := by decide +kernel
theorem d_law_445 : decode code 445 = .ok (.goto (-427), 3) := by decide +kernel
theorem d_law_448 : decode code 448 = .ok (.iconst 1, 1) := by decide +kernel
theorem d_law_449 : decode code 449 = .ok (.ireturn, 1) := by decide +kernel
end
section
abbrev TY (cB cI cZ : ClassId) : List (ClassId × FieldType) := [(cB, .byte), (cI, .int), (cZ, .boolean)]
/-- an int array whose contents are numbers -/
def nF (A : Nat → Nat) : Nat → Int32 := fun k => nI (A k)
theorem nF_up (A : Nat → Nat) (h v : Nat) : upd (nF A) h (nI v) = nF (va_up A h v) := by
  funext k
  unfold upd nF va_up
  by_cases hk : k = h <;> simp [hk]
abbrev rmL (k : Nat) : Room := { frames := k, cells := 0, slots := 0, locals := 30 * k }
def NoA : Nat → Prop := fun _ => False
def inA (ws : va_W) : Nat → Prop := fun q => ∃ (k : Nat) (x : va_E), ws[k]? = some (q, x)
def Wd (D : va_G) (cB cI cZ : ClassId) (ws : va_W) (U : State) : Prop := va_P D classes ws U.heap ∧ va_K D classes (TY cB cI cZ) U ∧ va_D (fun _ => True) ws
/-- a pure method's end: it answers v, no cell has changed -/
abbrev Qi (v : Int32) : Array Value → State → Outcome → State → Prop := va_Qi (fun r (_ : Unit) => r = v) (fun _ _ => True) NoA
/-- an end with cells w1 u -/
abbrev Qmv {T : Type} (D : va_G) (post : T → Prop) (w1 : T → va_W) (wc : va_W) : Array Value → State → Outcome → State → Prop := va_Qv post (fun u t => va_P D classes (w1 u) t.heap) (inA wc)
abbrev Qmi {T : Type} (D : va_G) (post : Int32 → T → Prop) (w1 : T → va_W) (wc : va_W) : Array Value → State → Outcome → State → Prop := va_Qi post (fun u t => va_P D classes (w1 u) t.heap) (inA wc)
theorem inA_self {A : Nat → Prop} {ws : va_W} (h : va_D A ws) : va_D (inA ws) ws := ⟨h.1, fun k q hk => ⟨k, q.2, hk⟩⟩
/-- apart: by the addresses alone -/
theorem dA {A : Nat → Prop} {ws ws' : va_W} (h : va_D A ws) (he : ws'.map Prod.fst = ws.map Prod.fst) : va_D A ws' := by
  have key : ∀ (k : Nat) (q : Nat × va_E), ws'[k]? = some q → ∃ q0, ws[k]? = some q0 ∧ q0.1 = q.1 := by
    intro k q hk
    have h1 : (ws'.map Prod.fst)[k]? = some q.1 := by rw [List.getElem?_map, hk]; rfl
    rw [he, List.getElem?_map] at h1
    cases hq : ws[k]? with
    | none => rw [hq] at h1; cases h1
    | some q0 => rw [hq] at h1; exact ⟨q0, rfl, Option.some.inj h1⟩
  refine ⟨fun i j x y hi hj hxy => ?_, fun k q hk => ?_⟩
  · obtain ⟨x0, e1, e2⟩ := key i x hi
    obtain ⟨y0, e3, e4⟩ := key j y hj
    exact h.1 i j x0 y0 e1 e3 (by rw [e2, e4, hxy])
  · obtain ⟨q0, e1, e2⟩ := key k q hk
    rw [← e2]
    exact h.2 k q0 e1
theorem bl_Wd {D : va_G} {cB cI cZ : ClassId} {ws : va_W} {av : List Value} : FrameBlind (va_Pc av (Wd D cB cI cZ ws)) := fun a U g mk q => ⟨q.1, q.2.1, va_K.moved (u := U) (U := U.calling g mk a) (Vm.Alike.refl U.vm) q.2.2.1, q.2.2.2⟩
theorem gV {own C : String} {idx n : Nat} {y : MethodName} {b : ByteArray} {r : Option FieldType} (h1 : Cond.methodLink own idx y ∈ aw) (h2 : Cond.instanceMethod y ∈ aw) (h3 : Cond.selects C y y ∈ aw) (h4 : Cond.initialized C ∈ aw) (h5 : Cond.code y b n r ∈ aw) : GoodIn aw (wsV own idx C y (Cond.code y b n r :: aw)) := by
  intro w hw
  refine aw_good w ?_
  unfold wsV at hw
  rcases List.mem_append.mp hw with hw | hw
  · simp only [List.mem_cons, List.not_mem_nil, or_false] at hw
    rcases hw with rfl | rfl | rfl | rfl
    · exact h1
    · exact h2
    · exact h3
    · exact h4
  · rcases List.mem_cons.mp hw with rfl | hw
    · exact h5
    · exact hw
theorem gS {own : String} {idx n : Nat} {y : MethodName} {b : ByteArray} {r : Option FieldType} (h1 : Cond.methodLink own idx y ∈ aw) (h2 : Cond.static y ∈ aw) (h4 : Cond.initialized y.cls ∈ aw) (h5 : Cond.code y b n r ∈ aw) : GoodIn aw (va_wsS own idx y (Cond.code y b n r :: aw)) := by
  intro w hw
  refine aw_good w ?_
  unfold va_wsS at hw
  rcases List.mem_append.mp hw with hw | hw
  · simp only [List.mem_cons, List.not_mem_nil, or_false] at hw
    rcases hw with rfl | rfl | rfl
    · exact h1
    · exact h2
    · exact h4
  · rcases List.mem_cons.mp hw with rfl | hw
    · exact h5
    · exact hw
theorem gI {n : Nat} {y : MethodName} {b : ByteArray} {r : Option FieldType} (h5 : Cond.code y b n r ∈ aw) : GoodIn aw (Cond.code y b n r :: aw) := by
  intro w hw
  refine aw_good w ?_
  rcases List.mem_cons.mp hw with rfl | hw
  · exact h5
  · exact hw
/-- a contract out of a walk of its body -/
theorem entry {l : Launch} {y : MethodName} {cc : ByteArray} {maxL : Nat} {ret : Option FieldType} {rm : Room} {av : List Value} {Pre : State → Prop} {Qc : Array Value → State → Outcome → State → Prop} {mc ms : Nat} {free : Addr → Prop} (hy : plainName y.cls = true) (hlen : (lg_sl av).length ≤ maxL)
    (body : ∀ (p : Program) (e : Env) (s : State) (m : MethodId) (args : Array Value) (below : List Frame) (meth : Method) (c : Code), CallFix p m c cc maxL s args aw y.cls → meth.sig.returnType = ret → meth.locks = false → (y.name = "<init>" → meth.name = "<init>") → Pre s → ∀ ls : Array Slot, lv_has ls maxL (lv_args 0 av) →
      W p l e rm s m args below meth c s.heap [] 0 0 (MQ below Qc args s mc ms free) (F0 m 0 ls [])) : Met l y (Cond.code y cc maxL ret :: aw) rm (va_Pc av Pre) Qc mc ms free := by
  refine Met.ofW (cc := cc) (maxL := maxL) (ret := ret) hy rfl ?_
  intro p e s m args below meth c s₁ B hml hv
  obtain ⟨rfl, hPre⟩ := hv
  have hts := atoms_spec (ws := Cond.code y cc maxL ret :: aw) B.pre
  have hown : s.vm.findClass y.cls = some m.cls := findClass_of_methodNamed B.named
  have hl := lv_entry av (n := maxL) hlen
  rw [lg_entry_eq]
  exact body p e s m _ below meth c ⟨B.exec, B.bytes, hml, hown, fun w h => hts w (List.mem_cons_of_mem _ h)⟩ B.returns B.notSynchronized (fun h => (name_of_methodNamed B.named B.method).1.trans h) hPre _ hl
section MyRows
variable {p : Program} {l : Launch} {e : Env} {R : Room} {s : State} {m : MethodId} {args : Array Value} {below : List Frame} {meth : Method} {c : Code} {H : Heap} {locs : List Loc} {cells slots : Nat} {Q : State → Prop}
variable {cc : ByteArray} {pc : Nat} {ls : Array Slot} {rest : List Value} {D : va_G} {cB cI cZ : ClassId} {A : Nat → Prop} {a : Nat} {ws : va_W} {H0 : Heap} {nL : Nat} {own : String}
/-- the number on top under another name -/
theorem tpE {x y : Int32} (h : x = y) (k : W p l e R s m args below meth c H locs cells slots Q (F0 m pc ls (.int y :: rest))) : W p l e R s m args below meth c H locs cells slots Q (F0 m pc ls (.int x :: rest)) := by
  subst h
  exact k
/-- the number below the top under another name -/
theorem tpF {x y : Int32} {z : Value} (h : x = y) (k : W p l e R s m args below meth c H locs cells slots Q (F0 m pc ls (z :: .int y :: rest))) : W p l e R s m args below meth c H locs cells slots Q (F0 m pc ls (z :: .int x :: rest)) := by
  subst h
  exact k
theorem ldI (S : CallFix p m c cc nL s args aw own) (hK : va_K D classes (TY cB cI cZ) s) (hP : va_P D classes ws H) (q0 : Nat) {n : Nat} {f : Nat → Int32} (ha : ws[q0]? = some (a, .inl (cI, n, .inl f))) {i : Int32} (k : Nat) (hi : i = nI k) (hk : k < n) {v : Int32} (hv : f k = v) (hdg : decode cc pc = .ok (.iaload, 1))
    (kk : W p l e R s m args below meth c H locs cells slots Q (F0 m (pc + 1) ls (.int v :: rest))) (hn : n < 2 ^ 31 := by decide) : W p l e R s m args below meth c H locs cells slots Q (F0 m pc ls (.int i :: .ref a :: rest)) := by
  subst hi hv
  refine va_iald S.1 S.2.1 hK hP q0 1 ha rfl (vp_in_nI hk hn) hdg ?_
  rw [nI_clamp (by omega)]
  exact kk
theorem ldB (S : CallFix p m c cc nL s args aw own) (hK : va_K D classes (TY cB cI cZ) s) (hP : va_P D classes ws H) (q0 : Nat) {n : Nat} {f : Nat → Int32} (ha : ws[q0]? = some (a, .inl (cB, n, .inl f))) {i : Int32} (k : Nat) (hi : i = nI k) (hk : k < n) {v : Int32} (hv : f k = v) (hdg : decode cc pc = .ok (.baload, 1))
    (kk : W p l e R s m args below meth c H locs cells slots Q (F0 m (pc + 1) ls (.int v :: rest))) (hn : n < 2 ^ 31 := by decide) : W p l e R s m args below meth c H locs cells slots Q (F0 m pc ls (.int i :: .ref a :: rest)) := by
  subst hi hv
  refine va_bald S.1 S.2.1 hK hP q0 0 ha rfl (vp_in_nI hk hn) hdg ?_
  rw [nI_clamp (by omega)]
  exact kk
theorem ldZ (S : CallFix p m c cc nL s args aw own) (hK : va_K D classes (TY cB cI cZ) s) (hP : va_P D classes ws H) (q0 : Nat) {n : Nat} {f : Nat → Int32} (ha : ws[q0]? = some (a, .inl (cZ, n, .inl f))) {i : Int32} (k : Nat) (hi : i = nI k) (hk : k < n) {v : Int32} (hv : f k = v) (hdg : decode cc pc = .ok (.baload, 1))
    (kk : W p l e R s m args below meth c H locs cells slots Q (F0 m (pc + 1) ls (.int v :: rest))) (hn : n < 2 ^ 31 := by decide) : W p l e R s m args below meth c H locs cells slots Q (F0 m pc ls (.int i :: .ref a :: rest)) := by
  subst hi hv
  refine va_zald S.1 S.2.1 hK hP q0 2 ha rfl (vp_in_nI hk hn) hdg ?_
  rw [nI_clamp (by omega)]
  exact kk
theorem stI (S : CallFix p m c cc nL s args aw own) (hK : va_K D classes (TY cB cI cZ) s) (hP : va_P D classes ws H) (hD : va_D A ws) (hS : va_S A H0 H locs) (q0 : Nat) {n : Nat} {f : Nat → Int32} (ha : ws[q0]? = some (a, .inl (cI, n, .inl f))) {i x : Int32} (k : Nat) (hi : i = nI k) (hk : k < n) {g : Nat → Int32} (hg : upd f k x = g) (hdg : decode cc pc = .ok (.iastore, 1))
    (kk : ∀ (H1 : Heap) (locs1 : List Loc), va_P D classes (ws.set q0 (a, .inl (cI, n, .inl g))) H1 → va_D A (ws.set q0 (a, .inl (cI, n, .inl g))) → va_S A H0 H1 locs1 → W p l e R s m args below meth c H1 locs1 cells slots Q (F0 m (pc + 1) ls rest)) (hn : n < 2 ^ 31 := by decide) : W p l e R s m args below meth c H locs cells slots Q (F0 m pc ls (.int x :: .int i :: .ref a :: rest)) := by
  subst hi hg
  refine va_iast S.1 S.2.1 hK hP hD hS q0 1 ha rfl (vp_in_nI hk hn) hdg (fun H1 locs1 h1 h2 h3 => ?_)
  rw [nI_clamp (by omega)] at h1 h2
  exact kk H1 locs1 h1 h2 h3
theorem stB (S : CallFix p m c cc nL s args aw own) (hK : va_K D classes (TY cB cI cZ) s) (hP : va_P D classes ws H) (hD : va_D A ws) (hS : va_S A H0 H locs) (q0 : Nat) {n : Nat} {f : Nat → Int32} (ha : ws[q0]? = some (a, .inl (cB, n, .inl f))) {i x : Int32} (k : Nat) (hi : i = nI k) (hk : k < n) {g : Nat → Int32} (hg : upd f k x.toInt8.toInt32 = g) (hdg : decode cc pc = .ok (.bastore, 1))
    (kk : ∀ (H1 : Heap) (locs1 : List Loc), va_P D classes (ws.set q0 (a, .inl (cB, n, .inl g))) H1 → va_D A (ws.set q0 (a, .inl (cB, n, .inl g))) → va_S A H0 H1 locs1 → W p l e R s m args below meth c H1 locs1 cells slots Q (F0 m (pc + 1) ls rest)) (hn : n < 2 ^ 31 := by decide) : W p l e R s m args below meth c H locs cells slots Q (F0 m pc ls (.int x :: .int i :: .ref a :: rest)) := by
  subst hi hg
  refine va_bast S.1 S.2.1 hK hP hD hS q0 0 ha rfl (vp_in_nI hk hn) hdg (fun H1 locs1 h1 h2 h3 => ?_)
  rw [nI_clamp (by omega)] at h1 h2
  exact kk H1 locs1 h1 h2 h3
theorem stZ (S : CallFix p m c cc nL s args aw own) (hK : va_K D classes (TY cB cI cZ) s) (hP : va_P D classes ws H) (hD : va_D A ws) (hS : va_S A H0 H locs) (q0 : Nat) {n : Nat} {f : Nat → Int32} (ha : ws[q0]? = some (a, .inl (cZ, n, .inl f))) {i x : Int32} (k : Nat) (hi : i = nI k) (hk : k < n) {g : Nat → Int32} (hg : upd f k (vp_nar .boolean x) = g) (hdg : decode cc pc = .ok (.bastore, 1))
    (kk : ∀ (H1 : Heap) (locs1 : List Loc), va_P D classes (ws.set q0 (a, .inl (cZ, n, .inl g))) H1 → va_D A (ws.set q0 (a, .inl (cZ, n, .inl g))) → va_S A H0 H1 locs1 → W p l e R s m args below meth c H1 locs1 cells slots Q (F0 m (pc + 1) ls rest)) (hn : n < 2 ^ 31 := by decide) : W p l e R s m args below meth c H locs cells slots Q (F0 m pc ls (.int x :: .int i :: .ref a :: rest)) := by
  subst hi hg
  refine va_zast S.1 S.2.1 hK hP hD hS q0 2 ha rfl (vp_in_nI hk hn) hdg (fun H1 locs1 h1 h2 h3 => ?_)
  rw [nI_clamp (by omega)] at h1 h2
  exact kk H1 locs1 h1 h2 h3
theorem gf_S_bytes (S : CallFix p m c cc nL s args aw R_S) (hK : va_K D classes (TY cB cI cZ) s) (hP : va_P D classes ws H) (q0 : Nat) {fs : List Value} (he : ws[q0]? = some (a, .inr (0, fs))) {v : Value} (hv : fs[0]? = some v) (hdg : decode cc pc = .ok (.getfield 12, 3))
    (kk : W p l e R s m args below meth c H locs cells slots Q (F0 m (pc + 3) ls (v :: rest))) : W p l e R s m args below meth c H locs cells slots Q (F0 m pc ls (.ref a :: rest)) :=
  va_get (C := R_S) (T := F_S) (N := 11) S.1 S.2.1 S.2.2.2.2 i_S S.2.2.2.1 hK hP q0 he rfl 0 (by decide) (S.2.2.2.2 _ k_fl_S_12) (fun _ h9 => h9) hv hdg kk
theorem pf_S_bytes (S : CallFix p m c cc nL s args aw R_S) (hin : meth.name = "<init>") (hK : va_K D classes (TY cB cI cZ) s) (hP : va_P D classes ws H) (hD : va_D A ws) (hS : va_S A H0 H locs) (q0 : Nat) {fs : List Value} (he : ws[q0]? = some (a, .inr (0, fs))) {x : Nat} (hl : 0 < fs.length) (hdg : decode cc pc = .ok (.putfield 12, 3))
    (kk : ∀ (H1 : Heap) (locs1 : List Loc), va_P D classes (ws.set q0 (a, .inr (0, fs.set 0 (.ref x)))) H1 → va_D A (ws.set q0 (a, .inr (0, fs.set 0 (.ref x)))) → va_S A H0 H1 locs1 → W p l e R s m args below meth c H1 locs1 cells slots Q (F0 m (pc + 3) ls rest)) : W p l e R s m args below meth c H locs cells slots Q (F0 m pc ls (.ref x :: .ref a :: rest)) :=
  va_putF (C := R_S) (T := F_S) (N := 11) S.1 S.2.1 S.2.2.2.2 i_S t_S t_S_ok n_S S.2.2.2.1 hK hP hD hS q0 he rfl 0 (by decide) (S.2.2.2.2 _ k_fl_S_12) (fun _ h9 => h9) rfl hin rfl (ty := .array .byte) (by decide +kernel) rfl rfl hl hdg kk
theorem gf_S_at (S : CallFix p m c cc nL s args aw R_S) (hK : va_K D classes (TY cB cI cZ) s) (hP : va_P D classes ws H) (q0 : Nat) {fs : List Value} (he : ws[q0]? = some (a, .inr (0, fs))) {v : Value} (hv : fs[1]? = some v) (hdg : decode cc pc = .ok (.getfield 16, 3))
    (kk : W p l e R s m args below meth c H locs cells slots Q (F0 m (pc + 3) ls (v :: rest))) : W p l e R s m args below meth c H locs cells slots Q (F0 m pc ls (.ref a :: rest)) :=
  va_get (C := R_S) (T := F_S) (N := 11) S.1 S.2.1 S.2.2.2.2 i_S S.2.2.2.1 hK hP q0 he rfl 1 (by decide) (S.2.2.2.2 _ k_fl_S_16) (fun _ h9 => h9) hv hdg kk
theorem pf_S_at (S : CallFix p m c cc nL s args aw R_S) (hin : meth.name = "<init>") (hK : va_K D classes (TY cB cI cZ) s) (hP : va_P D classes ws H) (hD : va_D A ws) (hS : va_S A H0 H locs) (q0 : Nat) {fs : List Value} (he : ws[q0]? = some (a, .inr (0, fs))) {x : Nat} (hl : 1 < fs.length) (hdg : decode cc pc = .ok (.putfield 16, 3))
    (kk : ∀ (H1 : Heap) (locs1 : List Loc), va_P D classes (ws.set q0 (a, .inr (0, fs.set 1 (.ref x)))) H1 → va_D A (ws.set q0 (a, .inr (0, fs.set 1 (.ref x)))) → va_S A H0 H1 locs1 → W p l e R s m args below meth c H1 locs1 cells slots Q (F0 m (pc + 3) ls rest)) : W p l e R s m args below meth c H locs cells slots Q (F0 m pc ls (.ref x :: .ref a :: rest)) :=
  va_putF (C := R_S) (T := F_S) (N := 11) S.1 S.2.1 S.2.2.2.2 i_S t_S t_S_ok n_S S.2.2.2.1 hK hP hD hS q0 he rfl 1 (by decide) (S.2.2.2.2 _ k_fl_S_16) (fun _ h9 => h9) rfl hin rfl (ty := .array .int) (by decide +kernel) rfl rfl hl hdg kk
theorem gf_S_size (S : CallFix p m c cc nL s args aw R_S) (hK : va_K D classes (TY cB cI cZ) s) (hP : va_P D classes ws H) (q0 : Nat) {fs : List Value} (he : ws[q0]? = some (a, .inr (0, fs))) {v : Value} (hv : fs[2]? = some v) (hdg : decode cc pc = .ok (.getfield 20, 3))
    (kk : W p l e R s m args below meth c H locs cells slots Q (F0 m (pc + 3) ls (v :: rest))) : W p l e R s m args below meth c H locs cells slots Q (F0 m pc ls (.ref a :: rest)) :=
  va_get (C := R_S) (T := F_S) (N := 11) S.1 S.2.1 S.2.2.2.2 i_S S.2.2.2.1 hK hP q0 he rfl 2 (by decide) (S.2.2.2.2 _ k_fl_S_20) (fun _ h9 => h9) hv hdg kk
theorem pf_S_size (S : CallFix p m c cc nL s args aw R_S) (hin : meth.name = "<init>") (hK : va_K D classes (TY cB cI cZ) s) (hP : va_P D classes ws H) (hD : va_D A ws) (hS : va_S A H0 H locs) (q0 : Nat) {fs : List Value} (he : ws[q0]? = some (a, .inr (0, fs))) {x : Nat} (hl : 2 < fs.length) (hdg : decode cc pc = .ok (.putfield 20, 3))
    (kk : ∀ (H1 : Heap) (locs1 : List Loc), va_P D classes (ws.set q0 (a, .inr (0, fs.set 2 (.ref x)))) H1 → va_D A (ws.set q0 (a, .inr (0, fs.set 2 (.ref x)))) → va_S A H0 H1 locs1 → W p l e R s m args below meth c H1 locs1 cells slots Q (F0 m (pc + 3) ls rest)) : W p l e R s m args below meth c H locs cells slots Q (F0 m pc ls (.ref x :: .ref a :: rest)) :=
  va_putF (C := R_S) (T := F_S) (N := 11) S.1 S.2.1 S.2.2.2.2 i_S t_S t_S_ok n_S S.2.2.2.1 hK hP hD hS q0 he rfl 2 (by decide) (S.2.2.2.2 _ k_fl_S_20) (fun _ h9 => h9) rfl hin rfl (ty := .array .int) (by decide +kernel) rfl rfl hl hdg kk
theorem gf_S_room (S : CallFix p m c cc nL s args aw R_S) (hK : va_K D classes (TY cB cI cZ) s) (hP : va_P D classes ws H) (q0 : Nat) {fs : List Value} (he : ws[q0]? = some (a, .inr (0, fs))) {v : Value} (hv : fs[3]? = some v) (hdg : decode cc pc = .ok (.getfield 23, 3))
    (kk : W p l e R s m args below meth c H locs cells slots Q (F0 m (pc + 3) ls (v :: rest))) : W p l e R s m args below meth c H locs cells slots Q (F0 m pc ls (.ref a :: rest)) :=
  va_get (C := R_S) (T := F_S) (N := 11) S.1 S.2.1 S.2.2.2.2 i_S S.2.2.2.1 hK hP q0 he rfl 3 (by decide) (S.2.2.2.2 _ k_fl_S_23) (fun _ h9 => h9) hv hdg kk
theorem pf_S_room (S : CallFix p m c cc nL s args aw R_S) (hin : meth.name = "<init>") (hK : va_K D classes (TY cB cI cZ) s) (hP : va_P D classes ws H) (hD : va_D A ws) (hS : va_S A H0 H locs) (q0 : Nat) {fs : List Value} (he : ws[q0]? = some (a, .inr (0, fs))) {x : Nat} (hl : 3 < fs.length) (hdg : decode cc pc = .ok (.putfield 23, 3))
    (kk : ∀ (H1 : Heap) (locs1 : List Loc), va_P D classes (ws.set q0 (a, .inr (0, fs.set 3 (.ref x)))) H1 → va_D A (ws.set q0 (a, .inr (0, fs.set 3 (.ref x)))) → va_S A H0 H1 locs1 → W p l e R s m args below meth c H1 locs1 cells slots Q (F0 m (pc + 3) ls rest)) : W p l e R s m args below meth c H locs cells slots Q (F0 m pc ls (.ref x :: .ref a :: rest)) :=
  va_putF (C := R_S) (T := F_S) (N := 11) S.1 S.2.1 S.2.2.2.2 i_S t_S t_S_ok n_S S.2.2.2.1 hK hP hD hS q0 he rfl 3 (by decide) (S.2.2.2.2 _ k_fl_S_23) (fun _ h9 => h9) rfl hin rfl (ty := .array .int) (by decide +kernel) rfl rfl hl hdg kk
theorem gf_S_next (S : CallFix p m c cc nL s args aw R_S) (hK : va_K D classes (TY cB cI cZ) s) (hP : va_P D classes ws H) (q0 : Nat) {fs : List Value} (he : ws[q0]? = some (a, .inr (0, fs))) {v : Value} (hv : fs[4]? = some v) (hdg : decode cc pc = .ok (.getfield 26, 3))
    (kk : W p l e R s m args below meth c H locs cells slots Q (F0 m (pc + 3) ls (v :: rest))) : W p l e R s m args below meth c H locs cells slots Q (F0 m pc ls (.ref a :: rest)) :=
  va_get (C := R_S) (T := F_S) (N := 11) S.1 S.2.1 S.2.2.2.2 i_S S.2.2.2.1 hK hP q0 he rfl 4 (by decide) (S.2.2.2.2 _ k_fl_S_26) (fun _ h9 => h9) hv hdg kk
theorem pf_S_next (S : CallFix p m c cc nL s args aw R_S) (hin : meth.name = "<init>") (hK : va_K D classes (TY cB cI cZ) s) (hP : va_P D classes ws H) (hD : va_D A ws) (hS : va_S A H0 H locs) (q0 : Nat) {fs : List Value} (he : ws[q0]? = some (a, .inr (0, fs))) {x : Nat} (hl : 4 < fs.length) (hdg : decode cc pc = .ok (.putfield 26, 3))
    (kk : ∀ (H1 : Heap) (locs1 : List Loc), va_P D classes (ws.set q0 (a, .inr (0, fs.set 4 (.ref x)))) H1 → va_D A (ws.set q0 (a, .inr (0, fs.set 4 (.ref x)))) → va_S A H0 H1 locs1 → W p l e R s m args below meth c H1 locs1 cells slots Q (F0 m (pc + 3) ls rest)) : W p l e R s m args below meth c H locs cells slots Q (F0 m pc ls (.ref x :: .ref a :: rest)) :=
  va_putF (C := R_S) (T := F_S) (N := 11) S.1 S.2.1 S.2.2.2.2 i_S t_S t_S_ok n_S S.2.2.2.1 hK hP hD hS q0 he rfl 4 (by decide) (S.2.2.2.2 _ k_fl_S_26) (fun _ h9 => h9) rfl hin rfl (ty := .array .int) (by decide +kernel) rfl rfl hl hdg kk
theorem gf_S_last (S : CallFix p m c cc nL s args aw R_S) (hK : va_K D classes (TY cB cI cZ) s) (hP : va_P D classes ws H) (q0 : Nat) {fs : List Value} (he : ws[q0]? = some (a, .inr (0, fs))) {v : Value} (hv : fs[5]? = some v) (hdg : decode cc pc = .ok (.getfield 29, 3))
    (kk : W p l e R s m args below meth c H locs cells slots Q (F0 m (pc + 3) ls (v :: rest))) : W p l e R s m args below meth c H locs cells slots Q (F0 m pc ls (.ref a :: rest)) :=
  va_get (C := R_S) (T := F_S) (N := 11) S.1 S.2.1 S.2.2.2.2 i_S S.2.2.2.1 hK hP q0 he rfl 5 (by decide) (S.2.2.2.2 _ k_fl_S_29) (fun _ h9 => h9) hv hdg kk
theorem pf_S_last (S : CallFix p m c cc nL s args aw R_S) (hin : meth.name = "<init>") (hK : va_K D classes (TY cB cI cZ) s) (hP : va_P D classes ws H) (hD : va_D A ws) (hS : va_S A H0 H locs) (q0 : Nat) {fs : List Value} (he : ws[q0]? = some (a, .inr (0, fs))) {x : Nat} (hl : 5 < fs.length) (hdg : decode cc pc = .ok (.putfield 29, 3))
    (kk : ∀ (H1 : Heap) (locs1 : List Loc), va_P D classes (ws.set q0 (a, .inr (0, fs.set 5 (.ref x)))) H1 → va_D A (ws.set q0 (a, .inr (0, fs.set 5 (.ref x)))) → va_S A H0 H1 locs1 → W p l e R s m args below meth c H1 locs1 cells slots Q (F0 m (pc + 3) ls rest)) : W p l e R s m args below meth c H locs cells slots Q (F0 m pc ls (.ref x :: .ref a :: rest)) :=
  va_putF (C := R_S) (T := F_S) (N := 11) S.1 S.2.1 S.2.2.2.2 i_S t_S t_S_ok n_S S.2.2.2.1 hK hP hD hS q0 he rfl 5 (by decide) (S.2.2.2.2 _ k_fl_S_29) (fun _ h9 => h9) rfl hin rfl (ty := .array .int) (by decide +kernel) rfl rfl hl hdg kk
theorem gf_S_first (S : CallFix p m c cc nL s args aw R_S) (hK : va_K D classes (TY cB cI cZ) s) (hP : va_P D classes ws H) (q0 : Nat) {fs : List Value} (he : ws[q0]? = some (a, .inr (0, fs))) {v : Value} (hv : fs[6]? = some v) (hdg : decode cc pc = .ok (.getfield 32, 3))
    (kk : W p l e R s m args below meth c H locs cells slots Q (F0 m (pc + 3) ls (v :: rest))) : W p l e R s m args below meth c H locs cells slots Q (F0 m pc ls (.ref a :: rest)) :=
  va_get (C := R_S) (T := F_S) (N := 11) S.1 S.2.1 S.2.2.2.2 i_S S.2.2.2.1 hK hP q0 he rfl 6 (by decide) (S.2.2.2.2 _ k_fl_S_32) (fun _ h9 => h9) hv hdg kk
theorem pf_S_first (S : CallFix p m c cc nL s args aw R_S) (hK : va_K D classes (TY cB cI cZ) s) (hP : va_P D classes ws H) (hD : va_D A ws) (hS : va_S A H0 H locs) (q0 : Nat) {fs : List Value} (he : ws[q0]? = some (a, .inr (0, fs))) {x : Int32} (hl : 6 < fs.length) (hdg : decode cc pc = .ok (.putfield 32, 3))
    (kk : ∀ (H1 : Heap) (locs1 : List Loc), va_P D classes (ws.set q0 (a, .inr (0, fs.set 6 (.int x)))) H1 → va_D A (ws.set q0 (a, .inr (0, fs.set 6 (.int x)))) → va_S A H0 H1 locs1 → W p l e R s m args below meth c H1 locs1 cells slots Q (F0 m (pc + 3) ls rest)) : W p l e R s m args below meth c H locs cells slots Q (F0 m pc ls (.int x :: .ref a :: rest)) :=
  va_put (C := R_S) (T := F_S) (N := 11) S.1 S.2.1 S.2.2.2.2 i_S t_S t_S_ok n_S S.2.2.2.1 hK hP hD hS q0 he rfl 6 (by decide) (S.2.2.2.2 _ k_fl_S_32) (fun _ h9 => h9) rfl (ty := .int) (by decide +kernel) rfl rfl hl hdg kk
theorem gf_S_end (S : CallFix p m c cc nL s args aw R_S) (hK : va_K D classes (TY cB cI cZ) s) (hP : va_P D classes ws H) (q0 : Nat) {fs : List Value} (he : ws[q0]? = some (a, .inr (0, fs))) {v : Value} (hv : fs[7]? = some v) (hdg : decode cc pc = .ok (.getfield 36, 3))
    (kk : W p l e R s m args below meth c H locs cells slots Q (F0 m (pc + 3) ls (v :: rest))) : W p l e R s m args below meth c H locs cells slots Q (F0 m pc ls (.ref a :: rest)) :=
  va_get (C := R_S) (T := F_S) (N := 11) S.1 S.2.1 S.2.2.2.2 i_S S.2.2.2.1 hK hP q0 he rfl 7 (by decide) (S.2.2.2.2 _ k_fl_S_36) (fun _ h9 => h9) hv hdg kk
theorem pf_S_end (S : CallFix p m c cc nL s args aw R_S) (hK : va_K D classes (TY cB cI cZ) s) (hP : va_P D classes ws H) (hD : va_D A ws) (hS : va_S A H0 H locs) (q0 : Nat) {fs : List Value} (he : ws[q0]? = some (a, .inr (0, fs))) {x : Int32} (hl : 7 < fs.length) (hdg : decode cc pc = .ok (.putfield 36, 3))
    (kk : ∀ (H1 : Heap) (locs1 : List Loc), va_P D classes (ws.set q0 (a, .inr (0, fs.set 7 (.int x)))) H1 → va_D A (ws.set q0 (a, .inr (0, fs.set 7 (.int x)))) → va_S A H0 H1 locs1 → W p l e R s m args below meth c H1 locs1 cells slots Q (F0 m (pc + 3) ls rest)) : W p l e R s m args below meth c H locs cells slots Q (F0 m pc ls (.int x :: .ref a :: rest)) :=
  va_put (C := R_S) (T := F_S) (N := 11) S.1 S.2.1 S.2.2.2.2 i_S t_S t_S_ok n_S S.2.2.2.1 hK hP hD hS q0 he rfl 7 (by decide) (S.2.2.2.2 _ k_fl_S_36) (fun _ h9 => h9) rfl (ty := .int) (by decide +kernel) rfl rfl hl hdg kk
theorem gf_S_free (S : CallFix p m c cc nL s args aw R_S) (hK : va_K D classes (TY cB cI cZ) s) (hP : va_P D classes ws H) (q0 : Nat) {fs : List Value} (he : ws[q0]? = some (a, .inr (0, fs))) {v : Value} (hv : fs[8]? = some v) (hdg : decode cc pc = .ok (.getfield 39, 3))
    (kk : W p l e R s m args below meth c H locs cells slots Q (F0 m (pc + 3) ls (v :: rest))) : W p l e R s m args below meth c H locs cells slots Q (F0 m pc ls (.ref a :: rest)) :=
  va_get (C := R_S) (T := F_S) (N := 11) S.1 S.2.1 S.2.2.2.2 i_S S.2.2.2.1 hK hP q0 he rfl 8 (by decide) (S.2.2.2.2 _ k_fl_S_39) (fun _ h9 => h9) hv hdg kk
theorem pf_S_free (S : CallFix p m c cc nL s args aw R_S) (hK : va_K D classes (TY cB cI cZ) s) (hP : va_P D classes ws H) (hD : va_D A ws) (hS : va_S A H0 H locs) (q0 : Nat) {fs : List Value} (he : ws[q0]? = some (a, .inr (0, fs))) {x : Int32} (hl : 8 < fs.length) (hdg : decode cc pc = .ok (.putfield 39, 3))
    (kk : ∀ (H1 : Heap) (locs1 : List Loc), va_P D classes (ws.set q0 (a, .inr (0, fs.set 8 (.int x)))) H1 → va_D A (ws.set q0 (a, .inr (0, fs.set 8 (.int x)))) → va_S A H0 H1 locs1 → W p l e R s m args below meth c H1 locs1 cells slots Q (F0 m (pc + 3) ls rest)) : W p l e R s m args below meth c H locs cells slots Q (F0 m pc ls (.int x :: .ref a :: rest)) :=
  va_put (C := R_S) (T := F_S) (N := 11) S.1 S.2.1 S.2.2.2.2 i_S t_S t_S_ok n_S S.2.2.2.1 hK hP hD hS q0 he rfl 8 (by decide) (S.2.2.2.2 _ k_fl_S_39) (fun _ h9 => h9) rfl (ty := .int) (by decide +kernel) rfl rfl hl hdg kk
theorem gf_S_many (S : CallFix p m c cc nL s args aw R_S) (hK : va_K D classes (TY cB cI cZ) s) (hP : va_P D classes ws H) (q0 : Nat) {fs : List Value} (he : ws[q0]? = some (a, .inr (0, fs))) {v : Value} (hv : fs[9]? = some v) (hdg : decode cc pc = .ok (.getfield 61, 3))
    (kk : W p l e R s m args below meth c H locs cells slots Q (F0 m (pc + 3) ls (v :: rest))) : W p l e R s m args below meth c H locs cells slots Q (F0 m pc ls (.ref a :: rest)) :=
  va_get (C := R_S) (T := F_S) (N := 11) S.1 S.2.1 S.2.2.2.2 i_S S.2.2.2.1 hK hP q0 he rfl 9 (by decide) (S.2.2.2.2 _ k_fl_S_61) (fun _ h9 => h9) hv hdg kk
theorem pf_S_many (S : CallFix p m c cc nL s args aw R_S) (hK : va_K D classes (TY cB cI cZ) s) (hP : va_P D classes ws H) (hD : va_D A ws) (hS : va_S A H0 H locs) (q0 : Nat) {fs : List Value} (he : ws[q0]? = some (a, .inr (0, fs))) {x : Int32} (hl : 9 < fs.length) (hdg : decode cc pc = .ok (.putfield 61, 3))
    (kk : ∀ (H1 : Heap) (locs1 : List Loc), va_P D classes (ws.set q0 (a, .inr (0, fs.set 9 (.int x)))) H1 → va_D A (ws.set q0 (a, .inr (0, fs.set 9 (.int x)))) → va_S A H0 H1 locs1 → W p l e R s m args below meth c H1 locs1 cells slots Q (F0 m (pc + 3) ls rest)) : W p l e R s m args below meth c H locs cells slots Q (F0 m pc ls (.int x :: .ref a :: rest)) :=
  va_put (C := R_S) (T := F_S) (N := 11) S.1 S.2.1 S.2.2.2.2 i_S t_S t_S_ok n_S S.2.2.2.1 hK hP hD hS q0 he rfl 9 (by decide) (S.2.2.2.2 _ k_fl_S_61) (fun _ h9 => h9) rfl (ty := .int) (by decide +kernel) rfl rfl hl hdg kk
theorem gf_S_top (S : CallFix p m c cc nL s args aw R_S) (hK : va_K D classes (TY cB cI cZ) s) (hP : va_P D classes ws H) (q0 : Nat) {fs : List Value} (he : ws[q0]? = some (a, .inr (0, fs))) {v : Value} (hv : fs[10]? = some v) (hdg : decode cc pc = .ok (.getfield 52, 3))
    (kk : W p l e R s m args below meth c H locs cells slots Q (F0 m (pc + 3) ls (v :: rest))) : W p l e R s m args below meth c H locs cells slots Q (F0 m pc ls (.ref a :: rest)) :=
  va_get (C := R_S) (T := F_S) (N := 11) S.1 S.2.1 S.2.2.2.2 i_S S.2.2.2.1 hK hP q0 he rfl 10 (by decide) (S.2.2.2.2 _ k_fl_S_52) (fun _ h9 => h9) hv hdg kk
theorem pf_S_top (S : CallFix p m c cc nL s args aw R_S) (hK : va_K D classes (TY cB cI cZ) s) (hP : va_P D classes ws H) (hD : va_D A ws) (hS : va_S A H0 H locs) (q0 : Nat) {fs : List Value} (he : ws[q0]? = some (a, .inr (0, fs))) {x : Int32} (hl : 10 < fs.length) (hdg : decode cc pc = .ok (.putfield 52, 3))
    (kk : ∀ (H1 : Heap) (locs1 : List Loc), va_P D classes (ws.set q0 (a, .inr (0, fs.set 10 (.int x)))) H1 → va_D A (ws.set q0 (a, .inr (0, fs.set 10 (.int x)))) → va_S A H0 H1 locs1 → W p l e R s m args below meth c H1 locs1 cells slots Q (F0 m (pc + 3) ls rest)) : W p l e R s m args below meth c H locs cells slots Q (F0 m pc ls (.int x :: .ref a :: rest)) :=
  va_put (C := R_S) (T := F_S) (N := 11) S.1 S.2.1 S.2.2.2.2 i_S t_S t_S_ok n_S S.2.2.2.1 hK hP hD hS q0 he rfl 10 (by decide) (S.2.2.2.2 _ k_fl_S_52) (fun _ h9 => h9) rfl (ty := .int) (by decide +kernel) rfl rfl hl hdg kk
theorem gf_A_shelf (S : CallFix p m c cc nL s args aw R_A) (hK : va_K D classes (TY cB cI cZ) s) (hP : va_P D classes ws H) (q0 : Nat) {fs : List Value} (he : ws[q0]? = some (a, .inr (1, fs))) {v : Value} (hv : fs[0]? = some v) (hdg : decode cc pc = .ok (.getfield 10, 3))
    (kk : W p l e R s m args below meth c H locs cells slots Q (F0 m (pc + 3) ls (v :: rest))) : W p l e R s m args below meth c H locs cells slots Q (F0 m pc ls (.ref a :: rest)) :=
  va_get (C := R_A) (T := F_A) (N := 5) S.1 S.2.1 S.2.2.2.2 i_A S.2.2.2.1 hK hP q0 he rfl 0 (by decide) (S.2.2.2.2 _ k_fl_A_10) (fun _ h9 => h9) hv hdg kk
theorem pf_A_shelf (S : CallFix p m c cc nL s args aw R_A) (hin : meth.name = "<init>") (hK : va_K D classes (TY cB cI cZ) s) (hP : va_P D classes ws H) (hD : va_D A ws) (hS : va_S A H0 H locs) (q0 : Nat) {fs : List Value} (he : ws[q0]? = some (a, .inr (1, fs))) {x : Nat} (hl : 0 < fs.length) (hdg : decode cc pc = .ok (.putfield 10, 3))
    (kk : ∀ (H1 : Heap) (locs1 : List Loc), va_P D classes (ws.set q0 (a, .inr (1, fs.set 0 (.ref x)))) H1 → va_D A (ws.set q0 (a, .inr (1, fs.set 0 (.ref x)))) → va_S A H0 H1 locs1 → W p l e R s m args below meth c H1 locs1 cells slots Q (F0 m (pc + 3) ls rest)) : W p l e R s m args below meth c H locs cells slots Q (F0 m pc ls (.ref x :: .ref a :: rest)) :=
  va_putF (C := R_A) (T := F_A) (N := 5) S.1 S.2.1 S.2.2.2.2 i_A t_A t_A_ok n_A S.2.2.2.1 hK hP hD hS q0 he rfl 0 (by decide) (S.2.2.2.2 _ k_fl_A_10) (fun _ h9 => h9) rfl hin rfl (ty := .object "ByteShelf$Shelf") (by decide +kernel) rfl rfl hl hdg kk
theorem gf_A_there (S : CallFix p m c cc nL s args aw R_A) (hK : va_K D classes (TY cB cI cZ) s) (hP : va_P D classes ws H) (q0 : Nat) {fs : List Value} (he : ws[q0]? = some (a, .inr (1, fs))) {v : Value} (hv : fs[1]? = some v) (hdg : decode cc pc = .ok (.getfield 16, 3))
    (kk : W p l e R s m args below meth c H locs cells slots Q (F0 m (pc + 3) ls (v :: rest))) : W p l e R s m args below meth c H locs cells slots Q (F0 m pc ls (.ref a :: rest)) :=
  va_get (C := R_A) (T := F_A) (N := 5) S.1 S.2.1 S.2.2.2.2 i_A S.2.2.2.1 hK hP q0 he rfl 1 (by decide) (S.2.2.2.2 _ k_fl_A_16) (fun _ h9 => h9) hv hdg kk
theorem pf_A_there (S : CallFix p m c cc nL s args aw R_A) (hin : meth.name = "<init>") (hK : va_K D classes (TY cB cI cZ) s) (hP : va_P D classes ws H) (hD : va_D A ws) (hS : va_S A H0 H locs) (q0 : Nat) {fs : List Value} (he : ws[q0]? = some (a, .inr (1, fs))) {x : Nat} (hl : 1 < fs.length) (hdg : decode cc pc = .ok (.putfield 16, 3))
    (kk : ∀ (H1 : Heap) (locs1 : List Loc), va_P D classes (ws.set q0 (a, .inr (1, fs.set 1 (.ref x)))) H1 → va_D A (ws.set q0 (a, .inr (1, fs.set 1 (.ref x)))) → va_S A H0 H1 locs1 → W p l e R s m args below meth c H1 locs1 cells slots Q (F0 m (pc + 3) ls rest)) : W p l e R s m args below meth c H locs cells slots Q (F0 m pc ls (.ref x :: .ref a :: rest)) :=
  va_putF (C := R_A) (T := F_A) (N := 5) S.1 S.2.1 S.2.2.2.2 i_A t_A t_A_ok n_A S.2.2.2.1 hK hP hD hS q0 he rfl 1 (by decide) (S.2.2.2.2 _ k_fl_A_16) (fun _ h9 => h9) rfl hin rfl (ty := .array .boolean) (by decide +kernel) rfl rfl hl hdg kk
theorem gf_A_hand (S : CallFix p m c cc nL s args aw R_A) (hK : va_K D classes (TY cB cI cZ) s) (hP : va_P D classes ws H) (q0 : Nat) {fs : List Value} (he : ws[q0]? = some (a, .inr (1, fs))) {v : Value} (hv : fs[2]? = some v) (hdg : decode cc pc = .ok (.getfield 20, 3))
    (kk : W p l e R s m args below meth c H locs cells slots Q (F0 m (pc + 3) ls (v :: rest))) : W p l e R s m args below meth c H locs cells slots Q (F0 m pc ls (.ref a :: rest)) :=
  va_get (C := R_A) (T := F_A) (N := 5) S.1 S.2.1 S.2.2.2.2 i_A S.2.2.2.1 hK hP q0 he rfl 2 (by decide) (S.2.2.2.2 _ k_fl_A_20) (fun _ h9 => h9) hv hdg kk
theorem pf_A_hand (S : CallFix p m c cc nL s args aw R_A) (hin : meth.name = "<init>") (hK : va_K D classes (TY cB cI cZ) s) (hP : va_P D classes ws H) (hD : va_D A ws) (hS : va_S A H0 H locs) (q0 : Nat) {fs : List Value} (he : ws[q0]? = some (a, .inr (1, fs))) {x : Nat} (hl : 2 < fs.length) (hdg : decode cc pc = .ok (.putfield 20, 3))
    (kk : ∀ (H1 : Heap) (locs1 : List Loc), va_P D classes (ws.set q0 (a, .inr (1, fs.set 2 (.ref x)))) H1 → va_D A (ws.set q0 (a, .inr (1, fs.set 2 (.ref x)))) → va_S A H0 H1 locs1 → W p l e R s m args below meth c H1 locs1 cells slots Q (F0 m (pc + 3) ls rest)) : W p l e R s m args below meth c H locs cells slots Q (F0 m pc ls (.ref x :: .ref a :: rest)) :=
  va_putF (C := R_A) (T := F_A) (N := 5) S.1 S.2.1 S.2.2.2.2 i_A t_A t_A_ok n_A S.2.2.2.1 hK hP hD hS q0 he rfl 2 (by decide) (S.2.2.2.2 _ k_fl_A_20) (fun _ h9 => h9) rfl hin rfl (ty := .array .byte) (by decide +kernel) rfl rfl hl hdg kk
theorem gf_A_rows (S : CallFix p m c cc nL s args aw R_A) (hK : va_K D classes (TY cB cI cZ) s) (hP : va_P D classes ws H) (q0 : Nat) {fs : List Value} (he : ws[q0]? = some (a, .inr (1, fs))) {v : Value} (hv : fs[3]? = some v) (hdg : decode cc pc = .ok (.getfield 28, 3))
    (kk : W p l e R s m args below meth c H locs cells slots Q (F0 m (pc + 3) ls (v :: rest))) : W p l e R s m args below meth c H locs cells slots Q (F0 m pc ls (.ref a :: rest)) :=
  va_get (C := R_A) (T := F_A) (N := 5) S.1 S.2.1 S.2.2.2.2 i_A S.2.2.2.1 hK hP q0 he rfl 3 (by decide) (S.2.2.2.2 _ k_fl_A_28) (fun _ h9 => h9) hv hdg kk
theorem pf_A_rows (S : CallFix p m c cc nL s args aw R_A) (hK : va_K D classes (TY cB cI cZ) s) (hP : va_P D classes ws H) (hD : va_D A ws) (hS : va_S A H0 H locs) (q0 : Nat) {fs : List Value} (he : ws[q0]? = some (a, .inr (1, fs))) {x : Int32} (hl : 3 < fs.length) (hdg : decode cc pc = .ok (.putfield 28, 3))
    (kk : ∀ (H1 : Heap) (locs1 : List Loc), va_P D classes (ws.set q0 (a, .inr (1, fs.set 3 (.int x)))) H1 → va_D A (ws.set q0 (a, .inr (1, fs.set 3 (.int x)))) → va_S A H0 H1 locs1 → W p l e R s m args below meth c H1 locs1 cells slots Q (F0 m (pc + 3) ls rest)) : W p l e R s m args below meth c H locs cells slots Q (F0 m pc ls (.int x :: .ref a :: rest)) :=
  va_put (C := R_A) (T := F_A) (N := 5) S.1 S.2.1 S.2.2.2.2 i_A t_A t_A_ok n_A S.2.2.2.1 hK hP hD hS q0 he rfl 3 (by decide) (S.2.2.2.2 _ k_fl_A_28) (fun _ h9 => h9) rfl (ty := .int) (by decide +kernel) rfl rfl hl hdg kk
theorem gf_A_places (S : CallFix p m c cc nL s args aw R_A) (hK : va_K D classes (TY cB cI cZ) s) (hP : va_P D classes ws H) (q0 : Nat) {fs : List Value} (he : ws[q0]? = some (a, .inr (1, fs))) {v : Value} (hv : fs[4]? = some v) (hdg : decode cc pc = .ok (.getfield 32, 3))
    (kk : W p l e R s m args below meth c H locs cells slots Q (F0 m (pc + 3) ls (v :: rest))) : W p l e R s m args below meth c H locs cells slots Q (F0 m pc ls (.ref a :: rest)) :=
  va_get (C := R_A) (T := F_A) (N := 5) S.1 S.2.1 S.2.2.2.2 i_A S.2.2.2.1 hK hP q0 he rfl 4 (by decide) (S.2.2.2.2 _ k_fl_A_32) (fun _ h9 => h9) hv hdg kk
theorem pf_A_places (S : CallFix p m c cc nL s args aw R_A) (hK : va_K D classes (TY cB cI cZ) s) (hP : va_P D classes ws H) (hD : va_D A ws) (hS : va_S A H0 H locs) (q0 : Nat) {fs : List Value} (he : ws[q0]? = some (a, .inr (1, fs))) {x : Int32} (hl : 4 < fs.length) (hdg : decode cc pc = .ok (.putfield 32, 3))
    (kk : ∀ (H1 : Heap) (locs1 : List Loc), va_P D classes (ws.set q0 (a, .inr (1, fs.set 4 (.int x)))) H1 → va_D A (ws.set q0 (a, .inr (1, fs.set 4 (.int x)))) → va_S A H0 H1 locs1 → W p l e R s m args below meth c H1 locs1 cells slots Q (F0 m (pc + 3) ls rest)) : W p l e R s m args below meth c H locs cells slots Q (F0 m pc ls (.int x :: .ref a :: rest)) :=
  va_put (C := R_A) (T := F_A) (N := 5) S.1 S.2.1 S.2.2.2.2 i_A t_A t_A_ok n_A S.2.2.2.1 hK hP hD hS q0 he rfl 4 (by decide) (S.2.2.2.2 _ k_fl_A_32) (fun _ h9 => h9) rfl (ty := .int) (by decide +kernel) rfl rfl hl hdg kk
theorem gf_M_bytes (S : CallFix p m c cc nL s args aw R_M) (hK : va_K D classes (TY cB cI cZ) s) (hP : va_P D classes ws H) (q0 : Nat) {fs : List Value} (he : ws[q0]? = some (a, .inr (2, fs))) {v : Value} (hv : fs[0]? = some v) (hdg : decode cc pc = .ok (.getfield 8, 3))
    (kk : W p l e R s m args below meth c H locs cells slots Q (F0 m (pc + 3) ls (v :: rest))) : W p l e R s m args below meth c H locs cells slots Q (F0 m pc ls (.ref a :: rest)) :=
  va_get (C := R_M) (T := F_M) (N := 8) S.1 S.2.1 S.2.2.2.2 i_M S.2.2.2.1 hK hP q0 he rfl 0 (by decide) (S.2.2.2.2 _ k_fl_M_8) (fun _ h9 => h9) hv hdg kk
theorem pf_M_bytes (S : CallFix p m c cc nL s args aw R_M) (hin : meth.name = "<init>") (hK : va_K D classes (TY cB cI cZ) s) (hP : va_P D classes ws H) (hD : va_D A ws) (hS : va_S A H0 H locs) (q0 : Nat) {fs : List Value} (he : ws[q0]? = some (a, .inr (2, fs))) {x : Nat} (hl : 0 < fs.length) (hdg : decode cc pc = .ok (.putfield 8, 3))
    (kk : ∀ (H1 : Heap) (locs1 : List Loc), va_P D classes (ws.set q0 (a, .inr (2, fs.set 0 (.ref x)))) H1 → va_D A (ws.set q0 (a, .inr (2, fs.set 0 (.ref x)))) → va_S A H0 H1 locs1 → W p l e R s m args below meth c H1 locs1 cells slots Q (F0 m (pc + 3) ls rest)) : W p l e R s m args below meth c H locs cells slots Q (F0 m pc ls (.ref x :: .ref a :: rest)) :=
  va_putF (C := R_M) (T := F_M) (N := 8) S.1 S.2.1 S.2.2.2.2 i_M t_M t_M_ok n_M S.2.2.2.1 hK hP hD hS q0 he rfl 0 (by decide) (S.2.2.2.2 _ k_fl_M_8) (fun _ h9 => h9) rfl hin rfl (ty := .array .byte) (by decide +kernel) rfl rfl hl hdg kk
theorem gf_M_used (S : CallFix p m c cc nL s args aw R_M) (hK : va_K D classes (TY cB cI cZ) s) (hP : va_P D classes ws H) (q0 : Nat) {fs : List Value} (he : ws[q0]? = some (a, .inr (2, fs))) {v : Value} (hv : fs[1]? = some v) (hdg : decode cc pc = .ok (.getfield 46, 3))
    (kk : W p l e R s m args below meth c H locs cells slots Q (F0 m (pc + 3) ls (v :: rest))) : W p l e R s m args below meth c H locs cells slots Q (F0 m pc ls (.ref a :: rest)) :=
  va_get (C := R_M) (T := F_M) (N := 8) S.1 S.2.1 S.2.2.2.2 i_M S.2.2.2.1 hK hP q0 he rfl 1 (by decide) (S.2.2.2.2 _ k_fl_M_46) (fun _ h9 => h9) hv hdg kk
theorem pf_M_used (S : CallFix p m c cc nL s args aw R_M) (hK : va_K D classes (TY cB cI cZ) s) (hP : va_P D classes ws H) (hD : va_D A ws) (hS : va_S A H0 H locs) (q0 : Nat) {fs : List Value} (he : ws[q0]? = some (a, .inr (2, fs))) {x : Int32} (hl : 1 < fs.length) (hdg : decode cc pc = .ok (.putfield 46, 3))
    (kk : ∀ (H1 : Heap) (locs1 : List Loc), va_P D classes (ws.set q0 (a, .inr (2, fs.set 1 (.int x)))) H1 → va_D A (ws.set q0 (a, .inr (2, fs.set 1 (.int x)))) → va_S A H0 H1 locs1 → W p l e R s m args below meth c H1 locs1 cells slots Q (F0 m (pc + 3) ls rest)) : W p l e R s m args below meth c H locs cells slots Q (F0 m pc ls (.int x :: .ref a :: rest)) :=
  va_put (C := R_M) (T := F_M) (N := 8) S.1 S.2.1 S.2.2.2.2 i_M t_M t_M_ok n_M S.2.2.2.1 hK hP hD hS q0 he rfl 1 (by decide) (S.2.2.2.2 _ k_fl_M_46) (fun _ h9 => h9) rfl (ty := .int) (by decide +kernel) rfl rfl hl hdg kk
theorem gf_M_starts (S : CallFix p m c cc nL s args aw R_M) (hK : va_K D classes (TY cB cI cZ) s) (hP : va_P D classes ws H) (q0 : Nat) {fs : List Value} (he : ws[q0]? = some (a, .inr (2, fs))) {v : Value} (hv : fs[2]? = some v) (hdg : decode cc pc = .ok (.getfield 14, 3))
    (kk : W p l e R s m args below meth c H locs cells slots Q (F0 m (pc + 3) ls (v :: rest))) : W p l e R s m args below meth c H locs cells slots Q (F0 m pc ls (.ref a :: rest)) :=
  va_get (C := R_M) (T := F_M) (N := 8) S.1 S.2.1 S.2.2.2.2 i_M S.2.2.2.1 hK hP q0 he rfl 2 (by decide) (S.2.2.2.2 _ k_fl_M_14) (fun _ h9 => h9) hv hdg kk
theorem pf_M_starts (S : CallFix p m c cc nL s args aw R_M) (hin : meth.name = "<init>") (hK : va_K D classes (TY cB cI cZ) s) (hP : va_P D classes ws H) (hD : va_D A ws) (hS : va_S A H0 H locs) (q0 : Nat) {fs : List Value} (he : ws[q0]? = some (a, .inr (2, fs))) {x : Nat} (hl : 2 < fs.length) (hdg : decode cc pc = .ok (.putfield 14, 3))
    (kk : ∀ (H1 : Heap) (locs1 : List Loc), va_P D classes (ws.set q0 (a, .inr (2, fs.set 2 (.ref x)))) H1 → va_D A (ws.set q0 (a, .inr (2, fs.set 2 (.ref x)))) → va_S A H0 H1 locs1 → W p l e R s m args below meth c H1 locs1 cells slots Q (F0 m (pc + 3) ls rest)) : W p l e R s m args below meth c H locs cells slots Q (F0 m pc ls (.ref x :: .ref a :: rest)) :=
  va_putF (C := R_M) (T := F_M) (N := 8) S.1 S.2.1 S.2.2.2.2 i_M t_M t_M_ok n_M S.2.2.2.1 hK hP hD hS q0 he rfl 2 (by decide) (S.2.2.2.2 _ k_fl_M_14) (fun _ h9 => h9) rfl hin rfl (ty := .array .int) (by decide +kernel) rfl rfl hl hdg kk
theorem gf_M_sizes (S : CallFix p m c cc nL s args aw R_M) (hK : va_K D classes (TY cB cI cZ) s) (hP : va_P D classes ws H) (q0 : Nat) {fs : List Value} (he : ws[q0]? = some (a, .inr (2, fs))) {v : Value} (hv : fs[3]? = some v) (hdg : decode cc pc = .ok (.getfield 18, 3))
    (kk : W p l e R s m args below meth c H locs cells slots Q (F0 m (pc + 3) ls (v :: rest))) : W p l e R s m args below meth c H locs cells slots Q (F0 m pc ls (.ref a :: rest)) :=
  va_get (C := R_M) (T := F_M) (N := 8) S.1 S.2.1 S.2.2.2.2 i_M S.2.2.2.1 hK hP q0 he rfl 3 (by decide) (S.2.2.2.2 _ k_fl_M_18) (fun _ h9 => h9) hv hdg kk
theorem pf_M_sizes (S : CallFix p m c cc nL s args aw R_M) (hin : meth.name = "<init>") (hK : va_K D classes (TY cB cI cZ) s) (hP : va_P D classes ws H) (hD : va_D A ws) (hS : va_S A H0 H locs) (q0 : Nat) {fs : List Value} (he : ws[q0]? = some (a, .inr (2, fs))) {x : Nat} (hl : 3 < fs.length) (hdg : decode cc pc = .ok (.putfield 18, 3))
    (kk : ∀ (H1 : Heap) (locs1 : List Loc), va_P D classes (ws.set q0 (a, .inr (2, fs.set 3 (.ref x)))) H1 → va_D A (ws.set q0 (a, .inr (2, fs.set 3 (.ref x)))) → va_S A H0 H1 locs1 → W p l e R s m args below meth c H1 locs1 cells slots Q (F0 m (pc + 3) ls rest)) : W p l e R s m args below meth c H locs cells slots Q (F0 m pc ls (.ref x :: .ref a :: rest)) :=
  va_putF (C := R_M) (T := F_M) (N := 8) S.1 S.2.1 S.2.2.2.2 i_M t_M t_M_ok n_M S.2.2.2.1 hK hP hD hS q0 he rfl 3 (by decide) (S.2.2.2.2 _ k_fl_M_18) (fun _ h9 => h9) rfl hin rfl (ty := .array .int) (by decide +kernel) rfl rfl hl hdg kk
theorem gf_M_numbers (S : CallFix p m c cc nL s args aw R_M) (hK : va_K D classes (TY cB cI cZ) s) (hP : va_P D classes ws H) (q0 : Nat) {fs : List Value} (he : ws[q0]? = some (a, .inr (2, fs))) {v : Value} (hv : fs[4]? = some v) (hdg : decode cc pc = .ok (.getfield 24, 3))
    (kk : W p l e R s m args below meth c H locs cells slots Q (F0 m (pc + 3) ls (v :: rest))) : W p l e R s m args below meth c H locs cells slots Q (F0 m pc ls (.ref a :: rest)) :=
  va_get (C := R_M) (T := F_M) (N := 8) S.1 S.2.1 S.2.2.2.2 i_M S.2.2.2.1 hK hP q0 he rfl 4 (by decide) (S.2.2.2.2 _ k_fl_M_24) (fun _ h9 => h9) hv hdg kk
theorem pf_M_numbers (S : CallFix p m c cc nL s args aw R_M) (hK : va_K D classes (TY cB cI cZ) s) (hP : va_P D classes ws H) (hD : va_D A ws) (hS : va_S A H0 H locs) (q0 : Nat) {fs : List Value} (he : ws[q0]? = some (a, .inr (2, fs))) {x : Int32} (hl : 4 < fs.length) (hdg : decode cc pc = .ok (.putfield 24, 3))
    (kk : ∀ (H1 : Heap) (locs1 : List Loc), va_P D classes (ws.set q0 (a, .inr (2, fs.set 4 (.int x)))) H1 → va_D A (ws.set q0 (a, .inr (2, fs.set 4 (.int x)))) → va_S A H0 H1 locs1 → W p l e R s m args below meth c H1 locs1 cells slots Q (F0 m (pc + 3) ls rest)) : W p l e R s m args below meth c H locs cells slots Q (F0 m pc ls (.int x :: .ref a :: rest)) :=
  va_put (C := R_M) (T := F_M) (N := 8) S.1 S.2.1 S.2.2.2.2 i_M t_M t_M_ok n_M S.2.2.2.1 hK hP hD hS q0 he rfl 4 (by decide) (S.2.2.2.2 _ k_fl_M_24) (fun _ h9 => h9) rfl (ty := .int) (by decide +kernel) rfl rfl hl hdg kk
theorem gf_M_backs (S : CallFix p m c cc nL s args aw R_M) (hK : va_K D classes (TY cB cI cZ) s) (hP : va_P D classes ws H) (q0 : Nat) {fs : List Value} (he : ws[q0]? = some (a, .inr (2, fs))) {v : Value} (hv : fs[5]? = some v) (hdg : decode cc pc = .ok (.getfield 21, 3))
    (kk : W p l e R s m args below meth c H locs cells slots Q (F0 m (pc + 3) ls (v :: rest))) : W p l e R s m args below meth c H locs cells slots Q (F0 m pc ls (.ref a :: rest)) :=
  va_get (C := R_M) (T := F_M) (N := 8) S.1 S.2.1 S.2.2.2.2 i_M S.2.2.2.1 hK hP q0 he rfl 5 (by decide) (S.2.2.2.2 _ k_fl_M_21) (fun _ h9 => h9) hv hdg kk
theorem pf_M_backs (S : CallFix p m c cc nL s args aw R_M) (hin : meth.name = "<init>") (hK : va_K D classes (TY cB cI cZ) s) (hP : va_P D classes ws H) (hD : va_D A ws) (hS : va_S A H0 H locs) (q0 : Nat) {fs : List Value} (he : ws[q0]? = some (a, .inr (2, fs))) {x : Nat} (hl : 5 < fs.length) (hdg : decode cc pc = .ok (.putfield 21, 3))
    (kk : ∀ (H1 : Heap) (locs1 : List Loc), va_P D classes (ws.set q0 (a, .inr (2, fs.set 5 (.ref x)))) H1 → va_D A (ws.set q0 (a, .inr (2, fs.set 5 (.ref x)))) → va_S A H0 H1 locs1 → W p l e R s m args below meth c H1 locs1 cells slots Q (F0 m (pc + 3) ls rest)) : W p l e R s m args below meth c H locs cells slots Q (F0 m pc ls (.ref x :: .ref a :: rest)) :=
  va_putF (C := R_M) (T := F_M) (N := 8) S.1 S.2.1 S.2.2.2.2 i_M t_M t_M_ok n_M S.2.2.2.1 hK hP hD hS q0 he rfl 5 (by decide) (S.2.2.2.2 _ k_fl_M_21) (fun _ h9 => h9) rfl hin rfl (ty := .array .int) (by decide +kernel) rfl rfl hl hdg kk
theorem gf_M_backMany (S : CallFix p m c cc nL s args aw R_M) (hK : va_K D classes (TY cB cI cZ) s) (hP : va_P D classes ws H) (q0 : Nat) {fs : List Value} (he : ws[q0]? = some (a, .inr (2, fs))) {v : Value} (hv : fs[6]? = some v) (hdg : decode cc pc = .ok (.getfield 28, 3))
    (kk : W p l e R s m args below meth c H locs cells slots Q (F0 m (pc + 3) ls (v :: rest))) : W p l e R s m args below meth c H locs cells slots Q (F0 m pc ls (.ref a :: rest)) :=
  va_get (C := R_M) (T := F_M) (N := 8) S.1 S.2.1 S.2.2.2.2 i_M S.2.2.2.1 hK hP q0 he rfl 6 (by decide) (S.2.2.2.2 _ k_fl_M_28) (fun _ h9 => h9) hv hdg kk
theorem pf_M_backMany (S : CallFix p m c cc nL s args aw R_M) (hK : va_K D classes (TY cB cI cZ) s) (hP : va_P D classes ws H) (hD : va_D A ws) (hS : va_S A H0 H locs) (q0 : Nat) {fs : List Value} (he : ws[q0]? = some (a, .inr (2, fs))) {x : Int32} (hl : 6 < fs.length) (hdg : decode cc pc = .ok (.putfield 28, 3))
    (kk : ∀ (H1 : Heap) (locs1 : List Loc), va_P D classes (ws.set q0 (a, .inr (2, fs.set 6 (.int x)))) H1 → va_D A (ws.set q0 (a, .inr (2, fs.set 6 (.int x)))) → va_S A H0 H1 locs1 → W p l e R s m args below meth c H1 locs1 cells slots Q (F0 m (pc + 3) ls rest)) : W p l e R s m args below meth c H locs cells slots Q (F0 m pc ls (.int x :: .ref a :: rest)) :=
  va_put (C := R_M) (T := F_M) (N := 8) S.1 S.2.1 S.2.2.2.2 i_M t_M t_M_ok n_M S.2.2.2.1 hK hP hD hS q0 he rfl 6 (by decide) (S.2.2.2.2 _ k_fl_M_28) (fun _ h9 => h9) rfl (ty := .int) (by decide +kernel) rfl rfl hl hdg kk
theorem gf_M_taken (S : CallFix p m c cc nL s args aw R_M) (hK : va_K D classes (TY cB cI cZ) s) (hP : va_P D classes ws H) (q0 : Nat) {fs : List Value} (he : ws[q0]? = some (a, .inr (2, fs))) {v : Value} (hv : fs[7]? = some v) (hdg : decode cc pc = .ok (.getfield 35, 3))
    (kk : W p l e R s m args below meth c H locs cells slots Q (F0 m (pc + 3) ls (v :: rest))) : W p l e R s m args below meth c H locs cells slots Q (F0 m pc ls (.ref a :: rest)) :=
  va_get (C := R_M) (T := F_M) (N := 8) S.1 S.2.1 S.2.2.2.2 i_M S.2.2.2.1 hK hP q0 he rfl 7 (by decide) (S.2.2.2.2 _ k_fl_M_35) (fun _ h9 => h9) hv hdg kk
theorem pf_M_taken (S : CallFix p m c cc nL s args aw R_M) (hK : va_K D classes (TY cB cI cZ) s) (hP : va_P D classes ws H) (hD : va_D A ws) (hS : va_S A H0 H locs) (q0 : Nat) {fs : List Value} (he : ws[q0]? = some (a, .inr (2, fs))) {x : Int32} (hl : 7 < fs.length) (hdg : decode cc pc = .ok (.putfield 35, 3))
    (kk : ∀ (H1 : Heap) (locs1 : List Loc), va_P D classes (ws.set q0 (a, .inr (2, fs.set 7 (.int x)))) H1 → va_D A (ws.set q0 (a, .inr (2, fs.set 7 (.int x)))) → va_S A H0 H1 locs1 → W p l e R s m args below meth c H1 locs1 cells slots Q (F0 m (pc + 3) ls rest)) : W p l e R s m args below meth c H locs cells slots Q (F0 m pc ls (.int x :: .ref a :: rest)) :=
  va_put (C := R_M) (T := F_M) (N := 8) S.1 S.2.1 S.2.2.2.2 i_M t_M t_M_ok n_M S.2.2.2.1 hK hP hD hS q0 he rfl 7 (by decide) (S.2.2.2.2 _ k_fl_M_35) (fun _ h9 => h9) rfl (ty := .int) (by decide +kernel) rfl rfl hl hdg kk
/-- ends -/
theorem rtI (S : CallFix p m c cc nL s args aw own) (hr : meth.sig.returnType = some .int) (hlocks : meth.locks = false) (hS : va_S NoA s.heap H locs) {x v : Int32} (hv : x = v) (hdg : decode cc pc = .ok (.ireturn, 1)) : W p l e R s m args below meth c H locs 0 0 (MQ below (Qi v) args s 0 0 NoA) (F0 m pc ls [.int x]) := by
  subst hv
  exact W.iret S.1 S.2.1 hr (fun t ht hW => ⟨⟨x, (), rfl, rfl, trivial⟩, hS.F ht⟩) hS.2.2 hdg
theorem rtZ (S : CallFix p m c cc nL s args aw own) (hr : meth.sig.returnType = some .boolean) (hlocks : meth.locks = false) (hS : va_S NoA s.heap H locs) {x v : Int32} (hv : x = v) (hn : narrow .boolean (.int x) = .int x) (hdg : decode cc pc = .ok (.ireturn, 1)) : W p l e R s m args below meth c H locs 0 0 (MQ below (Qi v) args s 0 0 NoA) (F0 m pc ls [.int x]) := by
  subst hv
  exact W.zret S.1 S.2.1 hr hn (fun t ht hW => ⟨⟨x, (), rfl, rfl, trivial⟩, hS.F ht⟩) hS.2.2 hdg
theorem rmV {T : Type} {post : T → Prop} {w1 : T → va_W} {wc : va_W} (S : CallFix p m c cc nL s args aw own) (hr : meth.sig.returnType = none) (hlocks : meth.locks = false) (u : T) (hp : post u) (hP : va_P D classes (w1 u) H) (hS : va_S (inA wc) s.heap H locs) (hdg : decode cc pc = .ok (.return_, 1)) : W p l e R s m args below meth c H locs 0 0 (MQ below (Qmv D post w1 wc) args s 0 0 (inA wc)) (F0 m pc ls []) :=
  W.vret S.1 S.2.1 hr (fun t ht hW => ⟨⟨u, rfl, hp, by show va_P D classes (w1 u) t.heap; rw [ht]; exact hP⟩, hS.F ht⟩) hS.2.2 hdg
theorem rmI {T : Type} {post : Int32 → T → Prop} {w1 : T → va_W} {wc : va_W} (S : CallFix p m c cc nL s args aw own) (hr : meth.sig.returnType = some .int) (hlocks : meth.locks = false) {x : Int32} (u : T) (hp : post x u) (hP : va_P D classes (w1 u) H) (hS : va_S (inA wc) s.heap H locs) (hdg : decode cc pc = .ok (.ireturn, 1)) : W p l e R s m args below meth c H locs 0 0 (MQ below (Qmi D post w1 wc) args s 0 0 (inA wc)) (F0 m pc ls [.int x]) :=
  W.iret S.1 S.2.1 hr (fun t ht hW => ⟨⟨x, u, rfl, hp, by show va_P D classes (w1 u) t.heap; rw [ht]; exact hP⟩, hS.F ht⟩) hS.2.2 hdg
theorem rmZ {T : Type} {post : Int32 → T → Prop} {w1 : T → va_W} {wc : va_W} (S : CallFix p m c cc nL s args aw own) (hr : meth.sig.returnType = some .boolean) (hlocks : meth.locks = false) {x : Int32} (hn : narrow .boolean (.int x) = .int x) (u : T) (hp : post x u) (hP : va_P D classes (w1 u) H) (hS : va_S (inA wc) s.heap H locs) (hdg : decode cc pc = .ok (.ireturn, 1)) : W p l e R s m args below meth c H locs 0 0 (MQ below (Qmi D post w1 wc) args s 0 0 (inA wc)) (F0 m pc ls [.int x]) :=
  W.zret S.1 S.2.1 hr hn (fun t ht hW => ⟨⟨x, u, rfl, hp, by show va_P D classes (w1 u) t.heap; rw [ht]; exact hP⟩, hS.F ht⟩) hS.2.2 hdg
theorem at_sub {ws wc : va_W} {isC : List Nat} (hC : isC.map (fun i => ws[i]?) = wc.map some) (k : Nat) (q : Nat × va_E) (hq : wc[k]? = some q) : ∃ i, isC[k]? = some i ∧ ws[i]? = some q := by
  have h1 : (isC.map (fun i => ws[i]?))[k]? = some (some q) := by rw [hC, List.getElem?_map, hq]; rfl
  rw [List.getElem?_map] at h1
  cases hi : isC[k]? with
  | none => rw [hi] at h1; cases h1
  | some i => rw [hi] at h1; exact ⟨i, rfl, Option.some.inj h1⟩
theorem P_of {ws wc : va_W} {isC : List Nat} (hP : va_P D classes ws H) (hC : isC.map (fun i => ws[i]?) = wc.map some) : va_P D classes wc H := by
  intro k q hq
  obtain ⟨i, -, h2⟩ := at_sub hC k q hq
  exact hP i q h2
variable {wc : va_W} {y : MethodName} {bytes : ByteArray} {maxL n index : Nat} {ret : Option FieldType} {wsy : List Cond} {rm : Room} {C : String} {b : Addr} {As : List Value} {isC isR : List Nat} {wr : va_W} {A' : Nat → Prop} {T : u_T} {N ci : Nat} {fs : List Value} {st0 : List Value}
theorem pv_ (hK : va_K D classes (TY cB cI cZ) s) (hP : va_P D classes wc H) (hD : va_D A wc) (he : wc[0]? = some (b, .inr (ci, fs))) (hc : classes[ci]? = some (C, T, N)) : PreV s H C b (va_Pc (.ref b :: As) (Wd D cB cI cZ wc)) As :=
  ⟨bl_Wd, va_recv hK hP hc he, fun U hU hW => ⟨rfl, by rw [hU]; exact hP, va_K.moved hW.alike hK, hD.weaken (fun _ _ _ _ => trivial)⟩⟩
/-- a pure call -/
theorem cpV {v : Int32} (S : CallFix p m c cc nL s args aw own) (hM : Met l y wsy rm (va_Pc (.ref b :: As) (Wd D cB cI cZ wc)) (Qi v) 0 0 NoA) (cw : CallW R s args own C index y bytes maxL ret wsy rm 0 0 n) (hK : va_K D classes (TY cB cI cZ) s) (hP : va_P D classes ws H) (hD : va_D A' ws) (hS : va_S A H0 H locs) (isC : List Nat) (hnd : va_nd isC = true) (hC : isC.map (fun i => ws[i]?) = wc.map some) (he : wc[0]? = some (b, .inr (ci, fs))) (hc : classes[ci]? = some (C, T, N))
    (hn : As.length = n) (hsize : ls.size = nL) (hst : st0 = As.reverse ++ .ref b :: rest) (hW : (rest.map fun v => v.category).sum ≤ 8) (hdg : decode cc pc = .ok (.invokevirtual index, 3)) (hf : cells ≤ R.cells ∧ slots ≤ R.slots)
    (kk : ∀ (H1 : Heap) (locs1 : List Loc), va_P D classes ws H1 → va_S A H0 H1 locs1 → W p l e R s m args below meth c H1 locs1 cells slots Q (F0 m (pc + 3) ls (.int v :: rest))) : W p l e R s m args below meth c H locs cells slots Q (F0 m pc ls st0) := by
  refine va_calli (va_runV S hM cw (pv_ hK (P_of hP hC) (hD.sub isC hnd hC) he hc) rfl hn hsize hst (lv_room hW) hdg hf) hS (fun q _ h => h.elim) (fun q h => h.elim) (fun r u t H1 locs1 ht hvm hp _ hz hk hS1 => ?_)
  subst hp
  exact kk H1 locs1 (hP.kept (fun k q hq => hk q.1 ((hP k q hq).lt) (fun z => z.elim))) hS1
theorem cpS {v : Int32} (S : CallFix p m c cc nL s args aw own) (hM : Met l y wsy rm (va_Pc As (fun _ => True)) (Qi v) 0 0 NoA) (cw : CallB R s args own index y bytes maxL ret wsy rm 0 0 n ∧ (Cond.static y).before args s = true) (hP : va_P D classes ws H) (hS : va_S A H0 H locs)
    (hn : As.length = n) (hsize : ls.size = nL) (hst : st0 = As.reverse ++ rest) (hW : (rest.map fun v => v.category).sum ≤ 8) (hdg : decode cc pc = .ok (.invokestatic index, 3)) (hf : cells ≤ R.cells ∧ slots ≤ R.slots)
    (kk : ∀ (H1 : Heap) (locs1 : List Loc), va_P D classes ws H1 → va_S A H0 H1 locs1 → W p l e R s m args below meth c H1 locs1 cells slots Q (F0 m (pc + 3) ls (.int v :: rest))) : W p l e R s m args below meth c H locs cells slots Q (F0 m pc ls st0) := by
  refine va_calli (va_runS S hM cw ⟨fun a U g mk q => q, fun U hU hW => ⟨rfl, trivial⟩⟩ rfl hn hsize hst (lv_room hW) hdg hf) hS (fun q _ h => h.elim) (fun q h => h.elim) (fun r u t H1 locs1 ht hvm hp _ hz hk hS1 => ?_)
  subst hp
  exact kk H1 locs1 (hP.kept (fun k q hq => hk q.1 ((hP k q hq).lt) (fun z => z.elim))) hS1
theorem jn {w1 : va_W} {H1 : Heap} {A : Nat → Prop} (hP : va_P D classes ws H) (hD : va_D A ws) (hC : isC.map (fun i => ws[i]?) = wc.map some) (hR : isR.map (fun i => ws[i]?) = wr.map some) (hdis : ∀ i ∈ isR, i ∉ isC) (hk : ∀ q : Nat, q < H.size → ¬ inA wc q → H1[q]? = H[q]?) (hP1 : va_P D classes w1 H1) : va_P D classes (wr ++ w1) H1 := by
  refine va_P.app (fun k q hq => ?_) hP1
  obtain ⟨i, h1, h2⟩ := at_sub hR k q hq
  refine (hP i q h2).kept (hk q.1 (hP i q h2).lt (fun h => ?_))
  obtain ⟨k2, x, h⟩ := h
  obtain ⟨j, h3, h4⟩ := at_sub hC k2 (q.1, x) h
  have hij := hD.1 i j q (q.1, x) h2 h4 rfl
  subst hij
  exact hdis i (List.mem_of_getElem? h1) (List.mem_of_getElem? h3)
theorem fr_in {A : Nat → Prop} (hD : va_D A ws) (hC : isC.map (fun i => ws[i]?) = wc.map some) : ∀ q, inA wc q → A q := by
  intro q h
  obtain ⟨k, x, h⟩ := h
  obtain ⟨i, -, h2⟩ := at_sub hC k (q, x) h
  exact hD.2 i (q, x) h2
/-- a call that writes, no answer -/
theorem cmV {T1 : Type} {post : T1 → Prop} {w1 : T1 → va_W} (S : CallFix p m c cc nL s args aw own) (hM : Met l y wsy rm (va_Pc (.ref b :: As) (Wd D cB cI cZ wc)) (Qmv D post w1 wc) 0 0 (inA wc)) (cw : CallW R s args own C index y bytes maxL ret wsy rm 0 0 n) (hK : va_K D classes (TY cB cI cZ) s) (hP : va_P D classes ws H) (hD : va_D A ws) (hS : va_S A H0 H locs) (isC isR : List Nat) (hnd : va_nd isC = true) (hC : isC.map (fun i => ws[i]?) = wc.map some) (hR : isR.map (fun i => ws[i]?) = wr.map some) (hdis : ∀ i ∈ isR, i ∉ isC) (he : wc[0]? = some (b, .inr (ci, fs))) (hc : classes[ci]? = some (C, T, N))
    (hn : As.length = n) (hsize : ls.size = nL) (hst : st0 = As.reverse ++ .ref b :: rest) (hW : (rest.map fun v => v.category).sum ≤ 8) (hdg : decode cc pc = .ok (.invokevirtual index, 3)) (hf : cells ≤ R.cells ∧ slots ≤ R.slots)
    (kk : ∀ (u : T1) (H1 : Heap) (locs1 : List Loc), post u → va_P D classes (wr ++ w1 u) H1 → va_S A H0 H1 locs1 → W p l e R s m args below meth c H1 locs1 cells slots Q (F0 m (pc + 3) ls rest)) : W p l e R s m args below meth c H locs cells slots Q (F0 m pc ls st0) := by
  refine va_callv (va_runV S hM cw (pv_ hK (P_of hP hC) (hD.sub isC hnd hC) he hc) rfl hn hsize hst (lv_room hW) hdg hf) hS (fun q _ h => fr_in hD hC q h) (fr_in hD hC) (fun u t H1 locs1 ht hvm hp hB hz hk hS1 => ?_)
  rw [ht] at hB
  exact kk u H1 locs1 hp (jn hP hD hC hR hdis hk hB) hS1
/-- a call that writes and answers a number -/
theorem cmI {T1 : Type} {post : Int32 → T1 → Prop} {w1 : T1 → va_W} (S : CallFix p m c cc nL s args aw own) (hM : Met l y wsy rm (va_Pc (.ref b :: As) (Wd D cB cI cZ wc)) (Qmi D post w1 wc) 0 0 (inA wc)) (cw : CallW R s args own C index y bytes maxL ret wsy rm 0 0 n) (hK : va_K D classes (TY cB cI cZ) s) (hP : va_P D classes ws H) (hD : va_D A ws) (hS : va_S A H0 H locs) (isC isR : List Nat) (hnd : va_nd isC = true) (hC : isC.map (fun i => ws[i]?) = wc.map some) (hR : isR.map (fun i => ws[i]?) = wr.map some) (hdis : ∀ i ∈ isR, i ∉ isC) (he : wc[0]? = some (b, .inr (ci, fs))) (hc : classes[ci]? = some (C, T, N))
    (hn : As.length = n) (hsize : ls.size = nL) (hst : st0 = As.reverse ++ .ref b :: rest) (hW : (rest.map fun v => v.category).sum ≤ 8) (hdg : decode cc pc = .ok (.invokevirtual index, 3)) (hf : cells ≤ R.cells ∧ slots ≤ R.slots)
    (kk : ∀ (r : Int32) (u : T1) (H1 : Heap) (locs1 : List Loc), post r u → va_P D classes (wr ++ w1 u) H1 → va_S A H0 H1 locs1 → W p l e R s m args below meth c H1 locs1 cells slots Q (F0 m (pc + 3) ls (.int r :: rest))) : W p l e R s m args below meth c H locs cells slots Q (F0 m pc ls st0) := by
  refine va_calli (va_runV S hM cw (pv_ hK (P_of hP hC) (hD.sub isC hnd hC) he hc) rfl hn hsize hst (lv_room hW) hdg hf) hS (fun q _ h => fr_in hD hC q h) (fr_in hD hC) (fun r u t H1 locs1 ht hvm hp hB hz hk hS1 => ?_)
  rw [ht] at hB
  exact kk r u H1 locs1 hp (jn hP hD hC hR hdis hk hB) hS1
end MyRows
theorem cw_law_13 {R : Room} {s : State} {args : Array Value} (hta : ∀ w ∈ aw, w.before args s = true) (hR : 5 ≤ R.frames ∧ 150 ≤ R.locals) : CallW R s args R_law R_A 13 y_A_take b_A_take 3 (some .int) w_A_take (rmL 4) 0 0 1 := cwV 1 hta (gV k_ml_law_13 k_im_A_take k_se_A_take k_ini_A k_co_A_take) rfl rfl rfl (by decide +kernel) ⟨hR.1, Nat.le_trans (by decide) hR.2⟩
theorem cw_A_24 {R : Room} {s : State} {args : Array Value} (hta : ∀ w ∈ aw, w.before args s = true) (hR : 1 ≤ R.frames ∧ 30 ≤ R.locals) : CallB R s args R_A 24 y_A_isSize b_A_isSize 1 (some .boolean) w_A_isSize (rmL 0) 0 0 1 ∧ (Cond.static y_A_isSize).before args s = true := va_cwS 1 hta (gS k_ml_A_24 k_st_A_isSize k_ini_A k_co_A_isSize) rfl rfl rfl (by decide +kernel) ⟨hR.1, Nat.le_trans (by decide) hR.2⟩
theorem cw_A_35 {R : Room} {s : State} {args : Array Value} (hta : ∀ w ∈ aw, w.before args s = true) (hR : 1 ≤ R.frames ∧ 30 ≤ R.locals) : CallB R s args R_A 35 y_A_rounded b_A_rounded 1 (some .int) w_A_rounded (rmL 0) 0 0 1 ∧ (Cond.static y_A_rounded).before args s = true := va_cwS 1 hta (gS k_ml_A_35 k_st_A_rounded k_ini_A k_co_A_rounded) rfl rfl rfl (by decide +kernel) ⟨hR.1, Nat.le_trans (by decide) hR.2⟩
theorem cw_A_40 {R : Room} {s : State} {args : Array Value} (hta : ∀ w ∈ aw, w.before args s = true) (hR : 4 ≤ R.frames ∧ 120 ≤ R.locals) : CallW R s args R_A R_S 40 y_S_take b_S_take 6 (some .int) w_S_take (rmL 3) 0 0 1 := cwV 1 hta (gV k_ml_A_40 k_im_S_take k_se_S_take k_ini_S k_co_S_take) rfl rfl rfl (by decide +kernel) ⟨hR.1, Nat.le_trans (by decide) hR.2⟩
theorem cw_S_42 {R : Room} {s : State} {args : Array Value} (hta : ∀ w ∈ aw, w.before args s = true) (hR : 1 ≤ R.frames ∧ 30 ≤ R.locals) : CallB R s args R_S 42 y_S_rounded b_S_rounded 1 (some .int) w_S_rounded (rmL 0) 0 0 1 ∧ (Cond.static y_S_rounded).before args s = true := va_cwS 1 hta (gS k_ml_S_42 k_st_S_rounded k_ini_S k_co_S_rounded) rfl rfl rfl (by decide +kernel) ⟨hR.1, Nat.le_trans (by decide) hR.2⟩
theorem cw_S_58 {R : Room} {s : State} {args : Array Value} (hta : ∀ w ∈ aw, w.before args s = true) (hR : 3 ≤ R.frames ∧ 90 ≤ R.locals) : CallW R s args R_S R_S 58 y_S_place b_S_place 3 (some .int) w_S_place (rmL 2) 0 0 1 := cwV 1 hta (gV k_ml_S_58 k_im_S_place k_se_S_place k_ini_S k_co_S_place) rfl rfl rfl (by decide +kernel) ⟨hR.1, Nat.le_trans (by decide) hR.2⟩
theorem cw_S_55 {R : Room} {s : State} {args : Array Value} (hta : ∀ w ∈ aw, w.before args s = true) (hR : 2 ≤ R.frames ∧ 60 ≤ R.locals) : CallW R s args R_S R_S 55 y_S_push b_S_push 4 none w_S_push (rmL 1) 0 0 0 := cwV 0 hta (gV k_ml_S_55 k_im_S_push k_se_S_push k_ini_S k_co_S_push) rfl rfl rfl (by decide +kernel) ⟨hR.1, Nat.le_trans (by decide) hR.2⟩
theorem cw_S_64 {R : Room} {s : State} {args : Array Value} (hta : ∀ w ∈ aw, w.before args s = true) (hR : 1 ≤ R.frames ∧ 30 ≤ R.locals) : CallW R s args R_S R_S 64 y_S_append b_S_append 2 none w_S_append (rmL 0) 0 0 1 := cwV 1 hta (gV k_ml_S_64 k_im_S_append k_se_S_append k_ini_S k_co_S_append) rfl rfl rfl (by decide +kernel) ⟨hR.1, Nat.le_trans (by decide) hR.2⟩
theorem cw_law_18 {R : Room} {s : State} {args : Array Value} (hta : ∀ w ∈ aw, w.before args s = true) (hR : 3 ≤ R.frames ∧ 90 ≤ R.locals) : CallW R s args R_law R_A 18 y_A_give b_A_give 2 (some .boolean) w_A_give (rmL 2) 0 0 1 := cwV 1 hta (gV k_ml_law_18 k_im_A_give k_se_A_give k_ini_A k_co_A_give) rfl rfl rfl (by decide +kernel) ⟨hR.1, Nat.le_trans (by decide) hR.2⟩
theorem cw_A_43 {R : Room} {s : State} {args : Array Value} (hta : ∀ w ∈ aw, w.before args s = true) (hR : 1 ≤ R.frames ∧ 30 ≤ R.locals) : CallW R s args R_A R_A 43 y_A_isRow b_A_isRow 2 (some .boolean) w_A_isRow (rmL 0) 0 0 1 := cwV 1 hta (gV k_ml_A_43 k_im_A_isRow k_se_A_isRow k_ini_A k_co_A_isRow) rfl rfl rfl (by decide +kernel) ⟨hR.1, Nat.le_trans (by decide) hR.2⟩
theorem cw_A_46 {R : Room} {s : State} {args : Array Value} (hta : ∀ w ∈ aw, w.before args s = true) (hR : 1 ≤ R.frames ∧ 30 ≤ R.locals) : CallW R s args R_A R_S 46 y_S_size b_S_size 2 (some .int) w_S_size (rmL 0) 0 0 1 := cwV 1 hta (gV k_ml_A_46 k_im_S_size k_se_S_size k_ini_S k_co_S_size) rfl rfl rfl (by decide +kernel) ⟨hR.1, Nat.le_trans (by decide) hR.2⟩
theorem cw_A_49 {R : Room} {s : State} {args : Array Value} (hta : ∀ w ∈ aw, w.before args s = true) (hR : 2 ≤ R.frames ∧ 60 ≤ R.locals) : CallW R s args R_A R_S 49 y_S_free b_S_free 2 none w_S_free (rmL 1) 0 0 1 := cwV 1 hta (gV k_ml_A_49 k_im_S_free k_se_S_free k_ini_S k_co_S_free) rfl rfl rfl (by decide +kernel) ⟨hR.1, Nat.le_trans (by decide) hR.2⟩
theorem cw_S_71 {R : Room} {s : State} {args : Array Value} (hta : ∀ w ∈ aw, w.before args s = true) (hR : 1 ≤ R.frames ∧ 30 ≤ R.locals) : CallW R s args R_S R_S 71 y_S_leave b_S_leave 2 none w_S_leave (rmL 0) 0 0 1 := cwV 1 hta (gV k_ml_S_71 k_im_S_leave k_se_S_leave k_ini_S k_co_S_leave) rfl rfl rfl (by decide +kernel) ⟨hR.1, Nat.le_trans (by decide) hR.2⟩
theorem cw_law_23 {R : Room} {s : State} {args : Array Value} (hta : ∀ w ∈ aw, w.before args s = true) (hR : 5 ≤ R.frames ∧ 150 ≤ R.locals) : CallW R s args R_law R_A 23 y_A_resize b_A_resize 4 (some .int) w_A_resize (rmL 4) 0 0 2 := cwV 2 hta (gV k_ml_law_23 k_im_A_resize k_se_A_resize k_ini_A k_co_A_resize) rfl rfl rfl (by decide +kernel) ⟨hR.1, Nat.le_trans (by decide) hR.2⟩
theorem cw_A_53 {R : Room} {s : State} {args : Array Value} (hta : ∀ w ∈ aw, w.before args s = true) (hR : 4 ≤ R.frames ∧ 120 ≤ R.locals) : CallW R s args R_A R_S 53 y_S_resize b_S_resize 5 none w_S_resize (rmL 3) 0 0 2 := cwV 2 hta (gV k_ml_A_53 k_im_S_resize k_se_S_resize k_ini_S k_co_S_resize) rfl rfl rfl (by decide +kernel) ⟨hR.1, Nat.le_trans (by decide) hR.2⟩
theorem cw_law_28 {R : Room} {s : State} {args : Array Value} (hta : ∀ w ∈ aw, w.before args s = true) (hR : 3 ≤ R.frames ∧ 90 ≤ R.locals) : CallW R s args R_law R_A 28 y_A_put b_A_put 4 (some .boolean) w_A_put (rmL 2) 0 0 3 := cwV 3 hta (gV k_ml_law_28 k_im_A_put k_se_A_put k_ini_A k_co_A_put) rfl rfl rfl (by decide +kernel) ⟨hR.1, Nat.le_trans (by decide) hR.2⟩
theorem cw_A_57 {R : Room} {s : State} {args : Array Value} (hta : ∀ w ∈ aw, w.before args s = true) (hR : 2 ≤ R.frames ∧ 60 ≤ R.locals) : CallW R s args R_A R_A 57 y_A_isByte b_A_isByte 3 (some .boolean) w_A_isByte (rmL 1) 0 0 2 := cwV 2 hta (gV k_ml_A_57 k_im_A_isByte k_se_A_isByte k_ini_A k_co_A_isByte) rfl rfl rfl (by decide +kernel) ⟨hR.1, Nat.le_trans (by decide) hR.2⟩
theorem cw_A_61 {R : Room} {s : State} {args : Array Value} (hta : ∀ w ∈ aw, w.before args s = true) (hR : 1 ≤ R.frames ∧ 30 ≤ R.locals) : CallW R s args R_A R_S 61 y_S_set b_S_set 4 none w_S_set (rmL 0) 0 0 3 := cwV 3 hta (gV k_ml_A_61 k_im_S_set k_se_S_set k_ini_S k_co_S_set) rfl rfl rfl (by decide +kernel) ⟨hR.1, Nat.le_trans (by decide) hR.2⟩
theorem cw_law_33 {R : Room} {s : State} {args : Array Value} (hta : ∀ w ∈ aw, w.before args s = true) (hR : 3 ≤ R.frames ∧ 90 ≤ R.locals) : CallW R s args R_law R_A 33 y_A_fill b_A_fill 6 (some .boolean) w_A_fill (rmL 2) 0 0 4 := cwV 4 hta (gV k_ml_law_33 k_im_A_fill k_se_A_fill k_ini_A k_co_A_fill) rfl rfl rfl (by decide +kernel) ⟨hR.1, Nat.le_trans (by decide) hR.2⟩
theorem cw_A_65 {R : Room} {s : State} {args : Array Value} (hta : ∀ w ∈ aw, w.before args s = true) (hR : 2 ≤ R.frames ∧ 60 ≤ R.locals) : CallW R s args R_A R_S 65 y_S_write b_S_write 6 none w_S_write (rmL 1) 0 0 5 := cwV 5 hta (gV k_ml_A_65 k_im_S_write k_se_S_write k_ini_S k_co_S_write) rfl rfl rfl (by decide +kernel) ⟨hR.1, Nat.le_trans (by decide) hR.2⟩
theorem cw_law_38 {R : Room} {s : State} {args : Array Value} (hta : ∀ w ∈ aw, w.before args s = true) (hR : 6 ≤ R.frames ∧ 180 ≤ R.locals) : CallW R s args R_law R_A 38 y_A_copy b_A_copy 5 (some .int) w_A_copy (rmL 5) 0 0 2 := cwV 2 hta (gV k_ml_law_38 k_im_A_copy k_se_A_copy k_ini_A k_co_A_copy) rfl rfl rfl (by decide +kernel) ⟨hR.1, Nat.le_trans (by decide) hR.2⟩
theorem cw_A_69 {R : Room} {s : State} {args : Array Value} (hta : ∀ w ∈ aw, w.before args s = true) (hR : 1 ≤ R.frames ∧ 30 ≤ R.locals) : CallW R s args R_A R_S 69 y_S_get b_S_get 3 (some .int) w_S_get (rmL 0) 0 0 2 := cwV 2 hta (gV k_ml_A_69 k_im_S_get k_se_S_get k_ini_S k_co_S_get) rfl rfl rfl (by decide +kernel) ⟨hR.1, Nat.le_trans (by decide) hR.2⟩
theorem cw_A_73 {R : Room} {s : State} {args : Array Value} (hta : ∀ w ∈ aw, w.before args s = true) (hR : 5 ≤ R.frames ∧ 150 ≤ R.locals) : CallW R s args R_A R_A 73 y_A_resize b_A_resize 4 (some .int) w_A_resize (rmL 4) 0 0 2 := cwV 2 hta (gV k_ml_A_73 k_im_A_resize k_se_A_resize k_ini_A k_co_A_resize) rfl rfl rfl (by decide +kernel) ⟨hR.1, Nat.le_trans (by decide) hR.2⟩
theorem cw_law_42 {R : Room} {s : State} {args : Array Value} (hta : ∀ w ∈ aw, w.before args s = true) (hR : 3 ≤ R.frames ∧ 90 ≤ R.locals) : CallW R s args R_law R_A 42 y_A_get b_A_get 3 (some .int) w_A_get (rmL 2) 0 0 2 := cwV 2 hta (gV k_ml_law_42 k_im_A_get k_se_A_get k_ini_A k_co_A_get) rfl rfl rfl (by decide +kernel) ⟨hR.1, Nat.le_trans (by decide) hR.2⟩
theorem cw_law_46 {R : Room} {s : State} {args : Array Value} (hta : ∀ w ∈ aw, w.before args s = true) (hR : 2 ≤ R.frames ∧ 60 ≤ R.locals) : CallW R s args R_law R_A 46 y_A_size b_A_size 2 (some .int) w_A_size (rmL 1) 0 0 1 := cwV 1 hta (gV k_ml_law_46 k_im_A_size k_se_A_size k_ini_A k_co_A_size) rfl rfl rfl (by decide +kernel) ⟨hR.1, Nat.le_trans (by decide) hR.2⟩
theorem cw_law_50 {R : Room} {s : State} {args : Array Value} (hta : ∀ w ∈ aw, w.before args s = true) (hR : 3 ≤ R.frames ∧ 90 ≤ R.locals) : CallW R s args R_law R_A 50 y_A_compare b_A_compare 3 (some .int) w_A_compare (rmL 2) 0 0 2 := cwV 2 hta (gV k_ml_law_50 k_im_A_compare k_se_A_compare k_ini_A k_co_A_compare) rfl rfl rfl (by decide +kernel) ⟨hR.1, Nat.le_trans (by decide) hR.2⟩
theorem cw_A_75 {R : Room} {s : State} {args : Array Value} (hta : ∀ w ∈ aw, w.before args s = true) (hR : 2 ≤ R.frames ∧ 60 ≤ R.locals) : CallW R s args R_A R_S 75 y_S_compare b_S_compare 5 (some .int) w_S_compare (rmL 1) 0 0 2 := cwV 2 hta (gV k_ml_A_75 k_im_S_compare k_se_S_compare k_ini_S k_co_S_compare) rfl rfl rfl (by decide +kernel) ⟨hR.1, Nat.le_trans (by decide) hR.2⟩
theorem cw_S_74 {R : Room} {s : State} {args : Array Value} (hta : ∀ w ∈ aw, w.before args s = true) (hR : 1 ≤ R.frames ∧ 30 ≤ R.locals) : CallB R s args R_S 74 y_H_min b_H_min 2 (some .int) w_H_min (rmL 0) 0 0 2 ∧ (Cond.static y_H_min).before args s = true := va_cwS 2 hta (gS k_ml_S_74 k_st_H_min k_ini_H k_co_H_min) rfl rfl rfl (by decide +kernel) ⟨hR.1, Nat.le_trans (by decide) hR.2⟩
theorem cw_S_80 {R : Room} {s : State} {args : Array Value} (hta : ∀ w ∈ aw, w.before args s = true) (hR : 1 ≤ R.frames ∧ 30 ≤ R.locals) : CallW R s args R_S R_S 80 y_S_get b_S_get 3 (some .int) w_S_get (rmL 0) 0 0 2 := cwV 2 hta (gV k_ml_S_80 k_im_S_get k_se_S_get k_ini_S k_co_S_get) rfl rfl rfl (by decide +kernel) ⟨hR.1, Nat.le_trans (by decide) hR.2⟩
theorem cw_A_78 {R : Room} {s : State} {args : Array Value} (hta : ∀ w ∈ aw, w.before args s = true) (hR : 1 ≤ R.frames ∧ 30 ≤ R.locals) : CallB R s args R_A 78 y_I_signum b_I_signum 1 (some .int) w_I_signum (rmL 0) 0 0 1 ∧ (Cond.static y_I_signum).before args s = true := va_cwS 1 hta (gS k_ml_A_78 k_st_I_signum k_ini_I k_co_I_signum) rfl rfl rfl (by decide +kernel) ⟨hR.1, Nat.le_trans (by decide) hR.2⟩
theorem cw_law_54 {R : Room} {s : State} {args : Array Value} (hta : ∀ w ∈ aw, w.before args s = true) (hR : 2 ≤ R.frames ∧ 60 ≤ R.locals) : CallW R s args R_law R_A 54 y_A_sum b_A_sum 4 (some .int) w_A_sum (rmL 1) 0 0 1 := cwV 1 hta (gV k_ml_law_54 k_im_A_sum k_se_A_sum k_ini_A k_co_A_sum) rfl rfl rfl (by decide +kernel) ⟨hR.1, Nat.le_trans (by decide) hR.2⟩
theorem cw_law_58 {R : Room} {s : State} {args : Array Value} (hta : ∀ w ∈ aw, w.before args s = true) (hR : 1 ≤ R.frames ∧ 30 ≤ R.locals) : CallW R s args R_law R_A 58 y_A_rows b_A_rows 1 (some .int) w_A_rows (rmL 0) 0 0 0 := cwV 0 hta (gV k_ml_law_58 k_im_A_rows k_se_A_rows k_ini_A k_co_A_rows) rfl rfl rfl (by decide +kernel) ⟨hR.1, Nat.le_trans (by decide) hR.2⟩
theorem cw_law_63 {R : Room} {s : State} {args : Array Value} (hta : ∀ w ∈ aw, w.before args s = true) (hR : 1 ≤ R.frames ∧ 30 ≤ R.locals) : CallW R s args R_law R_A 63 y_A_places b_A_places 1 (some .int) w_A_places (rmL 0) 0 0 0 := cwV 0 hta (gV k_ml_law_63 k_im_A_places k_se_A_places k_ini_A k_co_A_places) rfl rfl rfl (by decide +kernel) ⟨hR.1, Nat.le_trans (by decide) hR.2⟩
theorem cw_law_17 {R : Room} {s : State} {args : Array Value} (hta : ∀ w ∈ aw, w.before args s = true) (hR : 3 ≤ R.frames ∧ 90 ≤ R.locals) : CallW R s args R_law R_M 17 y_M_take b_M_take 3 (some .int) w_M_take (rmL 2) 0 0 1 := cwV 1 hta (gV k_ml_law_17 k_im_M_take k_se_M_take k_ini_M k_co_M_take) rfl rfl rfl (by decide +kernel) ⟨hR.1, Nat.le_trans (by decide) hR.2⟩
theorem cw_M_31 {R : Room} {s : State} {args : Array Value} (hta : ∀ w ∈ aw, w.before args s = true) (hR : 1 ≤ R.frames ∧ 30 ≤ R.locals) : CallW R s args R_M R_M 31 y_M_many b_M_many 1 (some .int) w_M_many (rmL 0) 0 0 0 := cwV 0 hta (gV k_ml_M_31 k_im_M_many k_se_M_many k_ini_M k_co_M_many) rfl rfl rfl (by decide +kernel) ⟨hR.1, Nat.le_trans (by decide) hR.2⟩
theorem cw_M_38 {R : Room} {s : State} {args : Array Value} (hta : ∀ w ∈ aw, w.before args s = true) (hR : 1 ≤ R.frames ∧ 30 ≤ R.locals) : CallB R s args R_M 38 y_M_placesOf b_M_placesOf 1 (some .int) w_M_placesOf (rmL 0) 0 0 1 ∧ (Cond.static y_M_placesOf).before args s = true := va_cwS 1 hta (gS k_ml_M_38 k_st_M_placesOf k_ini_M k_co_M_placesOf) rfl rfl rfl (by decide +kernel) ⟨hR.1, Nat.le_trans (by decide) hR.2⟩
theorem cw_M_42 {R : Room} {s : State} {args : Array Value} (hta : ∀ w ∈ aw, w.before args s = true) (hR : 2 ≤ R.frames ∧ 60 ≤ R.locals) : CallW R s args R_M R_M 42 y_M_change b_M_change 7 none w_M_change (rmL 1) 0 0 2 := cwV 2 hta (gV k_ml_M_42 k_im_M_change k_se_M_change k_ini_M k_co_M_change) rfl rfl rfl (by decide +kernel) ⟨hR.1, Nat.le_trans (by decide) hR.2⟩
theorem cw_M_49 {R : Room} {s : State} {args : Array Value} (hta : ∀ w ∈ aw, w.before args s = true) (hR : 1 ≤ R.frames ∧ 30 ≤ R.locals) : CallW R s args R_M R_M 49 y_M_shift b_M_shift 4 none w_M_shift (rmL 0) 0 0 2 := cwV 2 hta (gV k_ml_M_49 k_im_M_shift k_se_M_shift k_ini_M k_co_M_shift) rfl rfl rfl (by decide +kernel) ⟨hR.1, Nat.le_trans (by decide) hR.2⟩
theorem cw_law_22 {R : Room} {s : State} {args : Array Value} (hta : ∀ w ∈ aw, w.before args s = true) (hR : 3 ≤ R.frames ∧ 90 ≤ R.locals) : CallW R s args R_law R_M 22 y_M_give b_M_give 2 (some .boolean) w_M_give (rmL 2) 0 0 1 := cwV 1 hta (gV k_ml_law_22 k_im_M_give k_se_M_give k_ini_M k_co_M_give) rfl rfl rfl (by decide +kernel) ⟨hR.1, Nat.le_trans (by decide) hR.2⟩
theorem cw_M_52 {R : Room} {s : State} {args : Array Value} (hta : ∀ w ∈ aw, w.before args s = true) (hR : 1 ≤ R.frames ∧ 30 ≤ R.locals) : CallW R s args R_M R_M 52 y_M_isRow b_M_isRow 2 (some .boolean) w_M_isRow (rmL 0) 0 0 1 := cwV 1 hta (gV k_ml_M_52 k_im_M_isRow k_se_M_isRow k_ini_M k_co_M_isRow) rfl rfl rfl (by decide +kernel) ⟨hR.1, Nat.le_trans (by decide) hR.2⟩
theorem cw_law_27 {R : Room} {s : State} {args : Array Value} (hta : ∀ w ∈ aw, w.before args s = true) (hR : 3 ≤ R.frames ∧ 90 ≤ R.locals) : CallW R s args R_law R_M 27 y_M_resize b_M_resize 3 (some .int) w_M_resize (rmL 2) 0 0 2 := cwV 2 hta (gV k_ml_law_27 k_im_M_resize k_se_M_resize k_ini_M k_co_M_resize) rfl rfl rfl (by decide +kernel) ⟨hR.1, Nat.le_trans (by decide) hR.2⟩
theorem cw_M_56 {R : Room} {s : State} {args : Array Value} (hta : ∀ w ∈ aw, w.before args s = true) (hR : 2 ≤ R.frames ∧ 60 ≤ R.locals) : CallW R s args R_M R_M 56 y_M_hasRoom b_M_hasRoom 3 (some .boolean) w_M_hasRoom (rmL 1) 0 0 2 := cwV 2 hta (gV k_ml_M_56 k_im_M_hasRoom k_se_M_hasRoom k_ini_M k_co_M_hasRoom) rfl rfl rfl (by decide +kernel) ⟨hR.1, Nat.le_trans (by decide) hR.2⟩
theorem cw_law_32 {R : Room} {s : State} {args : Array Value} (hta : ∀ w ∈ aw, w.before args s = true) (hR : 2 ≤ R.frames ∧ 60 ≤ R.locals) : CallW R s args R_law R_M 32 y_M_put b_M_put 4 (some .boolean) w_M_put (rmL 1) 0 0 3 := cwV 3 hta (gV k_ml_law_32 k_im_M_put k_se_M_put k_ini_M k_co_M_put) rfl rfl rfl (by decide +kernel) ⟨hR.1, Nat.le_trans (by decide) hR.2⟩
theorem cw_law_37 {R : Room} {s : State} {args : Array Value} (hta : ∀ w ∈ aw, w.before args s = true) (hR : 2 ≤ R.frames ∧ 60 ≤ R.locals) : CallW R s args R_law R_M 37 y_M_fill b_M_fill 6 (some .boolean) w_M_fill (rmL 1) 0 0 4 := cwV 4 hta (gV k_ml_law_37 k_im_M_fill k_se_M_fill k_ini_M k_co_M_fill) rfl rfl rfl (by decide +kernel) ⟨hR.1, Nat.le_trans (by decide) hR.2⟩
theorem cw_law_41 {R : Room} {s : State} {args : Array Value} (hta : ∀ w ∈ aw, w.before args s = true) (hR : 3 ≤ R.frames ∧ 90 ≤ R.locals) : CallW R s args R_law R_M 41 y_M_copy b_M_copy 5 (some .int) w_M_copy (rmL 2) 0 0 2 := cwV 2 hta (gV k_ml_law_41 k_im_M_copy k_se_M_copy k_ini_M k_co_M_copy) rfl rfl rfl (by decide +kernel) ⟨hR.1, Nat.le_trans (by decide) hR.2⟩
theorem cw_law_45 {R : Room} {s : State} {args : Array Value} (hta : ∀ w ∈ aw, w.before args s = true) (hR : 2 ≤ R.frames ∧ 60 ≤ R.locals) : CallW R s args R_law R_M 45 y_M_get b_M_get 3 (some .int) w_M_get (rmL 1) 0 0 2 := cwV 2 hta (gV k_ml_law_45 k_im_M_get k_se_M_get k_ini_M k_co_M_get) rfl rfl rfl (by decide +kernel) ⟨hR.1, Nat.le_trans (by decide) hR.2⟩
theorem cw_law_49 {R : Room} {s : State} {args : Array Value} (hta : ∀ w ∈ aw, w.before args s = true) (hR : 2 ≤ R.frames ∧ 60 ≤ R.locals) : CallW R s args R_law R_M 49 y_M_size b_M_size 2 (some .int) w_M_size (rmL 1) 0 0 1 := cwV 1 hta (gV k_ml_law_49 k_im_M_size k_se_M_size k_ini_M k_co_M_size) rfl rfl rfl (by decide +kernel) ⟨hR.1, Nat.le_trans (by decide) hR.2⟩
theorem cw_law_53 {R : Room} {s : State} {args : Array Value} (hta : ∀ w ∈ aw, w.before args s = true) (hR : 3 ≤ R.frames ∧ 90 ≤ R.locals) : CallW R s args R_law R_M 53 y_M_compare b_M_compare 5 (some .int) w_M_compare (rmL 2) 0 0 2 := cwV 2 hta (gV k_ml_law_53 k_im_M_compare k_se_M_compare k_ini_M k_co_M_compare) rfl rfl rfl (by decide +kernel) ⟨hR.1, Nat.le_trans (by decide) hR.2⟩
theorem cw_M_60 {R : Room} {s : State} {args : Array Value} (hta : ∀ w ∈ aw, w.before args s = true) (hR : 2 ≤ R.frames ∧ 60 ≤ R.locals) : CallW R s args R_M R_M 60 y_M_get b_M_get 3 (some .int) w_M_get (rmL 1) 0 0 2 := cwV 2 hta (gV k_ml_M_60 k_im_M_get k_se_M_get k_ini_M k_co_M_get) rfl rfl rfl (by decide +kernel) ⟨hR.1, Nat.le_trans (by decide) hR.2⟩
theorem cw_law_57 {R : Room} {s : State} {args : Array Value} (hta : ∀ w ∈ aw, w.before args s = true) (hR : 3 ≤ R.frames ∧ 90 ≤ R.locals) : CallW R s args R_law R_M 57 y_M_sum b_M_sum 4 (some .int) w_M_sum (rmL 2) 0 0 1 := cwV 1 hta (gV k_ml_law_57 k_im_M_sum k_se_M_sum k_ini_M k_co_M_sum) rfl rfl rfl (by decide +kernel) ⟨hR.1, Nat.le_trans (by decide) hR.2⟩
theorem cw_M_64 {R : Room} {s : State} {args : Array Value} (hta : ∀ w ∈ aw, w.before args s = true) (hR : 2 ≤ R.frames ∧ 60 ≤ R.locals) : CallW R s args R_M R_M 64 y_M_size b_M_size 2 (some .int) w_M_size (rmL 1) 0 0 1 := cwV 1 hta (gV k_ml_M_64 k_im_M_size k_se_M_size k_ini_M k_co_M_size) rfl rfl rfl (by decide +kernel) ⟨hR.1, Nat.le_trans (by decide) hR.2⟩
theorem cw_law_62 {R : Room} {s : State} {args : Array Value} (hta : ∀ w ∈ aw, w.before args s = true) (hR : 2 ≤ R.frames ∧ 60 ≤ R.locals) : CallW R s args R_law R_M 62 y_M_rows b_M_rows 1 (some .int) w_M_rows (rmL 1) 0 0 0 := cwV 0 hta (gV k_ml_law_62 k_im_M_rows k_se_M_rows k_ini_M k_co_M_rows) rfl rfl rfl (by decide +kernel) ⟨hR.1, Nat.le_trans (by decide) hR.2⟩
theorem cw_law_66 {R : Room} {s : State} {args : Array Value} (hta : ∀ w ∈ aw, w.before args s = true) (hR : 1 ≤ R.frames ∧ 30 ≤ R.locals) : CallW R s args R_law R_M 66 y_M_places b_M_places 1 (some .int) w_M_places (rmL 0) 0 0 0 := cwV 0 hta (gV k_ml_law_66 k_im_M_places k_se_M_places k_ini_M k_co_M_places) rfl rfl rfl (by decide +kernel) ⟨hR.1, Nat.le_trans (by decide) hR.2⟩
end
section
/-! The worlds: a shelf (7 cells), a shelf with the array that write copies from, a ByteShelf (10 cells), a ByteShelfModel (5 cells); addresses a 0, a 1, .. -/
abbrev wS (cB cI : ClassId) (a : Nat → Nat) (fb : Nat → Int32) (pa ps pr : Nat → Nat) (nx la : Nat → Int32) (fi en fr : Int32) (mn tp : Nat) : va_W :=
  [(a 0, .inr (0, [.ref (a 1), .ref (a 2), .ref (a 3), .ref (a 4), .ref (a 5), .ref (a 6), .int fi, .int en, .int fr, .int (nI mn), .int (nI tp)])), (a 1, .inl (cB, 400000, .inl fb)), (a 2, .inl (cI, 32000, .inl (nF pa))), (a 3, .inl (cI, 32000, .inl (nF ps))), (a 4, .inl (cI, 32000, .inl (nF pr))), (a 5, .inl (cI, 32000, .inl nx)), (a 6, .inl (cI, 32000, .inl la))]
abbrev wSW (cB cI : ClassId) (a : Nat → Nat) (fb : Nat → Int32) (pa ps pr : Nat → Nat) (nx la : Nat → Int32) (fi en fr : Int32) (mn tp : Nat) (hd : Nat → Int32) : va_W :=
  [(a 0, .inr (0, [.ref (a 1), .ref (a 2), .ref (a 3), .ref (a 4), .ref (a 5), .ref (a 6), .int fi, .int en, .int fr, .int (nI mn), .int (nI tp)])), (a 1, .inl (cB, 400000, .inl fb)), (a 2, .inl (cI, 32000, .inl (nF pa))), (a 3, .inl (cI, 32000, .inl (nF ps))), (a 4, .inl (cI, 32000, .inl (nF pr))), (a 5, .inl (cI, 32000, .inl nx)), (a 6, .inl (cI, 32000, .inl la)), (a 8, .inl (cB, 16384, .inl hd))]
abbrev wA (cB cI cZ : ClassId) (a : Nat → Nat) (fb : Nat → Int32) (pa ps pr : Nat → Nat) (nx la : Nat → Int32) (fi en fr : Int32) (mn tp : Nat) (th hd : Nat → Int32) (rw pl : Nat) : va_W :=
  [(a 0, .inr (1, [.ref (a 1), .ref (a 8), .ref (a 9), .int (nI rw), .int (nI pl)])), (a 1, .inr (0, [.ref (a 2), .ref (a 3), .ref (a 4), .ref (a 5), .ref (a 6), .ref (a 7), .int fi, .int en, .int fr, .int (nI mn), .int (nI tp)])), (a 2, .inl (cB, 400000, .inl fb)), (a 3, .inl (cI, 32000, .inl (nF pa))), (a 4, .inl (cI, 32000, .inl (nF ps))), (a 5, .inl (cI, 32000, .inl (nF pr))), (a 6, .inl (cI, 32000, .inl nx)), (a 7, .inl (cI, 32000, .inl la)), (a 8, .inl (cZ, 20000, .inl th)), (a 9, .inl (cB, 16384, .inl hd))]
abbrev wM (cB cI : ClassId) (a : Nat → Nat) (fb : Nat → Int32) (st : Nat → Nat) (sz bs : Nat → Int32) (us nn bm tk : Nat) : va_W :=
  [(a 0, .inr (2, [.ref (a 1), .int (nI us), .ref (a 2), .ref (a 3), .int (nI nn), .ref (a 4), .int (nI bm), .int (nI tk)])), (a 1, .inl (cB, 400000, .inl fb)), (a 2, .inl (cI, 20000, .inl (nF st))), (a 3, .inl (cI, 20000, .inl sz)), (a 4, .inl (cI, 20000, .inl bs))]
/-- the next multiple of 8 -/
def rnd (n : Nat) : Nat := (n + 7) / 8 * 8
theorem and8 {m : Nat} (h : m < 2 ^ 32) : m &&& 4294967288 = m / 8 * 8 := by
  have e : m / 8 * 8 = (m >>> 3) <<< 3 := by rw [Nat.shiftRight_eq_div_pow, Nat.shiftLeft_eq]
  rw [e]
  apply Nat.eq_of_testBit_eq
  intro i
  rw [Nat.testBit_and, Nat.testBit_shiftLeft, Nat.testBit_shiftRight]
  by_cases hi : i < 32
  · have k : ∀ i, i < 32 → Nat.testBit 4294967288 i = decide (i ≥ 3) := by decide
    rw [k i hi]
    by_cases h3 : i ≥ 3
    · rw [show 3 + (i - 3) = i by omega]
      simp [h3]
    · simp [h3]
  · have z : m.testBit i = false := Nat.testBit_lt_two_pow (Nat.lt_of_lt_of_le h (Nat.pow_le_pow_right (by decide) (by omega)))
    rw [show 3 + (i - 3) = i by omega, z]
    simp
theorem rnd_and {n : Nat} (h : n < 2 ^ 30) : nI (n + 7) &&& (-8) = nI (rnd n) := by
  apply Int32.toBitVec_inj.mp
  rw [Int32.toBitVec_and]
  apply BitVec.eq_of_toNat_eq
  rw [BitVec.toNat_and, pk_tn (show n + 7 < 2 ^ 32 by omega), pk_tn (show rnd n < 2 ^ 32 by unfold rnd; omega), show (Int32.toBitVec (-8)).toNat = 4294967288 from rfl, and8 (by omega)]
  rfl
theorem rnd_dm {n : Nat} (h : n < 2 ^ 30) : (nI (n + 7) / nI 8) * nI 8 = nI (rnd n) := by
  rw [pk_div (by omega) (by decide) (by decide), pk_mul]
  rfl
theorem rnd_le (n : Nat) : n ≤ rnd n := by unfold rnd; omega
theorem rnd_lt (n : Nat) : rnd n < n + 8 := by unfold rnd; omega
theorem rnd_8 (n : Nat) : rnd n % 8 = 0 := by unfold rnd; omega
theorem rnd_of {n r : Nat} (h : n ≤ r) (h8 : r % 8 = 0) : rnd n ≤ r := by unfold rnd; omega
theorem rnd_0 : rnd 0 = 0 := rfl
/-- a content of bytes -/
def bF (f : Nat → Int32) : Prop := ∀ k, (f k).toInt8.toInt32 = f k
theorem bF_fit {f : Nat → Int32} (h : bF f) (k : Nat) : fits .byte (.int (f k)) = true := by rw [← h k]; exact pk_fb _
theorem tb_tb (x : Int32) : x.toInt8.toInt32.toInt8.toInt32 = x.toInt8.toInt32 := by simp
theorem bF_upd {f : Nat → Int32} (h : bF f) (k : Nat) (x : Int32) : bF (upd f k x.toInt8.toInt32) := by
  intro j
  unfold upd
  by_cases hj : j = k
  · rw [if_pos hj]; exact tb_tb x
  · rw [if_neg hj]; exact h j
theorem bF_cpy {f g : Nat → Int32} {sp dp n : Nat} (hf : bF f) (hg : bF g) : bF (va_cpy f g sp dp n) := by
  intro j
  unfold va_cpy
  by_cases h : dp ≤ j ∧ j < dp + n
  · rw [if_pos h]; exact hf _
  · rw [if_neg h]; exact hg _
end
section
set_option maxHeartbeats 4000000 in
/-- Shelf.rounded -/
theorem c_S_rounded (l : Launch) (n : Nat) (hn : n < 2 ^ 30) : Met l y_S_rounded w_S_rounded (rmL 0) (va_Pc [.int (nI n)] (fun _ => True)) (Qi (nI (rnd n))) 0 0 NoA := by
  refine entry (by decide) (Nat.le_of_ble_eq_true rfl) ?_
  intro p e s m args below meth c S hr hlocks hin hPre ls hl
  have hx := S.1
  have hb := S.2.1
  have hl : lv_has ls 1 [(0, .int (nI n))] := hl
  have hS : va_S NoA s.heap s.heap [] := va_S.rf
  refine lv_iload_n hx hb d_S_rounded_0 rfl (lv_at hl 0 rfl) ?_
  refine lv_bipush (v := (nI 7)) hx hb d_S_rounded_1 (by decide) ?_
  refine lv_iadd hx hb d_S_rounded_3 ?_
  refine tpE (y := nI (n + 7)) (nI_add n 7) ?_
  refine lv_bipush (v := (-8)) hx hb d_S_rounded_4 (by decide) ?_
  refine lv_iand hx hb d_S_rounded_6 ?_
  refine tpE (y := nI (rnd n)) (rnd_and hn) ?_
  exact rtI S hr hlocks hS rfl d_S_rounded_7
set_option maxHeartbeats 4000000 in
/-- ByteShelf.rounded -/
theorem c_A_rounded (l : Launch) (n : Nat) (hn : n < 2 ^ 30) : Met l y_A_rounded w_A_rounded (rmL 0) (va_Pc [.int (nI n)] (fun _ => True)) (Qi (nI (rnd n))) 0 0 NoA := by
  refine entry (by decide) (Nat.le_of_ble_eq_true rfl) ?_
  intro p e s m args below meth c S hr hlocks hin hPre ls hl
  have hx := S.1
  have hb := S.2.1
  have hl : lv_has ls 1 [(0, .int (nI n))] := hl
  have hS : va_S NoA s.heap s.heap [] := va_S.rf
  refine lv_iload_n hx hb d_A_rounded_0 rfl (lv_at hl 0 rfl) ?_
  refine lv_bipush (v := (nI 7)) hx hb d_A_rounded_1 (by decide) ?_
  refine lv_iadd hx hb d_A_rounded_3 ?_
  refine tpE (y := nI (n + 7)) (nI_add n 7) ?_
  refine lv_bipush (v := (nI 8)) hx hb d_A_rounded_4 (by decide) ?_
  refine lv_idiv hx hb d_A_rounded_6 (by decide) ?_
  refine lv_bipush (v := (nI 8)) hx hb d_A_rounded_7 (by decide) ?_
  refine lv_imul hx hb d_A_rounded_9 ?_
  refine tpE (y := nI (rnd n)) (rnd_dm hn) ?_
  exact rtI S hr hlocks hS rfl d_A_rounded_10
set_option maxHeartbeats 4000000 in
/-- ByteShelfModel.placesOf -/
theorem c_M_placesOf (l : Launch) (n : Nat) (hn : n < 2 ^ 30) : Met l y_M_placesOf w_M_placesOf (rmL 0) (va_Pc [.int (nI n)] (fun _ => True)) (Qi (nI (rnd n))) 0 0 NoA := by
  refine entry (by decide) (Nat.le_of_ble_eq_true rfl) ?_
  intro p e s m args below meth c S hr hlocks hin hPre ls hl
  have hx := S.1
  have hb := S.2.1
  have hl : lv_has ls 1 [(0, .int (nI n))] := hl
  have hS : va_S NoA s.heap s.heap [] := va_S.rf
  refine lv_iload_n hx hb d_M_placesOf_0 rfl (lv_at hl 0 rfl) ?_
  refine lv_bipush (v := (nI 7)) hx hb d_M_placesOf_1 (by decide) ?_
  refine lv_iadd hx hb d_M_placesOf_3 ?_
  refine tpE (y := nI (n + 7)) (nI_add n 7) ?_
  refine lv_bipush (v := (nI 8)) hx hb d_M_placesOf_4 (by decide) ?_
  refine lv_idiv hx hb d_M_placesOf_6 (by decide) ?_
  refine lv_bipush (v := (nI 8)) hx hb d_M_placesOf_7 (by decide) ?_
  refine lv_imul hx hb d_M_placesOf_9 ?_
  refine tpE (y := nI (rnd n)) (rnd_dm hn) ?_
  exact rtI S hr hlocks hS rfl d_M_placesOf_10
set_option maxHeartbeats 4000000 in
/-- Shelf.size -/
theorem c_S_size (l : Launch) (D : va_G) (cB cI cZ : ClassId) (a : Nat → Nat) (fb : Nat → Int32) (pa ps pr : Nat → Nat) (nx la : Nat → Int32) (fi en fr : Int32) (mn tp : Nat) (h : Nat) (hh : h < 32000) : Met l y_S_size w_S_size (rmL 0) (va_Pc [.ref (a 0), .int (nI h)] (Wd D cB cI cZ (wS cB cI a fb pa ps pr nx la fi en fr mn tp))) (Qi (nI (ps h))) 0 0 NoA := by
  refine entry (by decide) (Nat.le_of_ble_eq_true rfl) ?_
  intro p e s m args below meth c S hr hlocks hin hPre ls hl
  have hx := S.1
  have hb := S.2.1
  have hl : lv_has ls 2 [(0, .ref (a 0)), (1, .int (nI h))] := hl
  obtain ⟨hP, hK, hD⟩ := hPre
  have hS : va_S NoA s.heap s.heap [] := va_S.rf
  refine lv_aload_n hx hb d_S_size_0 rfl (lv_at hl 0 rfl) ?_
  refine gf_S_size S hK hP 0 rfl rfl d_S_size_1 ?_
  refine lv_iload_n hx hb d_S_size_4 rfl (lv_at hl 1 rfl) ?_
  refine ldI S hK hP 3 rfl h rfl (by omega) (v := nI (ps h)) rfl d_S_size_5 ?_
  exact rtI S hr hlocks hS rfl d_S_size_6
set_option maxHeartbeats 4000000 in
/-- Shelf.get -/
theorem c_S_get (l : Launch) (D : va_G) (cB cI cZ : ClassId) (a : Nat → Nat) (fb : Nat → Int32) (pa ps pr : Nat → Nat) (nx la : Nat → Int32) (fi en fr : Int32) (mn tp : Nat) (h i : Nat) (hh : h < 32000) (hi : pa h + i < 400000) : Met l y_S_get w_S_get (rmL 0) (va_Pc [.ref (a 0), .int (nI h), .int (nI i)] (Wd D cB cI cZ (wS cB cI a fb pa ps pr nx la fi en fr mn tp))) (Qi (fb (pa h + i) &&& 255)) 0 0 NoA := by
  refine entry (by decide) (Nat.le_of_ble_eq_true rfl) ?_
  intro p e s m args below meth c S hr hlocks hin hPre ls hl
  have hx := S.1
  have hb := S.2.1
  have hl : lv_has ls 3 [(0, .ref (a 0)), (1, .int (nI h)), (2, .int (nI i))] := hl
  obtain ⟨hP, hK, hD⟩ := hPre
  have hS : va_S NoA s.heap s.heap [] := va_S.rf
  refine lv_aload_n hx hb d_S_get_0 rfl (lv_at hl 0 rfl) ?_
  refine gf_S_bytes S hK hP 0 rfl rfl d_S_get_1 ?_
  refine lv_aload_n hx hb d_S_get_4 rfl (lv_at hl 0 rfl) ?_
  refine gf_S_at S hK hP 0 rfl rfl d_S_get_5 ?_
  refine lv_iload_n hx hb d_S_get_8 rfl (lv_at hl 1 rfl) ?_
  refine ldI S hK hP 2 rfl h rfl (by omega) (v := nI (pa h)) rfl d_S_get_9 ?_
  refine lv_iload_n hx hb d_S_get_10 rfl (lv_at hl 2 rfl) ?_
  refine lv_iadd hx hb d_S_get_11 ?_
  refine tpE (y := nI (pa h + i)) (nI_add _ _) ?_
  refine ldB S hK hP 1 rfl (pa h + i) rfl (by omega) (v := fb (pa h + i)) rfl d_S_get_12 ?_
  refine lv_sipush (v := 255) hx hb d_S_get_13 (by decide) ?_
  refine lv_iand hx hb d_S_get_16 ?_
  exact rtI S hr hlocks hS rfl d_S_get_17
set_option maxHeartbeats 4000000 in
/-- Shelf.set -/
theorem c_S_set (l : Launch) (D : va_G) (cB cI cZ : ClassId) (a : Nat → Nat) (fb : Nat → Int32) (pa ps pr : Nat → Nat) (nx la : Nat → Int32) (fi en fr : Int32) (mn tp : Nat) (h i : Nat) (b : Int32) (hh : h < 32000) (hi : pa h + i < 400000) : Met l y_S_set w_S_set (rmL 0) (va_Pc [.ref (a 0), .int (nI h), .int (nI i), .int b] (Wd D cB cI cZ (wS cB cI a fb pa ps pr nx la fi en fr mn tp))) (Qmv D (fun _ : Unit => True) (fun _ => wS cB cI a (upd fb (pa h + i) b.toInt8.toInt32) pa ps pr nx la fi en fr mn tp) (wS cB cI a fb pa ps pr nx la fi en fr mn tp)) 0 0 (inA (wS cB cI a fb pa ps pr nx la fi en fr mn tp)) := by
  refine entry (by decide) (Nat.le_of_ble_eq_true rfl) ?_
  intro p e s m args below meth c S hr hlocks hin hPre ls hl
  have hx := S.1
  have hb := S.2.1
  have hl : lv_has ls 4 [(0, .ref (a 0)), (1, .int (nI h)), (2, .int (nI i)), (3, .int b)] := hl
  obtain ⟨hP, hK, hD⟩ := hPre
  have hD := inA_self hD
  have hS : va_S (inA (wS cB cI a fb pa ps pr nx la fi en fr mn tp)) s.heap s.heap [] := va_S.rf
  refine lv_aload_n hx hb d_S_set_0 rfl (lv_at hl 0 rfl) ?_
  refine gf_S_bytes S hK hP 0 rfl rfl d_S_set_1 ?_
  refine lv_aload_n hx hb d_S_set_4 rfl (lv_at hl 0 rfl) ?_
  refine gf_S_at S hK hP 0 rfl rfl d_S_set_5 ?_
  refine lv_iload_n hx hb d_S_set_8 rfl (lv_at hl 1 rfl) ?_
  refine ldI S hK hP 2 rfl h rfl (by omega) (v := nI (pa h)) rfl d_S_set_9 ?_
  refine lv_iload_n hx hb d_S_set_10 rfl (lv_at hl 2 rfl) ?_
  refine lv_iadd hx hb d_S_set_11 ?_
  refine tpE (y := nI (pa h + i)) (nI_add _ _) ?_
  refine lv_iload_n hx hb d_S_set_12 rfl (lv_at hl 3 rfl) ?_
  refine lv_i2b (v := b.toInt8.toInt32) hx hb d_S_set_13 (rfl) ?_
  refine stB S hK hP hD hS 1 rfl (pa h + i) rfl (by omega) (g := upd fb (pa h + i) b.toInt8.toInt32) (by rw [tb_tb]) d_S_set_14 (fun H locs hP hD hS => ?_)
  have hP : va_P D classes (wS cB cI a (upd fb (pa h + i) b.toInt8.toInt32) pa ps pr nx la fi en fr mn tp) H := hP
  have hD : va_D (inA (wS cB cI a fb pa ps pr nx la fi en fr mn tp)) (wS cB cI a (upd fb (pa h + i) b.toInt8.toInt32) pa ps pr nx la fi en fr mn tp) := hD
  exact rmV S hr hlocks () trivial hP hS d_S_set_15
end
section
/-! Pure: linked lists in arrays, places, sums -/
/-- from the pointer p by f through the numbers of a list to the pointer q -/
def Sg (f : Nat → Int32) : Int32 → List Nat → Int32 → Prop
  | p, [], q => p = q
  | p, h :: t, q => p = nI h ∧ h < 32000 ∧ Sg f (f h) t q
theorem Sg_app {f : Nat → Int32} {q : Int32} : ∀ (L1 L2 : List Nat) (p : Int32), Sg f p (L1 ++ L2) q ↔ ∃ r, Sg f p L1 r ∧ Sg f r L2 q
  | [], L2, p => ⟨fun h => ⟨p, rfl, h⟩, fun ⟨r, h1, h2⟩ => by cases h1; exact h2⟩
  | h :: t, L2, p => by
    show (p = nI h ∧ h < 32000 ∧ Sg f (f h) (t ++ L2) q) ↔ ∃ r, (p = nI h ∧ h < 32000 ∧ Sg f (f h) t r) ∧ Sg f r L2 q
    rw [Sg_app t L2]
    constructor
    · rintro ⟨a, b, r, c, d⟩; exact ⟨r, ⟨a, b, c⟩, d⟩
    · rintro ⟨r, ⟨a, b, c⟩, d⟩; exact ⟨a, b, r, c, d⟩
theorem Sg_congr {f g : Nat → Int32} {q : Int32} : ∀ (L : List Nat) (p : Int32), (∀ x ∈ L, g x = f x) → Sg f p L q → Sg g p L q
  | [], p, _, h => h
  | h :: t, p, hx, ⟨a, b, c⟩ => ⟨a, b, by rw [hx h List.mem_cons_self]; exact Sg_congr t _ (fun x hm => hx x (List.mem_cons_of_mem _ hm)) c⟩
theorem Sg_upd {f : Nat → Int32} {p q v : Int32} {x : Nat} {L : List Nat} (hx : x ∉ L) (h : Sg f p L q) : Sg (upd f x v) p L q :=
  Sg_congr L p (fun y hy => pk_un (fun e => hx (e ▸ hy))) h
theorem Sg_last {f : Nat → Int32} {p q v : Int32} {x : Nat} {L : List Nat} (hx : x ∉ L) (h : Sg f p (L ++ [x]) q) : Sg (upd f x v) p (L ++ [x]) v := by
  obtain ⟨r, h1, h2, h3, -⟩ := (Sg_app L [x] p).mp h
  exact (Sg_app L [x] p).mpr ⟨r, Sg_upd hx h1, h2, h3, pk_us⟩
theorem Sg_mem {f : Nat → Int32} {q : Int32} : ∀ (L : List Nat) (p : Int32), Sg f p L q → ∀ x ∈ L, x < 32000
  | [], p, _, x, hx => by cases hx
  | h :: t, p, ⟨_, b, c⟩, x, hx => by
    rcases List.mem_cons.mp hx with rfl | hx
    · exact b
    · exact Sg_mem t _ c x hx
/-- the pointer tells whether the list is empty -/
theorem Sg_neg {f : Nat → Int32} {p : Int32} {L : List Nat} (h : Sg f p L (-1)) (hp : p < 0) : L = [] := by
  cases L with
  | nil => rfl
  | cons x t => exact absurd hp (by rw [h.1]; exact nI_pos (by have := h.2.1; omega))
theorem Sg_pos {f : Nat → Int32} {p : Int32} {L : List Nat} (h : Sg f p L (-1)) (hp : ¬ p < 0) : ∃ x t, L = x :: t ∧ p = nI x ∧ x < 32000 ∧ Sg f (f x) t (-1) := by
  cases L with
  | nil => exact absurd (show p < 0 by rw [show p = -1 from h]; decide) hp
  | cons x t => exact ⟨x, t, rfl, h.1, h.2.1, h.2.2⟩
def Lk (nx la : Nat → Int32) (fi en : Int32) (L : List Nat) : Prop := Sg nx fi L (-1) ∧ Sg la en L.reverse (-1) ∧ L.Nodup
theorem rev_pos {la : Nat → Int32} {en : Int32} {L : List Nat} (h : Sg la en L.reverse (-1)) (hp : ¬ en < 0) : ∃ e L0, L = L0 ++ [e] ∧ en = nI e ∧ e < 32000 ∧ Sg la (la e) L0.reverse (-1) := by
  obtain ⟨x, t, h1, h2, h3, h4⟩ := Sg_pos h hp
  refine ⟨x, t.reverse, ?_, h2, h3, by rw [List.reverse_reverse]; exact h4⟩
  have := congrArg List.reverse h1
  rw [List.reverse_reverse, List.reverse_cons] at this
  exact this
theorem rev_neg {la : Nat → Int32} {en : Int32} {L : List Nat} (h : Sg la en L.reverse (-1)) (hp : en < 0) : L = [] := by
  have := Sg_neg h hp
  exact List.reverse_eq_nil_iff.mp this
theorem nd_concat {L : List Nat} {h : Nat} (hn : L.Nodup) (hh : h ∉ L) : (L ++ [h]).Nodup := by
  rw [List.nodup_append]
  exact ⟨hn, List.nodup_cons.mpr ⟨List.not_mem_nil, List.nodup_nil⟩, fun a ha b hb e => by rw [List.mem_singleton] at hb; subst hb; exact hh (e ▸ ha)⟩
theorem Lk_app0 {nx la : Nat → Int32} {fi en : Int32} {h : Nat} (k : Lk nx la fi en []) (hh : h < 32000) : Lk (upd nx h (-1)) (upd la h en) (nI h) (nI h) ([] ++ [h]) :=
  ⟨⟨rfl, hh, pk_us⟩, ⟨rfl, hh, by rw [pk_us]; exact k.2.1⟩, List.nodup_cons.mpr ⟨List.not_mem_nil, List.nodup_nil⟩⟩
theorem Lk_app1 {nx la : Nat → Int32} {fi en : Int32} {h e : Nat} {L0 : List Nat} (k : Lk nx la fi en (L0 ++ [e])) (hh : h < 32000) (hL : h ∉ L0 ++ [e]) : Lk (upd (upd nx h (-1)) e (nI h)) (upd la h en) fi (nI h) (L0 ++ [e] ++ [h]) := by
  obtain ⟨k1, k2, k3⟩ := k
  have he : e ∉ L0 := by
    intro q
    rw [List.nodup_append] at k3
    exact k3.2.2 e q e (List.mem_singleton.mpr rfl) rfl
  have hne : h ≠ e := fun q => hL (by rw [q]; exact List.mem_append_right _ (List.mem_singleton.mpr rfl))
  refine ⟨(Sg_app (L0 ++ [e]) [h] fi).mpr ⟨nI h, Sg_last he (Sg_upd hL k1), rfl, hh, ?_⟩, ?_, nd_concat k3 hL⟩
  · show upd (upd nx h (-1)) e (nI h) h = -1
    rw [pk_un hne, pk_us]
  · rw [List.reverse_append]
    refine ⟨rfl, hh, ?_⟩
    rw [pk_us]
    have hr : h ∉ (L0 ++ [e]).reverse := by rw [List.mem_reverse]; exact hL
    exact Sg_upd hr k2
/-- a list around one of its numbers -/
theorem Lk_cut {nx la : Nat → Int32} {fi en : Int32} {h : Nat} {L1 L2 : List Nat} (k : Lk nx la fi en (L1 ++ h :: L2)) : Sg nx fi L1 (nI h) ∧ Sg nx (nx h) L2 (-1) ∧ Sg la en L2.reverse (nI h) ∧ Sg la (la h) L1.reverse (-1) ∧ h < 32000 ∧ (L1 ++ L2).Nodup ∧ h ∉ L1 ∧ h ∉ L2 ∧ (∀ x ∈ L1, x ∉ L2) := by
  obtain ⟨k1, k2, k3⟩ := k
  obtain ⟨r, h1, h2, h3, h4⟩ := (Sg_app L1 (h :: L2) fi).mp k1
  rw [List.reverse_append, List.reverse_cons, List.append_assoc] at k2
  obtain ⟨r2, g1, g2, g3, g4⟩ := (Sg_app L2.reverse ([h] ++ L1.reverse) en).mp k2
  rw [List.nodup_append, List.nodup_cons] at k3
  obtain ⟨n1, ⟨n2, n3⟩, n4⟩ := k3
  refine ⟨h2 ▸ h1, h4, g2 ▸ g1, g4, h3, ?_, ?_, n2, ?_⟩
  · rw [List.nodup_append]
    exact ⟨n1, n3, fun a ha b hb => n4 a ha b (List.mem_cons_of_mem _ hb)⟩
  · intro q
    exact n4 h q h List.mem_cons_self rfl
  · intro x hx q
    exact n4 x hx x (List.mem_cons_of_mem _ q) rfl
theorem Sg_end {f : Nat → Int32} {p q v : Int32} {L : List Nat} (h : Sg f p (L) q) (hq : q = v) : Sg f p L v := hq ▸ h
theorem Sg_tail {f : Nat → Int32} {p q v : Int32} {x : Nat} {L : List Nat} (hx : x ∉ L) (h : Sg f p (L ++ [x]) q) : Sg (upd f x v) p (L ++ [x]) v := Sg_last hx h
/-- what leave does -/
theorem Lk_del00 {nx la : Nat → Int32} {fi en : Int32} {h : Nat} (k : Lk nx la fi en ([] ++ h :: [])) : Lk nx la (nx h) (la h) [] := by
  obtain ⟨-, h2, -, h4, -⟩ := Lk_cut k
  exact ⟨h2, h4, List.nodup_nil⟩
theorem Lk_del01 {nx la : Nat → Int32} {fi en : Int32} {h y : Nat} {L2 : List Nat} (k : Lk nx la fi en ([] ++ h :: (y :: L2))) : Lk nx (upd la y (la h)) (nx h) en (y :: L2) := by
  obtain ⟨-, h2, h3, h4, -, h6, h7, h8, h9⟩ := Lk_cut k
  refine ⟨h2, ?_, h6⟩
  have hy : y ∉ L2 := (List.nodup_cons.mp h6).1
  rw [List.reverse_cons] at h3 ⊢
  have := Sg_last (v := la h) (by rw [List.mem_reverse]; exact hy) h3
  exact Sg_end this h4
theorem Lk_del10 {nx la : Nat → Int32} {fi en : Int32} {h x : Nat} {L1 : List Nat} (k : Lk nx la fi en ((L1 ++ [x]) ++ h :: [])) : Lk (upd nx x (nx h)) la fi (la h) (L1 ++ [x]) := by
  obtain ⟨h1, h2, h3, h4, -, h6, h7, h8, h9⟩ := Lk_cut k
  rw [List.append_nil] at h6
  have hx : x ∉ L1 := by
    intro q
    rw [List.nodup_append] at h6
    exact h6.2.2 x q x (List.mem_singleton.mpr rfl) rfl
  exact ⟨Sg_end (Sg_last (v := nx h) hx h1) h2, h4, h6⟩
theorem Lk_del11 {nx la : Nat → Int32} {fi en : Int32} {h x y : Nat} {L1 L2 : List Nat} (k : Lk nx la fi en ((L1 ++ [x]) ++ h :: (y :: L2))) : Lk (upd nx x (nx h)) (upd la y (la h)) fi en ((L1 ++ [x]) ++ (y :: L2)) := by
  obtain ⟨h1, h2, h3, h4, -, h6, h7, h8, h9⟩ := Lk_cut k
  have hnd := h6
  rw [List.nodup_append] at h6
  obtain ⟨n1, n2, n3⟩ := h6
  have hx : x ∉ L1 := by
    intro q
    rw [List.nodup_append] at n1
    exact n1.2.2 x q x (List.mem_singleton.mpr rfl) rfl
  have hy : y ∉ L2 := (List.nodup_cons.mp n2).1
  have hx2 : x ∉ y :: L2 := h9 x (List.mem_append_right _ (List.mem_singleton.mpr rfl))
  have hy1 : y ∉ L1 ++ [x] := fun q => h9 y q List.mem_cons_self
  refine ⟨(Sg_app (L1 ++ [x]) (y :: L2) fi).mpr ⟨nx h, Sg_last (v := nx h) hx h1, Sg_upd hx2 h2⟩, ?_, hnd⟩
  rw [List.reverse_append]
  refine (Sg_app (y :: L2).reverse (L1 ++ [x]).reverse en).mpr ⟨la h, ?_, Sg_upd (by rw [List.mem_reverse]; exact hy1) h4⟩
  rw [List.reverse_cons] at h3 ⊢
  exact Sg_last (v := la h) (by rw [List.mem_reverse]; exact hy) h3
/-- the rows lie one behind the other, from lo on, below hi -/
def Pl (pa pr : Nat → Nat) : Nat → List Nat → Nat → Prop
  | lo, [], hi => lo ≤ hi
  | lo, h :: t, hi => lo ≤ pa h ∧ Pl pa pr (pa h + pr h) t hi
theorem Pl_mono {pa pr : Nat → Nat} {lo lo' hi : Nat} {L : List Nat} (h : Pl pa pr lo L hi) (hl : lo' ≤ lo) : Pl pa pr lo' L hi := by
  cases L with
  | nil => exact Nat.le_trans hl h
  | cons x t => exact ⟨Nat.le_trans hl h.1, h.2⟩
theorem Pl_hi {pa pr : Nat → Nat} {hi hi' : Nat} (hh : hi ≤ hi') : ∀ (L : List Nat) (lo : Nat), Pl pa pr lo L hi → Pl pa pr lo L hi'
  | [], _, h => Nat.le_trans h hh
  | _ :: t, _, h => ⟨h.1, Pl_hi hh t _ h.2⟩
theorem Pl_le {pa pr : Nat → Nat} {hi : Nat} : ∀ (L : List Nat) (lo : Nat), Pl pa pr lo L hi → lo ≤ hi
  | [], _, h => h
  | x :: t, lo, h => by have := Pl_le t _ h.2; have := h.1; omega
theorem Pl_mem {pa pr : Nat → Nat} {hi : Nat} : ∀ (L : List Nat) (lo : Nat), Pl pa pr lo L hi → ∀ x ∈ L, lo ≤ pa x ∧ pa x + pr x ≤ hi
  | [], _, _, x, hx => by cases hx
  | y :: t, lo, h, x, hx => by
    rcases List.mem_cons.mp hx with rfl | hx
    · exact ⟨h.1, Pl_le t _ h.2⟩
    · have := Pl_mem t _ h.2 x hx
      have := h.1
      omega
theorem Pl_app {pa pr : Nat → Nat} {hi : Nat} : ∀ (L1 L2 : List Nat) (lo : Nat), Pl pa pr lo (L1 ++ L2) hi → ∃ m, Pl pa pr lo L1 m ∧ Pl pa pr m L2 hi
  | [], L2, lo, h => ⟨lo, Nat.le_refl lo, h⟩
  | x :: t, L2, lo, h => by
    obtain ⟨m, h1, h2⟩ := Pl_app t L2 _ h.2
    exact ⟨m, ⟨h.1, h1⟩, h2⟩
theorem Pl_join {pa pr : Nat → Nat} {hi m : Nat} : ∀ (L1 L2 : List Nat) (lo : Nat), Pl pa pr lo L1 m → Pl pa pr m L2 hi → Pl pa pr lo (L1 ++ L2) hi
  | [], _, _, h, h2 => Pl_mono h2 h
  | x :: t, L2, lo, h, h2 => ⟨h.1, Pl_join t L2 _ h.2 h2⟩
theorem Pl_congr {pa pr pa' pr' : Nat → Nat} {hi : Nat} : ∀ (L : List Nat) (lo : Nat), (∀ x ∈ L, pa' x = pa x ∧ pr' x = pr x) → Pl pa pr lo L hi → Pl pa' pr' lo L hi
  | [], _, _, h => h
  | x :: t, lo, hx, h => by
    have e := hx x List.mem_cons_self
    refine ⟨by rw [e.1]; exact h.1, ?_⟩
    rw [e.1, e.2]
    exact Pl_congr t _ (fun y hy => hx y (List.mem_cons_of_mem _ hy)) h.2
theorem Pl_del {pa pr : Nat → Nat} {lo hi h : Nat} {L1 L2 : List Nat} (k : Pl pa pr lo (L1 ++ h :: L2) hi) : Pl pa pr lo (L1 ++ L2) hi := by
  obtain ⟨m, h1, h2, h3⟩ := Pl_app L1 (h :: L2) lo k
  exact Pl_join L1 L2 lo h1 (Pl_mono h3 (by omega))
theorem Pl_apart {pa pr : Nat → Nat} {hi : Nat} : ∀ (L : List Nat) (lo : Nat), Pl pa pr lo L hi → ∀ x ∈ L, ∀ y ∈ L, x ≠ y → pa x + pr x ≤ pa y ∨ pa y + pr y ≤ pa x
  | [], _, _, x, hx, _, _, _ => by cases hx
  | z :: t, lo, h, x, hx, y, hy, hne => by
    rcases List.mem_cons.mp hx with hx1 | hx1 <;> rcases List.mem_cons.mp hy with hy1 | hy1
    · exact absurd (hx1.trans hy1.symm) hne
    · rw [hx1]; exact Or.inl (Pl_mem t _ h.2 y hy1).1
    · rw [hy1]; exact Or.inr (Pl_mem t _ h.2 x hx1).1
    · exact Pl_apart t _ h.2 x hx1 y hy1 hne
/-- the sum of f over a list, and over the numbers below n -/
def lsum (f : Nat → Nat) : List Nat → Nat
  | [] => 0
  | h :: t => f h + lsum f t
theorem lsum_app (f : Nat → Nat) : ∀ (L1 L2 : List Nat), lsum f (L1 ++ L2) = lsum f L1 + lsum f L2
  | [], L2 => by show lsum f L2 = 0 + lsum f L2; omega
  | h :: t, L2 => by show f h + lsum f (t ++ L2) = f h + lsum f t + lsum f L2; rw [lsum_app f t L2]; omega
theorem lsum_congr {f g : Nat → Nat} : ∀ (L : List Nat), (∀ x ∈ L, g x = f x) → lsum g L = lsum f L
  | [], _ => rfl
  | h :: t, hx => by show g h + lsum g t = f h + lsum f t; rw [hx h List.mem_cons_self, lsum_congr t (fun y hy => hx y (List.mem_cons_of_mem _ hy))]
theorem lsum_mem {f : Nat → Nat} : ∀ (L : List Nat) (x : Nat), x ∈ L → f x ≤ lsum f L
  | [], x, hx => by cases hx
  | h :: t, x, hx => by
    show f x ≤ f h + lsum f t
    rcases List.mem_cons.mp hx with rfl | hx
    · omega
    · have := lsum_mem (f := f) t x hx; omega
def sm (f : Nat → Nat) : Nat → Nat
  | 0 => 0
  | n + 1 => sm f n + f n
theorem sm_congr {f g : Nat → Nat} : ∀ (n : Nat), (∀ x, x < n → g x = f x) → sm g n = sm f n
  | 0, _ => rfl
  | n + 1, h => by show sm g n + g n = sm f n + f n; rw [sm_congr n (fun x hx => h x (by omega)), h n (by omega)]
theorem sm_up {f : Nat → Nat} (h v : Nat) : ∀ (n : Nat), h < n → sm (va_up f h v) n + f h = sm f n + v
  | 0, hn => absurd hn (by omega)
  | n + 1, hn => by
    show sm (va_up f h v) n + va_up f h v n + f h = sm f n + f n + v
    by_cases e : h = n
    · subst e
      rw [va_up_self, sm_congr (f := f) h (fun x hx => va_up_ne f v (by omega))]
      omega
    · rw [va_up_ne f v (fun q => e q.symm)]
      have := sm_up (f := f) h v n (by omega)
      omega
theorem sm_mem {f : Nat → Nat} : ∀ (n x : Nat), x < n → f x ≤ sm f n
  | 0, x, h => absurd h (by omega)
  | n + 1, x, h => by
    show f x ≤ sm f n + f n
    by_cases e : x = n
    · subst e; omega
    · have := sm_mem (f := f) n x (by omega); omega
theorem sm_le {f g : Nat → Nat} : ∀ (n : Nat), (∀ x, x < n → f x ≤ g x) → sm f n ≤ sm g n
  | 0, _ => Nat.le_refl 0
  | n + 1, h => by
    show sm f n + f n ≤ sm g n + g n
    have := sm_le (f := f) (g := g) n (fun x hx => h x (by omega))
    have := h n (by omega)
    omega
end
section
set_option maxHeartbeats 4000000 in
/-- Shelf.append: h stands behind the others -/
theorem c_S_append (l : Launch) (D : va_G) (cB cI cZ : ClassId) (a : Nat → Nat) (fb : Nat → Int32) (pa ps pr : Nat → Nat) (nx la : Nat → Int32) (fi en fr : Int32) (mn tp : Nat) (h : Nat) (L : List Nat) (hh : h < 32000) (hL : h ∉ L) (hk : Lk nx la fi en L) : Met l y_S_append w_S_append (rmL 0) (va_Pc [.ref (a 0), .int (nI h)] (Wd D cB cI cZ (wS cB cI a fb pa ps pr nx la fi en fr mn tp))) (Qmv D (fun u : (Nat → Int32) × (Nat → Int32) × Int32 => Lk u.1 u.2.1 u.2.2 (nI h) (L ++ [h]) ∧ ∀ x, x ∉ L → x ≠ h → u.1 x = nx x) (fun u => wS cB cI a fb pa ps pr u.1 u.2.1 u.2.2 (nI h) fr mn tp) (wS cB cI a fb pa ps pr nx la fi en fr mn tp)) 0 0 (inA (wS cB cI a fb pa ps pr nx la fi en fr mn tp)) := by
  refine entry (by decide) (Nat.le_of_ble_eq_true rfl) ?_
  intro p e s m args below meth c S hr hlocks hin hPre ls hl
  have hx := S.1
  have hb := S.2.1
  have hl : lv_has ls 2 [(0, .ref (a 0)), (1, .int (nI h))] := hl
  obtain ⟨hP, hK, hD⟩ := hPre
  have hD := inA_self hD
  have hS : va_S (inA (wS cB cI a fb pa ps pr nx la fi en fr mn tp)) s.heap s.heap [] := va_S.rf
  refine lv_aload_n hx hb d_S_append_0 rfl (lv_at hl 0 rfl) ?_
  refine gf_S_last S hK hP 0 rfl rfl d_S_append_1 ?_
  refine lv_iload_n hx hb d_S_append_4 rfl (lv_at hl 1 rfl) ?_
  refine lv_aload_n hx hb d_S_append_5 rfl (lv_at hl 0 rfl) ?_
  refine gf_S_end S hK hP 0 rfl rfl d_S_append_6 ?_
  refine stI S hK hP hD hS 6 rfl h rfl (by omega) (g := upd la h en) rfl d_S_append_9 (fun H locs hP hD hS => ?_)
  have hP : va_P D classes (wS cB cI a fb pa ps pr nx (upd la h en) fi en fr mn tp) H := hP
  have hD : va_D (inA (wS cB cI a fb pa ps pr nx la fi en fr mn tp)) (wS cB cI a fb pa ps pr nx (upd la h en) fi en fr mn tp) := hD
  refine lv_aload_n hx hb d_S_append_10 rfl (lv_at hl 0 rfl) ?_
  refine gf_S_next S hK hP 0 rfl rfl d_S_append_11 ?_
  refine lv_iload_n hx hb d_S_append_14 rfl (lv_at hl 1 rfl) ?_
  refine lv_iconst (v := (-1)) hx hb d_S_append_15 (by decide) ?_
  refine stI S hK hP hD hS 5 rfl h rfl (by omega) (g := upd nx h (-1)) rfl d_S_append_16 (fun H locs hP hD hS => ?_)
  have hP : va_P D classes (wS cB cI a fb pa ps pr (upd nx h (-1)) (upd la h en) fi en fr mn tp) H := hP
  have hD : va_D (inA (wS cB cI a fb pa ps pr nx la fi en fr mn tp)) (wS cB cI a fb pa ps pr (upd nx h (-1)) (upd la h en) fi en fr mn tp) := hD
  refine lv_aload_n hx hb d_S_append_17 rfl (lv_at hl 0 rfl) ?_
  refine gf_S_end S hK hP 0 rfl rfl d_S_append_18 ?_
  refine lv_if_lt (tgt := 37) hx hb d_S_append_21 (by decide) (fun c1 => ?_) (fun c1 => ?_)
  · have e0 := rev_neg hk.2.1 c1
    subst e0
    refine lv_aload_n hx hb d_S_append_37 rfl (lv_at hl 0 rfl) ?_
    refine lv_iload_n hx hb d_S_append_38 rfl (lv_at hl 1 rfl) ?_
    refine pf_S_first S hK hP hD hS 0 rfl (Nat.le_of_ble_eq_true rfl) d_S_append_39 (fun H locs hP hD hS => ?_)
    have hP : va_P D classes (wS cB cI a fb pa ps pr (upd nx h (-1)) (upd la h en) (nI h) en fr mn tp) H := hP
    have hD : va_D (inA (wS cB cI a fb pa ps pr nx la fi en fr mn tp)) (wS cB cI a fb pa ps pr (upd nx h (-1)) (upd la h en) (nI h) en fr mn tp) := hD
    refine lv_aload_n hx hb d_S_append_42 rfl (lv_at hl 0 rfl) ?_
    refine lv_iload_n hx hb d_S_append_43 rfl (lv_at hl 1 rfl) ?_
    refine pf_S_end S hK hP hD hS 0 rfl (Nat.le_of_ble_eq_true rfl) d_S_append_44 (fun H locs hP hD hS => ?_)
    have hP : va_P D classes (wS cB cI a fb pa ps pr (upd nx h (-1)) (upd la h en) (nI h) (nI h) fr mn tp) H := hP
    have hD : va_D (inA (wS cB cI a fb pa ps pr nx la fi en fr mn tp)) (wS cB cI a fb pa ps pr (upd nx h (-1)) (upd la h en) (nI h) (nI h) fr mn tp) := hD
    exact rmV S hr hlocks (upd nx h (-1), upd la h en, nI h) (⟨Lk_app0 hk hh, fun x _ hx => pk_un hx⟩) hP hS d_S_append_47
  · obtain ⟨e1, L0, rfl, hen, he1, -⟩ := rev_pos hk.2.1 c1
    refine lv_aload_n hx hb d_S_append_24 rfl (lv_at hl 0 rfl) ?_
    refine gf_S_next S hK hP 0 rfl rfl d_S_append_25 ?_
    refine lv_aload_n hx hb d_S_append_28 rfl (lv_at hl 0 rfl) ?_
    refine gf_S_end S hK hP 0 rfl rfl d_S_append_29 ?_
    refine lv_iload_n hx hb d_S_append_32 rfl (lv_at hl 1 rfl) ?_
    refine stI S hK hP hD hS 5 rfl e1 hen he1 (g := upd (upd nx h (-1)) e1 (nI h)) rfl d_S_append_33 (fun H locs hP hD hS => ?_)
    have hP : va_P D classes (wS cB cI a fb pa ps pr (upd (upd nx h (-1)) e1 (nI h)) (upd la h en) fi en fr mn tp) H := hP
    have hD : va_D (inA (wS cB cI a fb pa ps pr nx la fi en fr mn tp)) (wS cB cI a fb pa ps pr (upd (upd nx h (-1)) e1 (nI h)) (upd la h en) fi en fr mn tp) := hD
    refine lv_goto (tgt := 42) hx hb d_S_append_34 (by decide) ?_
    refine lv_aload_n hx hb d_S_append_42 rfl (lv_at hl 0 rfl) ?_
    refine lv_iload_n hx hb d_S_append_43 rfl (lv_at hl 1 rfl) ?_
    refine pf_S_end S hK hP hD hS 0 rfl (Nat.le_of_ble_eq_true rfl) d_S_append_44 (fun H locs hP hD hS => ?_)
    have hP : va_P D classes (wS cB cI a fb pa ps pr (upd (upd nx h (-1)) e1 (nI h)) (upd la h en) fi (nI h) fr mn tp) H := hP
    have hD : va_D (inA (wS cB cI a fb pa ps pr nx la fi en fr mn tp)) (wS cB cI a fb pa ps pr (upd (upd nx h (-1)) e1 (nI h)) (upd la h en) fi (nI h) fr mn tp) := hD
    exact rmV S hr hlocks (upd (upd nx h (-1)) e1 (nI h), upd la h en, fi) (⟨Lk_app1 hk hh hL, fun x h1 hx => (pk_un (fun q => h1 (by rw [q]; exact List.mem_append_right _ (List.mem_singleton.mpr rfl)))).trans (pk_un hx)⟩) hP hS d_S_append_47
set_option maxHeartbeats 4000000 in
/-- Shelf.leave: h goes out of the list -/
theorem c_S_leave (l : Launch) (D : va_G) (cB cI cZ : ClassId) (a : Nat → Nat) (fb : Nat → Int32) (pa ps pr : Nat → Nat) (nx la : Nat → Int32) (fi en fr : Int32) (mn tp : Nat) (h : Nat) (L1 L2 : List Nat) (hk : Lk nx la fi en (L1 ++ h :: L2)) : Met l y_S_leave w_S_leave (rmL 0) (va_Pc [.ref (a 0), .int (nI h)] (Wd D cB cI cZ (wS cB cI a fb pa ps pr nx la fi en fr mn tp))) (Qmv D (fun u : (Nat → Int32) × (Nat → Int32) × Int32 × Int32 => Lk u.1 u.2.1 u.2.2.1 u.2.2.2 (L1 ++ L2) ∧ ∀ x, x ∉ L1 ++ h :: L2 → u.1 x = nx x) (fun u => wS cB cI a fb pa ps pr u.1 u.2.1 u.2.2.1 u.2.2.2 fr mn tp) (wS cB cI a fb pa ps pr nx la fi en fr mn tp)) 0 0 (inA (wS cB cI a fb pa ps pr nx la fi en fr mn tp)) := by
  refine entry (by decide) (Nat.le_of_ble_eq_true rfl) ?_
  intro p e s m args below meth c S hr hlocks hin hPre ls hl
  have hx := S.1
  have hb := S.2.1
  have hl : lv_has ls 2 [(0, .ref (a 0)), (1, .int (nI h))] := hl
  obtain ⟨hP, hK, hD⟩ := hPre
  have hD := inA_self hD
  have hS : va_S (inA (wS cB cI a fb pa ps pr nx la fi en fr mn tp)) s.heap s.heap [] := va_S.rf
  obtain ⟨h1, h2, h3, h4, h5, h6, h7, h8, h9⟩ := Lk_cut hk
  refine lv_aload_n hx hb d_S_leave_0 rfl (lv_at hl 0 rfl) ?_
  refine gf_S_last S hK hP 0 rfl rfl d_S_leave_1 ?_
  refine lv_iload_n hx hb d_S_leave_4 rfl (lv_at hl 1 rfl) ?_
  refine ldI S hK hP 6 rfl h rfl (by omega) (v := la h) rfl d_S_leave_5 ?_
  refine lv_if_lt (tgt := 29) hx hb d_S_leave_6 (by decide) (fun c1 => ?_) (fun c1 => ?_)
  · have e1 := rev_neg h4 c1
    subst e1
    refine lv_aload_n hx hb d_S_leave_29 rfl (lv_at hl 0 rfl) ?_
    refine lv_aload_n hx hb d_S_leave_30 rfl (lv_at hl 0 rfl) ?_
    refine gf_S_next S hK hP 0 rfl rfl d_S_leave_31 ?_
    refine lv_iload_n hx hb d_S_leave_34 rfl (lv_at hl 1 rfl) ?_
    refine ldI S hK hP 5 rfl h rfl (by omega) (v := nx h) rfl d_S_leave_35 ?_
    refine pf_S_first S hK hP hD hS 0 rfl (Nat.le_of_ble_eq_true rfl) d_S_leave_36 (fun H locs hP hD hS => ?_)
    have hP : va_P D classes (wS cB cI a fb pa ps pr nx la (nx h) en fr mn tp) H := hP
    have hD : va_D (inA (wS cB cI a fb pa ps pr nx la fi en fr mn tp)) (wS cB cI a fb pa ps pr nx la (nx h) en fr mn tp) := hD
    refine lv_aload_n hx hb d_S_leave_39 rfl (lv_at hl 0 rfl) ?_
    refine gf_S_next S hK hP 0 rfl rfl d_S_leave_40 ?_
    refine lv_iload_n hx hb d_S_leave_43 rfl (lv_at hl 1 rfl) ?_
    refine ldI S hK hP 5 rfl h rfl (by omega) (v := nx h) rfl d_S_leave_44 ?_
    refine lv_if_lt (tgt := 68) hx hb d_S_leave_45 (by decide) (fun c2 => ?_) (fun c2 => ?_)
    · have e2 := Sg_neg h2 c2
      subst e2
      refine lv_aload_n hx hb d_S_leave_68 rfl (lv_at hl 0 rfl) ?_
      refine lv_aload_n hx hb d_S_leave_69 rfl (lv_at hl 0 rfl) ?_
      refine gf_S_last S hK hP 0 rfl rfl d_S_leave_70 ?_
      refine lv_iload_n hx hb d_S_leave_73 rfl (lv_at hl 1 rfl) ?_
      refine ldI S hK hP 6 rfl h rfl (by omega) (v := la h) rfl d_S_leave_74 ?_
      refine pf_S_end S hK hP hD hS 0 rfl (Nat.le_of_ble_eq_true rfl) d_S_leave_75 (fun H locs hP hD hS => ?_)
      have hP : va_P D classes (wS cB cI a fb pa ps pr nx la (nx h) (la h) fr mn tp) H := hP
      have hD : va_D (inA (wS cB cI a fb pa ps pr nx la fi en fr mn tp)) (wS cB cI a fb pa ps pr nx la (nx h) (la h) fr mn tp) := hD
      exact rmV S hr hlocks (nx, la, nx h, la h) (⟨Lk_del00 hk, fun x _ => rfl⟩) hP hS d_S_leave_78
    · obtain ⟨y1, L4, rfl, hy1, hy2, -⟩ := Sg_pos h2 c2
      refine lv_aload_n hx hb d_S_leave_48 rfl (lv_at hl 0 rfl) ?_
      refine gf_S_last S hK hP 0 rfl rfl d_S_leave_49 ?_
      refine lv_aload_n hx hb d_S_leave_52 rfl (lv_at hl 0 rfl) ?_
      refine gf_S_next S hK hP 0 rfl rfl d_S_leave_53 ?_
      refine lv_iload_n hx hb d_S_leave_56 rfl (lv_at hl 1 rfl) ?_
      refine ldI S hK hP 5 rfl h rfl (by omega) (v := nx h) rfl d_S_leave_57 ?_
      refine lv_aload_n hx hb d_S_leave_58 rfl (lv_at hl 0 rfl) ?_
      refine gf_S_last S hK hP 0 rfl rfl d_S_leave_59 ?_
      refine lv_iload_n hx hb d_S_leave_62 rfl (lv_at hl 1 rfl) ?_
      refine ldI S hK hP 6 rfl h rfl (by omega) (v := la h) rfl d_S_leave_63 ?_
      refine stI S hK hP hD hS 6 rfl y1 hy1 hy2 (g := upd la y1 (la h)) rfl d_S_leave_64 (fun H locs hP hD hS => ?_)
      have hP : va_P D classes (wS cB cI a fb pa ps pr nx (upd la y1 (la h)) (nx h) en fr mn tp) H := hP
      have hD : va_D (inA (wS cB cI a fb pa ps pr nx la fi en fr mn tp)) (wS cB cI a fb pa ps pr nx (upd la y1 (la h)) (nx h) en fr mn tp) := hD
      refine lv_goto (tgt := 78) hx hb d_S_leave_65 (by decide) ?_
      exact rmV S hr hlocks (nx, upd la y1 (la h), nx h, en) (⟨Lk_del01 hk, fun x _ => rfl⟩) hP hS d_S_leave_78
  · obtain ⟨x1, L3, rfl, hx1, hx2, -⟩ := rev_pos h4 c1
    have hne : h ≠ x1 := fun q => h7 (by rw [q]; exact List.mem_append_right _ (List.mem_singleton.mpr rfl))
    have hnh : upd nx x1 (nx h) h = nx h := pk_un hne
    refine lv_aload_n hx hb d_S_leave_9 rfl (lv_at hl 0 rfl) ?_
    refine gf_S_next S hK hP 0 rfl rfl d_S_leave_10 ?_
    refine lv_aload_n hx hb d_S_leave_13 rfl (lv_at hl 0 rfl) ?_
    refine gf_S_last S hK hP 0 rfl rfl d_S_leave_14 ?_
    refine lv_iload_n hx hb d_S_leave_17 rfl (lv_at hl 1 rfl) ?_
    refine ldI S hK hP 6 rfl h rfl (by omega) (v := la h) rfl d_S_leave_18 ?_
    refine lv_aload_n hx hb d_S_leave_19 rfl (lv_at hl 0 rfl) ?_
    refine gf_S_next S hK hP 0 rfl rfl d_S_leave_20 ?_
    refine lv_iload_n hx hb d_S_leave_23 rfl (lv_at hl 1 rfl) ?_
    refine ldI S hK hP 5 rfl h rfl (by omega) (v := nx h) rfl d_S_leave_24 ?_
    refine stI S hK hP hD hS 5 rfl x1 hx1 hx2 (g := upd nx x1 (nx h)) rfl d_S_leave_25 (fun H locs hP hD hS => ?_)
    have hP : va_P D classes (wS cB cI a fb pa ps pr (upd nx x1 (nx h)) la fi en fr mn tp) H := hP
    have hD : va_D (inA (wS cB cI a fb pa ps pr nx la fi en fr mn tp)) (wS cB cI a fb pa ps pr (upd nx x1 (nx h)) la fi en fr mn tp) := hD
    refine lv_goto (tgt := 39) hx hb d_S_leave_26 (by decide) ?_
    refine lv_aload_n hx hb d_S_leave_39 rfl (lv_at hl 0 rfl) ?_
    refine gf_S_next S hK hP 0 rfl rfl d_S_leave_40 ?_
    refine lv_iload_n hx hb d_S_leave_43 rfl (lv_at hl 1 rfl) ?_
    refine ldI S hK hP 5 rfl h rfl (by omega) (v := nx h) hnh d_S_leave_44 ?_
    refine lv_if_lt (tgt := 68) hx hb d_S_leave_45 (by decide) (fun c2 => ?_) (fun c2 => ?_)
    · have e2 := Sg_neg h2 c2
      subst e2
      refine lv_aload_n hx hb d_S_leave_68 rfl (lv_at hl 0 rfl) ?_
      refine lv_aload_n hx hb d_S_leave_69 rfl (lv_at hl 0 rfl) ?_
      refine gf_S_last S hK hP 0 rfl rfl d_S_leave_70 ?_
      refine lv_iload_n hx hb d_S_leave_73 rfl (lv_at hl 1 rfl) ?_
      refine ldI S hK hP 6 rfl h rfl (by omega) (v := la h) rfl d_S_leave_74 ?_
      refine pf_S_end S hK hP hD hS 0 rfl (Nat.le_of_ble_eq_true rfl) d_S_leave_75 (fun H locs hP hD hS => ?_)
      have hP : va_P D classes (wS cB cI a fb pa ps pr (upd nx x1 (nx h)) la fi (la h) fr mn tp) H := hP
      have hD : va_D (inA (wS cB cI a fb pa ps pr nx la fi en fr mn tp)) (wS cB cI a fb pa ps pr (upd nx x1 (nx h)) la fi (la h) fr mn tp) := hD
      exact rmV S hr hlocks (upd nx x1 (nx h), la, fi, la h) (⟨by rw [List.append_nil]; exact Lk_del10 hk, fun x hx => pk_un (fun q => hx (by rw [q]; exact List.mem_append_left _ (List.mem_append_right _ (List.mem_singleton.mpr rfl))))⟩) hP hS d_S_leave_78
    · obtain ⟨y1, L4, rfl, hy1, hy2, -⟩ := Sg_pos h2 c2
      refine lv_aload_n hx hb d_S_leave_48 rfl (lv_at hl 0 rfl) ?_
      refine gf_S_last S hK hP 0 rfl rfl d_S_leave_49 ?_
      refine lv_aload_n hx hb d_S_leave_52 rfl (lv_at hl 0 rfl) ?_
      refine gf_S_next S hK hP 0 rfl rfl d_S_leave_53 ?_
      refine lv_iload_n hx hb d_S_leave_56 rfl (lv_at hl 1 rfl) ?_
      refine ldI S hK hP 5 rfl h rfl (by omega) (v := nx h) hnh d_S_leave_57 ?_
      refine lv_aload_n hx hb d_S_leave_58 rfl (lv_at hl 0 rfl) ?_
      refine gf_S_last S hK hP 0 rfl rfl d_S_leave_59 ?_
      refine lv_iload_n hx hb d_S_leave_62 rfl (lv_at hl 1 rfl) ?_
      refine ldI S hK hP 6 rfl h rfl (by omega) (v := la h) rfl d_S_leave_63 ?_
      refine stI S hK hP hD hS 6 rfl y1 hy1 hy2 (g := upd la y1 (la h)) rfl d_S_leave_64 (fun H locs hP hD hS => ?_)
      have hP : va_P D classes (wS cB cI a fb pa ps pr (upd nx x1 (nx h)) (upd la y1 (la h)) fi en fr mn tp) H := hP
      have hD : va_D (inA (wS cB cI a fb pa ps pr nx la fi en fr mn tp)) (wS cB cI a fb pa ps pr (upd nx x1 (nx h)) (upd la y1 (la h)) fi en fr mn tp) := hD
      refine lv_goto (tgt := 78) hx hb d_S_leave_65 (by decide) ?_
      exact rmV S hr hlocks (upd nx x1 (nx h), upd la y1 (la h), fi, en) (⟨Lk_del11 hk, fun x hx => pk_un (fun q => hx (by rw [q]; exact List.mem_append_left _ (List.mem_append_right _ (List.mem_singleton.mpr rfl))))⟩) hP hS d_S_leave_78
end
section
/-! The shelf's picture, and what push, take, free, resize do to it (pure); System.arraycopy between byte arrays -/
/-- a row h: its size is M h, it has room, its bytes are ct h -/
def Rw (fb : Nat → Int32) (pa ps pr M : Nat → Nat) (ct : Nat → Nat → Int32) (h : Nat) : Prop := ps h = M h ∧ M h ≤ 16384 ∧ M h ≤ pr h ∧ pr h % 8 = 0 ∧ ∀ i, i < M h → fb (pa h + i) = ct h i
/-- the shelf holds the rows L (in the order of their places), the free numbers bk -/
def RepS (L bk : List Nat) (M : Nat → Nat) (ct : Nat → Nat → Int32) (fb : Nat → Int32) (pa ps pr : Nat → Nat) (nx la : Nat → Int32) (fi en fr : Int32) (mn tp : Nat) : Prop :=
  Lk nx la fi en L ∧ (Sg nx fr bk (-1) ∧ bk.Nodup ∧ ∀ x ∈ bk, x ∉ L) ∧ Pl pa pr 0 L tp ∧ tp ≤ 400000 ∧ (∀ h ∈ L, h < mn ∧ Rw fb pa ps pr M ct h) ∧ bF fb
/-- inside push: L1 lies at its new places, L2 at the old ones -/
def PuI (M ps : Nat → Nat) (ct : Nat → Nat → Int32) (nx : Nat → Int32) (tp : Nat) (L1 L2 : List Nat) (pt : Int32) (t : Nat) (fb : Nat → Int32) (pa pr : Nat → Nat) : Prop :=
  Sg nx pt L2 (-1) ∧ Pl pa pr 0 L1 t ∧ Pl pa pr t L2 tp ∧ t = lsum (fun h => rnd (M h)) L1 ∧ (∀ h ∈ L1 ++ L2, Rw fb pa ps pr M ct h) ∧ bF fb ∧ (L1 ++ L2).Nodup
theorem PuI_step {M ps : Nat → Nat} {ct : Nat → Nat → Int32} {nx : Nat → Int32} {tp : Nat} {L1 L2 : List Nat} {pt : Int32} {t h : Nat} {fb : Nat → Int32} {pa pr : Nat → Nat} (k : PuI M ps ct nx tp L1 (h :: L2) pt t fb pa pr) :
    PuI M ps ct nx tp (L1 ++ [h]) L2 (nx h) (t + rnd (M h)) (va_cpy fb fb (pa h) t (rnd (M h))) (va_up pa h t) (va_up pr h (rnd (M h))) := by
  obtain ⟨k1, k2, k3, k4, k5, k6, k7⟩ := k
  have hnd := k7
  rw [List.nodup_append, List.nodup_cons] at k7
  obtain ⟨n1, ⟨n2, n3⟩, n4⟩ := k7
  have h1 : h ∉ L1 := fun q => n4 h q h List.mem_cons_self rfl
  have hr := k5 h (List.mem_append_right _ List.mem_cons_self)
  obtain ⟨r1, r2, r3, r4, r5⟩ := hr
  have hle : rnd (M h) ≤ pr h := rnd_of r3 r4
  have c1 : ∀ x, x ≠ h → va_up pa h t x = pa x ∧ va_up pr h (rnd (M h)) x = pr x := fun x hx => ⟨va_up_ne _ _ hx, va_up_ne _ _ hx⟩
  refine ⟨k1.2.2, ?_, ?_, ?_, ?_, bF_cpy k6 k6, by rw [List.append_assoc]; exact hnd⟩
  · refine Pl_join L1 [h] 0 (Pl_congr L1 0 (fun x hx => c1 x (fun q => h1 (q ▸ hx))) k2) ?_
    show t ≤ va_up pa h t h ∧ va_up pa h t h + va_up pr h (rnd (M h)) h ≤ t + rnd (M h)
    rw [va_up_self, va_up_self]
    exact ⟨Nat.le_refl _, Nat.le_refl _⟩
  · refine Pl_congr L2 _ (fun x hx => c1 x (fun q => n2 (q ▸ hx))) (Pl_mono k3.2 ?_)
    have := k3.1
    omega
  · rw [lsum_app, k4]
    show _ = _ + (rnd (M h) + 0)
    omega
  · intro x hx
    rw [List.append_assoc] at hx
    obtain ⟨q1, q2, q3, q4, q5⟩ := k5 x hx
    by_cases e : x = h
    · subst e
      refine ⟨q1, q2, by rw [va_up_self]; exact rnd_le _, by rw [va_up_self]; exact rnd_8 _, fun i hi => ?_⟩
      rw [va_up_self, pk_cpy_in (by omega) (by have := rnd_le (M x); omega), show pa x + (t + i - t) = pa x + i by omega]
      exact q5 i hi
    · refine ⟨q1, q2, by rw [(c1 x e).2]; exact q3, by rw [(c1 x e).2]; exact q4, fun i hi => ?_⟩
      rw [(c1 x e).1, pk_cpy_out ?_]
      · exact q5 i hi
      · rcases List.mem_append.mp hx with hx | hx
        · have := (Pl_mem L1 0 k2 x hx).2
          left; omega
        · rcases List.mem_cons.mp hx with hx | hx
          · exact absurd hx e
          · have := (Pl_mem L2 _ k3.2 x hx).1
            have := k3.1
            right; omega
theorem PuI_0 {L bk : List Nat} {M : Nat → Nat} {ct : Nat → Nat → Int32} {fb : Nat → Int32} {pa ps pr : Nat → Nat} {nx la : Nat → Int32} {fi en fr : Int32} {mn tp : Nat} (k : RepS L bk M ct fb pa ps pr nx la fi en fr mn tp) : PuI M ps ct nx tp [] L fi 0 fb pa pr :=
  ⟨k.1.1, Nat.le_refl 0, k.2.2.1, rfl, fun h hh => (k.2.2.2.2.1 h hh).2, k.2.2.2.2.2, k.1.2.2⟩
theorem PuI_1 {L bk : List Nat} {M : Nat → Nat} {ct : Nat → Nat → Int32} {fb fb' : Nat → Int32} {pa ps pr pa' pr' : Nat → Nat} {nx la : Nat → Int32} {fi en fr pt : Int32} {mn tp t : Nat} (k : RepS L bk M ct fb pa ps pr nx la fi en fr mn tp) (i : PuI M ps ct nx tp L [] pt t fb' pa' pr') : RepS L bk M ct fb' pa' ps pr' nx la fi en fr mn t ∧ t = lsum (fun h => rnd (M h)) L := by
  obtain ⟨k1, k2, k3, k4, k5, k6⟩ := k
  obtain ⟨i1, i2, i3, i4, i5, i6, i7⟩ := i
  exact ⟨⟨k1, k2, i2, Nat.le_trans i3 k4, fun h hh => ⟨(k5 h hh).1, i5 h (by rw [List.append_nil]; exact hh)⟩, i6⟩, i4⟩
theorem RepS_row {L bk : List Nat} {M : Nat → Nat} {ct : Nat → Nat → Int32} {fb : Nat → Int32} {pa ps pr : Nat → Nat} {nx la : Nat → Int32} {fi en fr : Int32} {mn tp : Nat} (k : RepS L bk M ct fb pa ps pr nx la fi en fr mn tp) {h : Nat} (hh : h ∈ L) : h < 32000 ∧ ps h = M h ∧ M h ≤ 16384 ∧ M h ≤ pr h ∧ pr h % 8 = 0 ∧ pa h + pr h ≤ tp ∧ tp ≤ 400000 ∧ ∀ i, i < M h → fb (pa h + i) = ct h i := by
  obtain ⟨k1, k2, k3, k4, k5, k6⟩ := k
  obtain ⟨-, r1, r2, r3, r4, r5⟩ := k5 h hh
  exact ⟨Sg_mem L fi k1.1 h hh, r1, r2, r3, r4, (Pl_mem L 0 k3 h hh).2, k4, r5⟩
theorem RepS_tp {L bk : List Nat} {M : Nat → Nat} {ct : Nat → Nat → Int32} {fb : Nat → Int32} {pa ps pr : Nat → Nat} {nx la : Nat → Int32} {fi en fr : Int32} {mn tp tp' : Nat} (k : RepS L bk M ct fb pa ps pr nx la fi en fr mn tp) (h1 : tp ≤ tp') (h2 : tp' ≤ 400000) : RepS L bk M ct fb pa ps pr nx la fi en fr mn tp' :=
  ⟨k.1, k.2.1, Pl_hi h1 L 0 k.2.2.1, h2, k.2.2.2.2⟩
/-- n zeros from p on -/
def zf (f : Nat → Int32) (p n : Nat) : Nat → Int32 := fun j => if p ≤ j ∧ j < p + n then 0 else f j
theorem zf_0 (f : Nat → Int32) (p : Nat) : zf f p 0 = f := by
  funext j
  unfold zf
  rw [if_neg (by omega)]
theorem zf_up (f : Nat → Int32) (p n : Nat) : upd (zf f p n) (p + n) 0 = zf f p (n + 1) := by
  funext j
  unfold upd zf
  by_cases h : j = p + n
  · rw [if_pos h, if_pos (by omega)]
  · rw [if_neg h]
    by_cases h2 : p ≤ j ∧ j < p + n
    · rw [if_pos h2, if_pos (by omega)]
    · rw [if_neg h2, if_neg (by omega)]
theorem zf_in {f : Nat → Int32} {p n j : Nat} (h : p ≤ j) (h2 : j < p + n) : zf f p n j = 0 := if_pos ⟨h, h2⟩
theorem zf_out {f : Nat → Int32} {p n j : Nat} (h : j < p ∨ p + n ≤ j) : zf f p n j = f j := if_neg (by omega)
theorem zf_bF {f : Nat → Int32} {p n : Nat} (h : bF f) : bF (zf f p n) := by
  intro j
  unfold zf
  by_cases h2 : p ≤ j ∧ j < p + n
  · rw [if_pos h2]; decide
  · rw [if_neg h2]; exact h j
section MyCopy
variable {p : Program} {l : Launch} {e : Env} {R : Room} {s : State} {m : MethodId} {args : Array Value} {below : List Frame} {meth : Method} {c : Code} {H : Heap} {locs : List Loc} {cells slots : Nat} {Q : State → Prop}
variable {cc : ByteArray} {pc : Nat} {ls : Array Slot} {rest : List Value} {D : va_G} {cB cI cZ : ClassId} {A : Nat → Prop} {a a0 : Nat} {ws : va_W} {H0 : Heap} {nL : Nat}
theorem cpyB (S : CallFix p m c cc nL s args aw R_S) (hR : 1 ≤ R.frames ∧ 30 ≤ R.locals) (hsz : ls.size = nL) (hK : va_K D classes (TY cB cI cZ) s) (hP : va_P D classes ws H) (hD : va_D A ws) (hS : va_S A H0 H locs) (q0 q1 : Nat) {n0 n1 : Nat} {f g : Nat → Int32} (ha0 : ws[q0]? = some (a0, .inl (cB, n0, .inl f))) (ha1 : ws[q1]? = some (a, .inl (cB, n1, .inl g))) (hf : bF f)
    {x1 x2 x3 : Int32} (sp dp n : Nat) (e1 : x1 = nI sp) (e2 : x2 = nI dp) (e3 : x3 = nI n) (h4 : sp + n ≤ n0) (h5 : dp + n ≤ n1) (hrest : (rest.map fun v => v.category).sum ≤ 8) (hdg : decode cc pc = .ok (.invokestatic 46, 3))
    (kk : ∀ (H1 : Heap) (locs1 : List Loc), va_P D classes (ws.set q1 (a, .inl (cB, n1, .inl (va_cpy f g sp dp n)))) H1 → va_D A (ws.set q1 (a, .inl (cB, n1, .inl (va_cpy f g sp dp n)))) → va_S A H0 H1 locs1 → W p l e R s m args below meth c H1 locs1 cells slots Q (F0 m (pc + 3) ls rest)) (hn0 : n0 < 2 ^ 31 := by decide) (hn1 : n1 < 2 ^ 31 := by decide) : W p l e R s m args below meth c H locs cells slots Q (F0 m pc ls (.int x3 :: .int x2 :: .ref a :: .int x1 :: .ref a0 :: rest)) := by
  subst e1 e2 e3
  have c1 := nI_clamp (n := sp) (by omega)
  have c2 := nI_clamp (n := dp) (by omega)
  have c3 := nI_clamp (n := n) (by omega)
  have hnw : nativeFrameWords "java/lang/System" "arraycopy" 5 = 7 := by decide
  refine va_copyi (ty := .byte) S.1 S.2.1 (by rw [S.2.2.1]; exact hsz.symm) S.2.2.2.1 (S.2.2.2.2 _ k_ml_S_46) (S.2.2.2.2 _ k_na_Y_arraycopy) (S.2.2.2.2 _ k_st_Y_arraycopy) (S.2.2.2.2 _ k_ini_Y) hK hP hD hS q0 q1 0 0 ha0 ha1 rfl rfl rfl (nI_pos (by omega)) (nI_pos (by omega)) (nI_pos (by omega)) (by rw [c1, c3]; exact h4) (by rw [c2, c3]; exact h5) (fun i _ => bF_fit hf _) hR.1 (by have := hR.2; rw [hnw]; omega) hdg (fun H1 locs1 r1 r2 r3 => ?_)
  rw [c1, c2, c3] at r1 r2
  exact kk H1 locs1 r1 r2 r3
end MyCopy
end
section
set_option maxHeartbeats 4000000 in
theorem lp_S_push {p : Program} {l : Launch} {e : Env} {s : State} {m : MethodId} {args : Array Value} {below : List Frame} {meth : Method} {c : Code} {D : va_G} {cB cI cZ : ClassId} {a : Nat → Nat} {Q : State → Prop} {A : Nat → Prop} {ps : Nat → Nat} {nx la : Nat → Int32} {fi en fr : Int32} {mn tp : Nat} {M : Nat → Nat} {ct : Nat → Nat → Int32} (L : List Nat) (htp : tp ≤ 400000) (S : CallFix p m c b_S_push 4 s args aw R_S) (hK : va_K D classes (TY cB cI cZ) s) (kx : ∀ (fb : Nat → Int32) (pa pr : Nat → Nat) (t : Nat) (pt : Int32), PuI M ps ct nx tp L [] pt t fb pa pr → ∀ (H : Heap) (locs : List Loc), va_P D classes (wS cB cI a fb pa ps pr nx la fi en fr mn tp) H → va_D A (wS cB cI a fb pa ps pr nx la fi en fr mn tp) → va_S A s.heap H locs → ∀ (ls : Array Slot), lv_has ls 4 [(0, .ref (a 0)), (1, .int (nI t)), (2, .int pt)] → W p l e (rmL 1) s m args below meth c H locs 0 0 Q (F0 m 68 ls [])) :
    ∀ (L2 L1 : List Nat), L1 ++ L2 = L → ∀ (fb : Nat → Int32) (pa pr : Nat → Nat) (t : Nat) (pt : Int32), PuI M ps ct nx tp L1 L2 pt t fb pa pr → ∀ (H : Heap) (locs : List Loc), va_P D classes (wS cB cI a fb pa ps pr nx la fi en fr mn tp) H → va_D A (wS cB cI a fb pa ps pr nx la fi en fr mn tp) → va_S A s.heap H locs → ∀ (ls : Array Slot), lv_has ls 4 [(0, .ref (a 0)), (1, .int (nI t)), (2, .int pt)] → W p l e (rmL 1) s m args below meth c H locs 0 0 Q (F0 m 7 ls []) := by
  have hx := S.1
  have hb := S.2.1
  intro L2
  induction L2 with
  | nil =>
    intro L1 hL fb pa pr t pt hI H locs hP hD hS ls hl
    rw [List.append_nil] at hL
    subst hL
    refine lv_iload_n hx hb d_S_push_7 rfl (lv_at hl 2 rfl) ?_
    refine lv_if_lt (tgt := 68) hx hb d_S_push_8 (by decide) (fun c1 => ?_) (fun c1 => ?_)
    · exact kx fb pa pr t pt hI H locs hP hD hS ls hl
    · exact absurd (show pt < 0 by rw [show pt = -1 from hI.1]; decide) c1
  | cons h L2 ih =>
    intro L1 hL fb pa pr t pt hI H locs hP hD hS ls hl
    obtain ⟨hpt, hh, -⟩ := hI.1
    have hrow := hI.2.2.2.2.1 h (List.mem_append_right _ List.mem_cons_self)
    obtain ⟨r1, r2, r3, r4, -⟩ := hrow
    have hle : rnd (M h) ≤ pr h := rnd_of r3 r4
    have hpl := (Pl_mem (h :: L2) t hI.2.2.1 h List.mem_cons_self)
    have hbF := hI.2.2.2.2.2.1
    subst hpt
    refine lv_iload_n hx hb d_S_push_7 rfl (lv_at hl 2 rfl) ?_
    refine lv_if_lt (tgt := 68) hx hb d_S_push_8 (by decide) (fun c1 => ?_) (fun c1 => ?_)
    · exact absurd c1 (nI_pos (by omega))
    · refine lv_aload_n hx hb d_S_push_11 rfl (lv_at hl 0 rfl) ?_
      refine gf_S_size S hK hP 0 rfl rfl d_S_push_12 ?_
      refine lv_iload_n hx hb d_S_push_15 rfl (lv_at hl 2 rfl) ?_
      refine ldI S hK hP 3 rfl h rfl (by omega) (v := nI (M h)) (by show nI (ps h) = _; rw [r1]) d_S_push_16 ?_
      refine cpS (As := [.int (nI (M h))]) (rest := []) S (c_S_rounded l (M h) (by omega)) (cw_S_42 S.2.2.2.2 ⟨by decide, by decide⟩) hP hS rfl hl.1 rfl (Nat.le_of_ble_eq_true rfl) d_S_push_17 ⟨by decide, by decide⟩ (fun H locs hP hS => ?_)
      refine lv_istore_n (lv' := [(3, .int (nI (rnd (M h)))), (0, .ref (a 0)), (1, .int (nI t)), (2, .int (nI h))]) hx hb d_S_push_20 rfl hl (by decide) rfl (fun ls hl => ?_)
      refine lv_aload_n hx hb d_S_push_21 rfl (lv_at hl 1 rfl) ?_
      refine gf_S_bytes S hK hP 0 rfl rfl d_S_push_22 ?_
      refine lv_aload_n hx hb d_S_push_25 rfl (lv_at hl 1 rfl) ?_
      refine gf_S_at S hK hP 0 rfl rfl d_S_push_26 ?_
      refine lv_iload_n hx hb d_S_push_29 rfl (lv_at hl 3 rfl) ?_
      refine ldI S hK hP 2 rfl h rfl (by omega) (v := nI (pa h)) rfl d_S_push_30 ?_
      refine lv_aload_n hx hb d_S_push_31 rfl (lv_at hl 1 rfl) ?_
      refine gf_S_bytes S hK hP 0 rfl rfl d_S_push_32 ?_
      refine lv_iload_n hx hb d_S_push_35 rfl (lv_at hl 2 rfl) ?_
      refine lv_iload_n hx hb d_S_push_36 rfl (lv_at hl 0 rfl) ?_
      refine cpyB S ⟨by decide, by decide⟩ hl.1 hK hP hD hS 1 1 rfl rfl hbF (pa h) t (rnd (M h)) rfl rfl rfl (by omega) (by omega) (Nat.le_of_ble_eq_true rfl) d_S_push_37 (fun H locs hP hD hS => ?_)
      have hP : va_P D classes (wS cB cI a (va_cpy fb fb (pa h) t (rnd (M h))) pa ps pr nx la fi en fr mn tp) H := hP
      have hD : va_D A (wS cB cI a (va_cpy fb fb (pa h) t (rnd (M h))) pa ps pr nx la fi en fr mn tp) := hD
      refine lv_aload_n hx hb d_S_push_40 rfl (lv_at hl 1 rfl) ?_
      refine gf_S_at S hK hP 0 rfl rfl d_S_push_41 ?_
      refine lv_iload_n hx hb d_S_push_44 rfl (lv_at hl 3 rfl) ?_
      refine lv_iload_n hx hb d_S_push_45 rfl (lv_at hl 2 rfl) ?_
      refine stI S hK hP hD hS 2 rfl h rfl (by omega) (g := nF (va_up pa h t)) (nF_up _ _ _) d_S_push_46 (fun H locs hP hD hS => ?_)
      have hP : va_P D classes (wS cB cI a (va_cpy fb fb (pa h) t (rnd (M h))) (va_up pa h t) ps pr nx la fi en fr mn tp) H := hP
      have hD : va_D A (wS cB cI a (va_cpy fb fb (pa h) t (rnd (M h))) (va_up pa h t) ps pr nx la fi en fr mn tp) := hD
      refine lv_aload_n hx hb d_S_push_47 rfl (lv_at hl 1 rfl) ?_
      refine gf_S_room S hK hP 0 rfl rfl d_S_push_48 ?_
      refine lv_iload_n hx hb d_S_push_51 rfl (lv_at hl 3 rfl) ?_
      refine lv_iload_n hx hb d_S_push_52 rfl (lv_at hl 0 rfl) ?_
      refine stI S hK hP hD hS 4 rfl h rfl (by omega) (g := nF (va_up pr h (rnd (M h)))) (nF_up _ _ _) d_S_push_53 (fun H locs hP hD hS => ?_)
      have hP : va_P D classes (wS cB cI a (va_cpy fb fb (pa h) t (rnd (M h))) (va_up pa h t) ps (va_up pr h (rnd (M h))) nx la fi en fr mn tp) H := hP
      have hD : va_D A (wS cB cI a (va_cpy fb fb (pa h) t (rnd (M h))) (va_up pa h t) ps (va_up pr h (rnd (M h))) nx la fi en fr mn tp) := hD
      refine lv_iload_n hx hb d_S_push_54 rfl (lv_at hl 2 rfl) ?_
      refine lv_iload_n hx hb d_S_push_55 rfl (lv_at hl 0 rfl) ?_
      refine lv_iadd hx hb d_S_push_56 ?_
      refine tpE (y := nI (t + rnd (M h))) (nI_add _ _) ?_
      refine lv_istore_n (lv' := [(1, .int (nI (t + rnd (M h)))), (3, .int (nI (rnd (M h)))), (0, .ref (a 0)), (2, .int (nI h))]) hx hb d_S_push_57 rfl hl (by decide) rfl (fun ls hl => ?_)
      refine lv_aload_n hx hb d_S_push_58 rfl (lv_at hl 2 rfl) ?_
      refine gf_S_next S hK hP 0 rfl rfl d_S_push_59 ?_
      refine lv_iload_n hx hb d_S_push_62 rfl (lv_at hl 3 rfl) ?_
      refine ldI S hK hP 5 rfl h rfl (by omega) (v := nx h) rfl d_S_push_63 ?_
      refine lv_istore_n (lv' := [(2, .int (nx h)), (1, .int (nI (t + rnd (M h)))), (3, .int (nI (rnd (M h)))), (0, .ref (a 0))]) hx hb d_S_push_64 rfl hl (by decide) rfl (fun ls hl => ?_)
      refine lv_goto (tgt := 7) hx hb d_S_push_65 (by decide) ?_
      exact ih (L1 ++ [h]) (by rw [List.append_assoc]; exact hL) _ _ _ _ _ (PuI_step hI) H locs hP hD hS ls (lv_sub hl [3, 1, 0] rfl)
set_option maxHeartbeats 4000000 in
/-- Shelf.push: the rows lie without a gap -/
theorem c_S_push (l : Launch) (D : va_G) (cB cI cZ : ClassId) (a : Nat → Nat) (fb : Nat → Int32) (pa ps pr : Nat → Nat) (nx la : Nat → Int32) (fi en fr : Int32) (mn tp : Nat) (L bk : List Nat) (M : Nat → Nat) (ct : Nat → Nat → Int32) (hk : RepS L bk M ct fb pa ps pr nx la fi en fr mn tp) : Met l y_S_push w_S_push (rmL 1) (va_Pc [.ref (a 0)] (Wd D cB cI cZ (wS cB cI a fb pa ps pr nx la fi en fr mn tp))) (Qmv D (fun u : (Nat → Int32) × (Nat → Nat) × (Nat → Nat) => RepS L bk M ct u.1 u.2.1 ps u.2.2 nx la fi en fr mn (lsum (fun h => rnd (M h)) L)) (fun u => wS cB cI a u.1 u.2.1 ps u.2.2 nx la fi en fr mn (lsum (fun h => rnd (M h)) L)) (wS cB cI a fb pa ps pr nx la fi en fr mn tp)) 0 0 (inA (wS cB cI a fb pa ps pr nx la fi en fr mn tp)) := by
  refine entry (by decide) (Nat.le_of_ble_eq_true rfl) ?_
  intro p e s m args below meth c S hr hlocks hin hPre ls hl
  have hx := S.1
  have hb := S.2.1
  have hl : lv_has ls 4 [(0, .ref (a 0))] := hl
  obtain ⟨hP, hK, hD⟩ := hPre
  have hD := inA_self hD
  have hS : va_S (inA (wS cB cI a fb pa ps pr nx la fi en fr mn tp)) s.heap s.heap [] := va_S.rf
  refine lv_iconst (v := (nI 0)) hx hb d_S_push_0 (by decide) ?_
  refine lv_istore_n (lv' := [(1, .int (nI 0)), (0, .ref (a 0))]) hx hb d_S_push_1 rfl hl (by decide) rfl (fun ls hl => ?_)
  refine lv_aload_n hx hb d_S_push_2 rfl (lv_at hl 1 rfl) ?_
  refine gf_S_first S hK hP 0 rfl rfl d_S_push_3 ?_
  refine lv_istore_n (lv' := [(2, .int fi), (1, .int (nI 0)), (0, .ref (a 0))]) hx hb d_S_push_6 rfl hl (by decide) rfl (fun ls hl => ?_)
  refine lp_S_push (A := inA (wS cB cI a fb pa ps pr nx la fi en fr mn tp)) (ps := ps) (nx := nx) (la := la) (fi := fi) (en := en) (fr := fr) (mn := mn) (tp := tp) (M := M) (ct := ct) L hk.2.2.2.1 S hK (fun fb1 pa1 pr1 t1 pt1 hI H locs hP hD hS ls hl => ?_) L [] rfl fb pa pr 0 fi (PuI_0 hk) _ _ hP hD hS ls (lv_sub hl [2, 1, 0] rfl)
  obtain ⟨hk1, ht1⟩ := PuI_1 hk hI
  subst ht1
  refine lv_aload_n hx hb d_S_push_68 rfl (lv_at hl 0 rfl) ?_
  refine lv_iload_n hx hb d_S_push_69 rfl (lv_at hl 1 rfl) ?_
  refine pf_S_top S hK hP hD hS 0 rfl (Nat.le_of_ble_eq_true rfl) d_S_push_70 (fun H locs hP hD hS => ?_)
  have hP : va_P D classes (wS cB cI a fb1 pa1 ps pr1 nx la fi en fr mn (lsum (fun h => rnd (M h)) L)) H := hP
  have hD : va_D (inA (wS cB cI a fb pa ps pr nx la fi en fr mn tp)) (wS cB cI a fb1 pa1 ps pr1 nx la fi en fr mn (lsum (fun h => rnd (M h)) L)) := hD
  exact rmV S hr hlocks (fb1, pa1, pr1) hk1 hP hS d_S_push_73
set_option maxHeartbeats 4000000 in
/-- Shelf.place: r places -/
theorem c_S_place (l : Launch) (D : va_G) (cB cI cZ : ClassId) (a : Nat → Nat) (fb : Nat → Int32) (pa ps pr : Nat → Nat) (nx la : Nat → Int32) (fi en fr : Int32) (mn tp : Nat) (L bk : List Nat) (M : Nat → Nat) (ct : Nat → Nat → Int32) (r : Nat) (hk : RepS L bk M ct fb pa ps pr nx la fi en fr mn tp) (hr0 : lsum (fun h => rnd (M h)) L + r ≤ 400000) : Met l y_S_place w_S_place (rmL 2) (va_Pc [.ref (a 0), .int (nI r)] (Wd D cB cI cZ (wS cB cI a fb pa ps pr nx la fi en fr mn tp))) (Qmi D (fun (z : Int32) (u : (Nat → Int32) × (Nat → Nat) × (Nat → Nat) × Nat) => z = nI u.2.2.2 ∧ u.2.2.2 + r ≤ 400000 ∧ RepS L bk M ct u.1 u.2.1 ps u.2.2.1 nx la fi en fr mn u.2.2.2) (fun u => wS cB cI a u.1 u.2.1 ps u.2.2.1 nx la fi en fr mn (u.2.2.2 + r)) (wS cB cI a fb pa ps pr nx la fi en fr mn tp)) 0 0 (inA (wS cB cI a fb pa ps pr nx la fi en fr mn tp)) := by
  refine entry (by decide) (Nat.le_of_ble_eq_true rfl) ?_
  intro p e s m args below meth c S hr hlocks hin hPre ls hl
  have hx := S.1
  have hb := S.2.1
  have hl : lv_has ls 3 [(0, .ref (a 0)), (1, .int (nI r))] := hl
  obtain ⟨hP, hK, hD⟩ := hPre
  have hD := inA_self hD
  have hS : va_S (inA (wS cB cI a fb pa ps pr nx la fi en fr mn tp)) s.heap s.heap [] := va_S.rf
  have htp := hk.2.2.2.1
  refine lv_aload_n hx hb d_S_place_0 rfl (lv_at hl 0 rfl) ?_
  refine gf_S_top S hK hP 0 rfl rfl d_S_place_1 ?_
  refine lv_iload_n hx hb d_S_place_4 rfl (lv_at hl 1 rfl) ?_
  refine lv_iadd hx hb d_S_place_5 ?_
  refine tpE (y := nI (tp + r)) (nI_add _ _) ?_
  refine lv_ldc (v := 400000) hx hb S.2.2.2.1 (S.2.2.2.2 _ k_k_S_11) d_S_place_6 ?_
  refine lv_icmp_le (tgt := 15) hx hb d_S_place_8 (by decide) (fun c1 => ?_) (fun c1 => ?_)
  · have hq : tp + r ≤ 400000 := (nI_leI (by omega) (by decide)).mp c1
    refine lv_aload_n hx hb d_S_place_15 rfl (lv_at hl 0 rfl) ?_
    refine gf_S_top S hK hP 0 rfl rfl d_S_place_16 ?_
    refine lv_istore_n (lv' := [(2, .int (nI tp)), (0, .ref (a 0)), (1, .int (nI r))]) hx hb d_S_place_19 rfl hl (by decide) rfl (fun ls hl => ?_)
    refine lv_aload_n hx hb d_S_place_20 rfl (lv_at hl 1 rfl) ?_
    refine lv_dup hx hb d_S_place_21 rfl ?_
    refine gf_S_top S hK hP 0 rfl rfl d_S_place_22 ?_
    refine lv_iload_n hx hb d_S_place_25 rfl (lv_at hl 2 rfl) ?_
    refine lv_iadd hx hb d_S_place_26 ?_
    refine tpE (y := nI (tp + r)) (nI_add _ _) ?_
    refine pf_S_top S hK hP hD hS 0 rfl (Nat.le_of_ble_eq_true rfl) d_S_place_27 (fun H locs hP hD hS => ?_)
    have hP : va_P D classes (wS cB cI a fb pa ps pr nx la fi en fr mn (tp + r)) H := hP
    have hD : va_D (inA (wS cB cI a fb pa ps pr nx la fi en fr mn tp)) (wS cB cI a fb pa ps pr nx la fi en fr mn (tp + r)) := hD
    refine lv_iload_n hx hb d_S_place_30 rfl (lv_at hl 0 rfl) ?_
    exact rmI S hr hlocks (fb, pa, pr, tp) ⟨rfl, hq, hk⟩ hP hS d_S_place_31
  · refine lv_aload_n hx hb d_S_place_11 rfl (lv_at hl 0 rfl) ?_
    refine cmV (As := []) (rest := []) (wr := []) S (c_S_push l D cB cI cZ a fb pa ps pr nx la fi en fr mn tp L bk M ct hk) (cw_S_55 S.2.2.2.2 ⟨by decide, by decide⟩) hK hP hD hS [0, 1, 2, 3, 4, 5, 6] [] rfl rfl rfl (by decide) rfl rfl rfl hl.1 rfl (Nat.le_of_ble_eq_true rfl) d_S_place_12 ⟨by decide, by decide⟩ (fun u H locs hu hP hS => ?_)
    obtain ⟨fb1, pa1, pr1⟩ := u
    have hP : va_P D classes (wS cB cI a fb1 pa1 ps pr1 nx la fi en fr mn (lsum (fun h => rnd (M h)) L)) H := hP.sub [0, 1, 2, 3, 4, 5, 6] rfl
    have hD : va_D (inA (wS cB cI a fb pa ps pr nx la fi en fr mn tp)) (wS cB cI a fb1 pa1 ps pr1 nx la fi en fr mn (lsum (fun h => rnd (M h)) L)) := dA hD rfl
    refine lv_aload_n hx hb d_S_place_15 rfl (lv_at hl 0 rfl) ?_
    refine gf_S_top S hK hP 0 rfl rfl d_S_place_16 ?_
    refine lv_istore_n (lv' := [(2, .int (nI (lsum (fun h => rnd (M h)) L))), (0, .ref (a 0)), (1, .int (nI r))]) hx hb d_S_place_19 rfl hl (by decide) rfl (fun ls hl => ?_)
    refine lv_aload_n hx hb d_S_place_20 rfl (lv_at hl 1 rfl) ?_
    refine lv_dup hx hb d_S_place_21 rfl ?_
    refine gf_S_top S hK hP 0 rfl rfl d_S_place_22 ?_
    refine lv_iload_n hx hb d_S_place_25 rfl (lv_at hl 2 rfl) ?_
    refine lv_iadd hx hb d_S_place_26 ?_
    refine tpE (y := nI (lsum (fun h => rnd (M h)) L + r)) (nI_add _ _) ?_
    refine pf_S_top S hK hP hD hS 0 rfl (Nat.le_of_ble_eq_true rfl) d_S_place_27 (fun H locs hP hD hS => ?_)
    have hP : va_P D classes (wS cB cI a fb1 pa1 ps pr1 nx la fi en fr mn (lsum (fun h => rnd (M h)) L + r)) H := hP
    have hD : va_D (inA (wS cB cI a fb pa ps pr nx la fi en fr mn tp)) (wS cB cI a fb1 pa1 ps pr1 nx la fi en fr mn (lsum (fun h => rnd (M h)) L + r)) := hD
    refine lv_iload_n hx hb d_S_place_30 rfl (lv_at hl 0 rfl) ?_
    exact rmI S hr hlocks (fb1, pa1, pr1, lsum (fun h => rnd (M h)) L) ⟨rfl, hr0, hu⟩ hP hS d_S_place_31
end
section
/-! Pure: the shelf's picture under take, free, resize, set, write -/
abbrev Sh : Type := (Nat → Int32) × (Nat → Nat) × (Nat → Nat) × (Nat → Nat) × (Nat → Int32) × (Nat → Int32) × Int32 × Int32 × Int32 × Nat × Nat
abbrev wSu (cB cI : ClassId) (a : Nat → Nat) (u : Sh) : va_W := wS cB cI a u.1 u.2.1 u.2.2.1 u.2.2.2.1 u.2.2.2.2.1 u.2.2.2.2.2.1 u.2.2.2.2.2.2.1 u.2.2.2.2.2.2.2.1 u.2.2.2.2.2.2.2.2.1 u.2.2.2.2.2.2.2.2.2.1 u.2.2.2.2.2.2.2.2.2.2
abbrev RepU (L bk : List Nat) (M : Nat → Nat) (ct : Nat → Nat → Int32) (u : Sh) : Prop := RepS L bk M ct u.1 u.2.1 u.2.2.1 u.2.2.2.1 u.2.2.2.2.1 u.2.2.2.2.2.1 u.2.2.2.2.2.2.1 u.2.2.2.2.2.2.2.1 u.2.2.2.2.2.2.2.2.1 u.2.2.2.2.2.2.2.2.2.1 u.2.2.2.2.2.2.2.2.2.2
/-- the number that take gives out, and how many numbers are known behind it -/
def tkH (bk : List Nat) (n : Nat) : Nat := match bk with | [] => n | x :: _ => x
def tkN (bk : List Nat) (n : Nat) : Nat := match bk with | [] => n + 1 | _ :: _ => n
section
variable {L bk L1 L2 : List Nat} {M : Nat → Nat} {ct : Nat → Nat → Int32} {fb fb' : Nat → Int32} {pa ps pr : Nat → Nat} {nx la nx' la' : Nat → Int32} {fi en fr fi' en' fr' : Int32} {mn tp mn' p r m h : Nat}
theorem RepS_take {bk' : List Nat} (k : RepS L bk M ct fb pa ps pr nx la fi en fr mn p) (hL : h ∉ L) (hmn : h < mn') (hmn0 : mn ≤ mn') (hr0 : p + r ≤ 400000) (er : r = rnd m) (hm : m ≤ 16384) (hk : Lk nx' la' fi' (nI h) (L ++ [h])) (hx : ∀ x, x ∉ L → x ≠ h → nx' x = nx x) (hb : Sg nx fr' bk' (-1) ∧ bk'.Nodup ∧ ∀ x ∈ bk', x ∉ L ∧ x ≠ h) :
    RepS (L ++ [h]) bk' (va_up M h m) (va_up ct h (fun _ => 0)) (zf fb p r) (va_up pa h p) (va_up ps h m) (va_up pr h r) nx' la' fi' (nI h) fr' mn' (p + r) := by
  obtain ⟨k1, k2, k3, k4, k5, k6⟩ := k
  have hne : ∀ x ∈ L, x ≠ h := fun x hx q => hL (q ▸ hx)
  have hmr : m ≤ r := by rw [er]; exact rnd_le m
  refine ⟨hk, ⟨Sg_congr bk' fr' (fun x q => hx x (hb.2.2 x q).1 (hb.2.2 x q).2) hb.1, hb.2.1, fun x q z => ?_⟩, ?_, hr0, fun x q => ?_, zf_bF k6⟩
  · rcases List.mem_append.mp z with z | z
    · exact (hb.2.2 x q).1 z
    · exact (hb.2.2 x q).2 (List.mem_singleton.mp z)
  · refine Pl_join L [h] 0 (Pl_congr L 0 (fun x q => ⟨va_up_ne _ _ (hne x q), va_up_ne _ _ (hne x q)⟩) k3) ?_
    show p ≤ va_up pa h p h ∧ va_up pa h p h + va_up pr h r h ≤ p + r
    rw [va_up_self, va_up_self]
    exact ⟨Nat.le_refl _, Nat.le_refl _⟩
  · rcases List.mem_append.mp q with q | q
    · obtain ⟨r0, r1, r2, r3, r4, r5⟩ := k5 x q
      have e := hne x q
      refine ⟨by omega, ?_⟩
      unfold Rw
      rw [va_up_ne _ _ e, va_up_ne _ _ e, va_up_ne _ _ e, va_up_ne _ _ e, va_up_ne _ _ e]
      refine ⟨r1, r2, r3, r4, fun i hi => ?_⟩
      have := (Pl_mem L 0 k3 x q).2
      rw [zf_out (by omega)]
      exact r5 i hi
    · rw [List.mem_singleton] at q
      subst q
      refine ⟨hmn, ?_⟩
      unfold Rw
      rw [va_up_self, va_up_self, va_up_self, va_up_self, va_up_self]
      refine ⟨rfl, hm, hmr, by rw [er]; exact rnd_8 m, fun i hi => zf_in (by omega) (by omega)⟩
theorem RepS_free (k : RepS (L1 ++ h :: L2) bk M ct fb pa ps pr nx la fi en fr mn tp) (hk : Lk nx' la' fi' en' (L1 ++ L2)) (hx : ∀ x, x ∉ L1 ++ h :: L2 → nx' x = nx x) :
    RepS (L1 ++ L2) (h :: bk) M ct fb pa ps pr (upd nx' h fr) la' fi' en' (nI h) mn tp := by
  obtain ⟨k1, k2, k3, k4, k5, k6⟩ := k
  obtain ⟨-, -, -, -, g5, g6, g7, g8, g9⟩ := Lk_cut k1
  have hin : h ∈ L1 ++ h :: L2 := List.mem_append_right _ List.mem_cons_self
  have hbk : h ∉ bk := fun q => k2.2.2 h q hin
  have hn : h ∉ L1 ++ L2 := fun q => by
    rcases List.mem_append.mp q with q | q
    · exact g7 q
    · exact g8 q
  have hsub : ∀ x, x ∈ L1 ++ L2 → x ∈ L1 ++ h :: L2 := fun x q => by
    rcases List.mem_append.mp q with q | q
    · exact List.mem_append_left _ q
    · exact List.mem_append_right _ (List.mem_cons_of_mem _ q)
  refine ⟨⟨Sg_upd hn hk.1, hk.2.1, hk.2.2⟩, ⟨⟨rfl, g5, ?_⟩, List.nodup_cons.mpr ⟨hbk, k2.2.1⟩, fun x q => ?_⟩, Pl_del k3, k4, fun x q => k5 x (hsub x q), k6⟩
  · rw [pk_us]
    exact Sg_upd hbk (Sg_congr bk fr (fun x q => hx x (k2.2.2 x q)) k2.1)
  · rcases List.mem_cons.mp q with rfl | q
    · exact hn
    · exact fun z => k2.2.2 x q (hsub x z)
theorem RepS_move (k : RepS (L1 ++ h :: L2) bk M ct fb pa ps pr nx la fi en fr mn p) (hr0 : p + r ≤ 400000) (er : r = rnd m) (hmr : M h ≤ r) (hk : Lk nx' la' fi' (nI h) (L1 ++ L2 ++ [h])) (hx : ∀ x, x ∉ L1 ++ h :: L2 → nx' x = nx x) :
    RepS (L1 ++ L2 ++ [h]) bk M ct (va_cpy fb fb (pa h) p (M h)) (va_up pa h p) ps (va_up pr h r) nx' la' fi' (nI h) fr mn (p + r) := by
  obtain ⟨k1, k2, k3, k4, k5, k6⟩ := k
  obtain ⟨-, -, -, -, g5, g6, g7, g8, g9⟩ := Lk_cut k1
  have hin : h ∈ L1 ++ h :: L2 := List.mem_append_right _ List.mem_cons_self
  have hn : h ∉ L1 ++ L2 := fun q => by
    rcases List.mem_append.mp q with q | q
    · exact g7 q
    · exact g8 q
  have hsub : ∀ x, x ∈ L1 ++ L2 → x ∈ L1 ++ h :: L2 := fun x q => by
    rcases List.mem_append.mp q with q | q
    · exact List.mem_append_left _ q
    · exact List.mem_append_right _ (List.mem_cons_of_mem _ q)
  have hne : ∀ x ∈ L1 ++ L2, x ≠ h := fun x q z => hn (z ▸ q)
  refine ⟨hk, ⟨Sg_congr bk fr (fun x q => hx x (k2.2.2 x q)) k2.1, k2.2.1, fun x q z => k2.2.2 x q ?_⟩, ?_, hr0, fun x q => ?_, bF_cpy k6 k6⟩
  · rcases List.mem_append.mp z with z | z
    · exact hsub x z
    · rw [List.mem_singleton] at z; subst z; exact hin
  · refine Pl_join (L1 ++ L2) [h] 0 (Pl_congr (L1 ++ L2) 0 (fun x q => ⟨va_up_ne _ _ (hne x q), va_up_ne _ _ (hne x q)⟩) (Pl_del k3)) ?_
    show p ≤ va_up pa h p h ∧ va_up pa h p h + va_up pr h r h ≤ p + r
    rw [va_up_self, va_up_self]
    exact ⟨Nat.le_refl _, Nat.le_refl _⟩
  · rcases List.mem_append.mp q with q | q
    · have q' := hsub x q
      obtain ⟨r0, r1, r2, r3, r4, r5⟩ := k5 x q'
      have e := hne x q
      refine ⟨r0, ?_⟩
      unfold Rw
      rw [va_up_ne _ _ e, va_up_ne _ _ e]
      refine ⟨r1, r2, r3, r4, fun i hi => ?_⟩
      have := (Pl_mem _ 0 k3 x q').2
      rw [pk_cpy_out (by omega)]
      exact r5 i hi
    · rw [List.mem_singleton] at q
      subst q
      obtain ⟨r0, r1, r2, r3, r4, r5⟩ := k5 x hin
      refine ⟨r0, ?_⟩
      unfold Rw
      rw [va_up_self, va_up_self]
      refine ⟨r1, r2, hmr, by rw [er]; exact rnd_8 m, fun i hi => ?_⟩
      rw [pk_cpy_in (by omega) (by omega), show pa x + (p + i - p) = pa x + i by omega]
      exact r5 i hi
/-- the bytes of one row change -/
theorem RepS_fb {g : Nat → Int32} (k : RepS L bk M ct fb pa ps pr nx la fi en fr mn tp) (hh : h ∈ L) (ho : ∀ j, (j < pa h ∨ pa h + pr h ≤ j) → fb' j = fb j) (hb : bF fb') (hg : ∀ i, i < M h → fb' (pa h + i) = g i) : RepS L bk M (va_up ct h g) fb' pa ps pr nx la fi en fr mn tp := by
  obtain ⟨k1, k2, k3, k4, k5, k6⟩ := k
  refine ⟨k1, k2, k3, k4, fun x q => ?_, hb⟩
  obtain ⟨r0, r1, r2, r3, r4, r5⟩ := k5 x q
  refine ⟨r0, r1, r2, r3, r4, fun i hi => ?_⟩
  by_cases e : x = h
  · subst e
    rw [va_up_self]
    exact hg i hi
  · rw [va_up_ne _ _ e]
    have := Pl_apart L 0 k3 x q h hh e
    rw [ho _ (by omega)]
    exact r5 i hi
/-- a row's bytes at another size: what was there stays, new ones are 0 -/
def rsC (ct : Nat → Nat → Int32) (h old : Nat) : Nat → Nat → Int32 := va_up ct h (fun i => if i < old then ct h i else 0)
theorem RepS_size (k : RepS L bk M ct fb pa ps pr nx la fi en fr mn tp) (hh : h ∈ L) (hm : m ≤ 16384) (hmr : m ≤ pr h) : RepS L bk (va_up M h m) (rsC ct h (M h)) (zf fb (pa h + M h) (m - M h)) pa (va_up ps h m) pr nx la fi en fr mn tp := by
  obtain ⟨k1, k2, k3, k4, k5, k6⟩ := k
  refine ⟨k1, k2, k3, k4, fun x q => ?_, zf_bF k6⟩
  obtain ⟨r0, r1, r2, r3, r4, r5⟩ := k5 x q
  refine ⟨r0, ?_⟩
  unfold Rw rsC
  by_cases e : x = h
  · subst e
    rw [va_up_self, va_up_self, va_up_self]
    refine ⟨rfl, hm, hmr, r4, fun i hi => ?_⟩
    by_cases hi2 : i < M x
    · show _ = if i < M x then ct x i else 0
      rw [if_pos hi2, zf_out (by omega)]
      exact r5 i hi2
    · show _ = if i < M x then ct x i else 0
      rw [if_neg hi2, zf_in (by omega) (by omega)]
  · rw [va_up_ne _ _ e, va_up_ne _ _ e, va_up_ne _ _ e]
    refine ⟨r1, r2, r3, r4, fun i hi => ?_⟩
    have := Pl_apart L 0 k3 x q h hh e
    have := (k5 h hh).2.2.2.1
    rw [zf_out (by omega)]
    exact r5 i hi
theorem RepS_mem (k : RepS L bk M ct fb pa ps pr nx la fi en fr mn tp) (hh : h ∈ L) : ∃ L1 L2, L = L1 ++ h :: L2 := List.append_of_mem hh
end
end
section
set_option maxHeartbeats 4000000 in
theorem lp_S_take {p : Program} {l : Launch} {e : Env} {s : State} {m : MethodId} {args : Array Value} {below : List Frame} {meth : Method} {c : Code} {D : va_G} {cB cI cZ : ClassId} {a : Nat → Nat} {Q : State → Prop} {A : Nat → Prop} {fb : Nat → Int32} {pa ps pr : Nat → Nat} {nx la : Nat → Int32} {fi en fr : Int32} {mn tp : Nat} {z r q h : Nat} (hq : q + r ≤ 400000) (S : CallFix p m c b_S_take 6 s args aw R_S) (hK : va_K D classes (TY cB cI cZ) s) (kx : ∀ (H : Heap) (locs : List Loc), va_P D classes (wS cB cI a (zf fb q r) pa ps pr nx la fi en fr mn tp) H → va_D A (wS cB cI a (zf fb q r) pa ps pr nx la fi en fr mn tp) → va_S A s.heap H locs → ∀ (ls : Array Slot), lv_has ls 6 [(0, .ref (a 0)), (1, .int (nI z)), (2, .int (nI r)), (3, .int (nI q)), (4, .int (nI h)), (5, .int (nI r))] → W p l e (rmL 3) s m args below meth c H locs 0 0 Q (F0 m 107 ls [])) :
    ∀ (n i : Nat), i + n = r → ∀ (H : Heap) (locs : List Loc), va_P D classes (wS cB cI a (zf fb q i) pa ps pr nx la fi en fr mn tp) H → va_D A (wS cB cI a (zf fb q i) pa ps pr nx la fi en fr mn tp) → va_S A s.heap H locs → ∀ (ls : Array Slot), lv_has ls 6 [(0, .ref (a 0)), (1, .int (nI z)), (2, .int (nI r)), (3, .int (nI q)), (4, .int (nI h)), (5, .int (nI i))] → W p l e (rmL 3) s m args below meth c H locs 0 0 Q (F0 m 85 ls []) := by
  have hx := S.1
  have hb := S.2.1
  intro n
  induction n with
  | zero =>
    intro i hi H locs hP hD hS ls hl
    have e0 : i = r := by omega
    subst e0
    refine lv_iload hx hb d_S_take_85 (lv_at hl 5 rfl) ?_
    refine lv_iload_n hx hb d_S_take_87 rfl (lv_at hl 2 rfl) ?_
    refine lv_icmp_ge (tgt := 107) hx hb d_S_take_88 (by decide) (fun c1 => ?_) (fun c1 => ?_)
    · exact kx H locs hP hD hS ls hl
    · exact absurd (nI_le (Nat.le_refl i) (by omega)) c1
  | succ n ih =>
    intro i hi H locs hP hD hS ls hl
    refine lv_iload hx hb d_S_take_85 (lv_at hl 5 rfl) ?_
    refine lv_iload_n hx hb d_S_take_87 rfl (lv_at hl 2 rfl) ?_
    refine lv_icmp_ge (tgt := 107) hx hb d_S_take_88 (by decide) (fun c1 => ?_) (fun c1 => ?_)
    · exact absurd c1 (nI_ge (by omega) (by omega))
    · refine lv_aload_n hx hb d_S_take_91 rfl (lv_at hl 0 rfl) ?_
      refine gf_S_bytes S hK hP 0 rfl rfl d_S_take_92 ?_
      refine lv_iload_n hx hb d_S_take_95 rfl (lv_at hl 3 rfl) ?_
      refine lv_iload hx hb d_S_take_96 (lv_at hl 5 rfl) ?_
      refine lv_iadd hx hb d_S_take_98 ?_
      refine tpE (y := nI (q + i)) (nI_add _ _) ?_
      refine lv_iconst (v := 0) hx hb d_S_take_99 (by decide) ?_
      refine stB S hK hP hD hS 1 rfl (q + i) rfl (by omega) (g := zf fb q (i + 1)) (zf_up fb q i) d_S_take_100 (fun H locs hP hD hS => ?_)
      have hP : va_P D classes (wS cB cI a (zf fb q (i + 1)) pa ps pr nx la fi en fr mn tp) H := hP
      have hD : va_D A (wS cB cI a (zf fb q (i + 1)) pa ps pr nx la fi en fr mn tp) := hD
      refine lv_iinc (v := nI (i + 1)) (lv' := [(5, .int (nI (i + 1))), (0, .ref (a 0)), (1, .int (nI z)), (2, .int (nI r)), (3, .int (nI q)), (4, .int (nI h))]) hx hb d_S_take_101 hl (k := 5) rfl (nI_1 i) (by decide) rfl (fun ls hl => ?_)
      refine lv_goto (tgt := 85) hx hb d_S_take_104 (by decide) ?_
      exact ih (i + 1) (by omega) H locs hP hD hS ls (lv_sub hl [1, 2, 3, 4, 5, 0] rfl)
set_option maxHeartbeats 4000000 in
theorem tl_S_take {p : Program} {l : Launch} {e : Env} {s : State} {m : MethodId} {args : Array Value} {below : List Frame} {meth : Method} {c : Code} {D : va_G} {cB cI cZ : ClassId} {a : Nat → Nat} {wc : va_W} {fb : Nat → Int32} {pa ps pr : Nat → Nat} {nx la : Nat → Int32} {fi en fr : Int32} {mn : Nat} {L bk0 bk1 : List Nat} {M : Nat → Nat} {ct : Nat → Nat → Int32} {fr0 : Int32} {mn0 z r q h : Nat} (hk : RepS L bk0 M ct fb pa ps pr nx la fi en fr0 mn0 q) (hh : h < 32000) (hL : h ∉ L) (hmn : h < mn) (hmn0 : mn0 ≤ mn) (hbk : Sg nx fr bk1 (-1) ∧ bk1.Nodup ∧ ∀ x ∈ bk1, x ∉ L ∧ x ≠ h) (hr0 : q + r ≤ 400000) (er : r = rnd z) (hz : z ≤ 16384) (S : CallFix p m c b_S_take 6 s args aw R_S) (hK : va_K D classes (TY cB cI cZ) s) (hr : meth.sig.returnType = some .int) (hlocks : meth.locks = false) :
    ∀ (H : Heap) (locs : List Loc), va_P D classes (wS cB cI a fb pa ps pr nx la fi en fr mn (q + r)) H → va_D (inA wc) (wS cB cI a fb pa ps pr nx la fi en fr mn (q + r)) → va_S (inA wc) s.heap H locs → ∀ (ls : Array Slot), lv_has ls 6 [(0, .ref (a 0)), (1, .int (nI z)), (2, .int (nI r)), (3, .int (nI q)), (4, .int (nI h))] → W p l e (rmL 3) s m args below meth c H locs 0 0 (MQ below (Qmi D (fun (y : Int32) (u : Sh) => y = nI h ∧ u.2.2.2.2.2.2.2.2.2.1 = mn ∧ RepU (L ++ [h]) bk1 (va_up M h z) (va_up ct h (fun _ => 0)) u) (wSu cB cI a) wc) args s 0 0 (inA wc)) (F0 m 52 ls []) := by
  have hx := S.1
  have hb := S.2.1
  intro H locs hP hD hS ls hl
  refine lv_aload_n hx hb d_S_take_52 rfl (lv_at hl 0 rfl) ?_
  refine gf_S_at S hK hP 0 rfl rfl d_S_take_53 ?_
  refine lv_iload hx hb d_S_take_56 (lv_at hl 4 rfl) ?_
  refine lv_iload_n hx hb d_S_take_58 rfl (lv_at hl 3 rfl) ?_
  refine stI S hK hP hD hS 2 rfl h rfl (by omega) (g := nF (va_up pa h q)) (nF_up _ _ _) d_S_take_59 (fun H locs hP hD hS => ?_)
  have hP : va_P D classes (wS cB cI a fb (va_up pa h q) ps pr nx la fi en fr mn (q + r)) H := hP
  have hD : va_D (inA wc) (wS cB cI a fb (va_up pa h q) ps pr nx la fi en fr mn (q + r)) := hD
  refine lv_aload_n hx hb d_S_take_60 rfl (lv_at hl 0 rfl) ?_
  refine gf_S_size S hK hP 0 rfl rfl d_S_take_61 ?_
  refine lv_iload hx hb d_S_take_64 (lv_at hl 4 rfl) ?_
  refine lv_iload_n hx hb d_S_take_66 rfl (lv_at hl 1 rfl) ?_
  refine stI S hK hP hD hS 3 rfl h rfl (by omega) (g := nF (va_up ps h z)) (nF_up _ _ _) d_S_take_67 (fun H locs hP hD hS => ?_)
  have hP : va_P D classes (wS cB cI a fb (va_up pa h q) (va_up ps h z) pr nx la fi en fr mn (q + r)) H := hP
  have hD : va_D (inA wc) (wS cB cI a fb (va_up pa h q) (va_up ps h z) pr nx la fi en fr mn (q + r)) := hD
  refine lv_aload_n hx hb d_S_take_68 rfl (lv_at hl 0 rfl) ?_
  refine gf_S_room S hK hP 0 rfl rfl d_S_take_69 ?_
  refine lv_iload hx hb d_S_take_72 (lv_at hl 4 rfl) ?_
  refine lv_iload_n hx hb d_S_take_74 rfl (lv_at hl 2 rfl) ?_
  refine stI S hK hP hD hS 4 rfl h rfl (by omega) (g := nF (va_up pr h r)) (nF_up _ _ _) d_S_take_75 (fun H locs hP hD hS => ?_)
  have hP : va_P D classes (wS cB cI a fb (va_up pa h q) (va_up ps h z) (va_up pr h r) nx la fi en fr mn (q + r)) H := hP
  have hD : va_D (inA wc) (wS cB cI a fb (va_up pa h q) (va_up ps h z) (va_up pr h r) nx la fi en fr mn (q + r)) := hD
  refine lv_aload_n hx hb d_S_take_76 rfl (lv_at hl 0 rfl) ?_
  refine lv_iload hx hb d_S_take_77 (lv_at hl 4 rfl) ?_
  refine cmV (As := [.int (nI h)]) (rest := []) (wr := []) S (c_S_append l D cB cI cZ a fb (va_up pa h q) (va_up ps h z) (va_up pr h r) nx la fi en fr mn (q + r) h L hh hL hk.1) (cw_S_64 S.2.2.2.2 ⟨by decide, by decide⟩) hK hP hD hS [0, 1, 2, 3, 4, 5, 6] [] rfl rfl rfl (by decide) rfl rfl rfl hl.1 rfl (Nat.le_of_ble_eq_true rfl) d_S_take_79 ⟨by decide, by decide⟩ (fun u H locs hu hP hS => ?_)
  obtain ⟨nx1, la1, fi1⟩ := u
  have hP : va_P D classes (wS cB cI a fb (va_up pa h q) (va_up ps h z) (va_up pr h r) nx1 la1 fi1 (nI h) fr mn (q + r)) H := hP.sub [0, 1, 2, 3, 4, 5, 6] rfl
  have hD : va_D (inA wc) (wS cB cI a fb (va_up pa h q) (va_up ps h z) (va_up pr h r) nx1 la1 fi1 (nI h) fr mn (q + r)) := dA hD rfl
  refine lv_iconst (v := (nI 0)) hx hb d_S_take_82 (by decide) ?_
  refine lv_istore (lv' := [(5, .int (nI 0)), (0, .ref (a 0)), (1, .int (nI z)), (2, .int (nI r)), (3, .int (nI q)), (4, .int (nI h))]) hx hb d_S_take_83 hl (by decide) rfl (fun ls hl => ?_)
  refine lp_S_take hr0 S hK (fun H locs hP hD hS ls hl => ?_) r 0 (by omega) H locs (by rw [zf_0]; exact hP) (by rw [zf_0]; exact hD) hS ls (lv_sub hl [1, 2, 3, 4, 5, 0] rfl)
  refine lv_iload hx hb d_S_take_107 (lv_at hl 4 rfl) ?_
  exact rmI S hr hlocks (zf fb q r, va_up pa h q, va_up ps h z, va_up pr h r, nx1, la1, fi1, nI h, fr, mn, q + r) ⟨rfl, rfl, RepS_take hk hL hmn hmn0 hr0 er hz hu.1 hu.2 hbk⟩ hP hS d_S_take_109
set_option maxHeartbeats 4000000 in
/-- Shelf.take -/
theorem c_S_take (l : Launch) (D : va_G) (cB cI cZ : ClassId) (a : Nat → Nat) (fb : Nat → Int32) (pa ps pr : Nat → Nat) (nx la : Nat → Int32) (fi en fr : Int32) (mn tp : Nat) (L bk : List Nat) (M : Nat → Nat) (ct : Nat → Nat → Int32) (z : Nat) (hk : RepS L bk M ct fb pa ps pr nx la fi en fr mn tp) (hz : z ≤ 16384) (hr0 : lsum (fun h => rnd (M h)) L + rnd z ≤ 400000) (hmn : mn < 32000) (hbm : ∀ x ∈ bk, x < mn) : Met l y_S_take w_S_take (rmL 3) (va_Pc [.ref (a 0), .int (nI z)] (Wd D cB cI cZ (wS cB cI a fb pa ps pr nx la fi en fr mn tp))) (Qmi D (fun (y : Int32) (u : Sh) => y = nI (tkH bk mn) ∧ u.2.2.2.2.2.2.2.2.2.1 = tkN bk mn ∧ RepU (L ++ [tkH bk mn]) bk.tail (va_up M (tkH bk mn) z) (va_up ct (tkH bk mn) (fun _ => 0)) u) (wSu cB cI a) (wS cB cI a fb pa ps pr nx la fi en fr mn tp)) 0 0 (inA (wS cB cI a fb pa ps pr nx la fi en fr mn tp)) := by
  refine entry (by decide) (Nat.le_of_ble_eq_true rfl) ?_
  intro p e s m args below meth c S hr hlocks hin hPre ls hl
  have hx := S.1
  have hb := S.2.1
  have hl : lv_has ls 6 [(0, .ref (a 0)), (1, .int (nI z))] := hl
  obtain ⟨hP, hK, hD⟩ := hPre
  have hD := inA_self hD
  have hS : va_S (inA (wS cB cI a fb pa ps pr nx la fi en fr mn tp)) s.heap s.heap [] := va_S.rf
  refine lv_iload_n hx hb d_S_take_0 rfl (lv_at hl 1 rfl) ?_
  refine cpS (As := [.int (nI z)]) (rest := []) S (c_S_rounded l z (by omega)) (cw_S_42 S.2.2.2.2 ⟨by decide, by decide⟩) hP hS rfl hl.1 rfl (Nat.le_of_ble_eq_true rfl) d_S_take_1 ⟨by decide, by decide⟩ (fun H locs hP hS => ?_)
  refine lv_istore_n (lv' := [(2, .int (nI (rnd z))), (0, .ref (a 0)), (1, .int (nI z))]) hx hb d_S_take_4 rfl hl (by decide) rfl (fun ls hl => ?_)
  refine lv_aload_n hx hb d_S_take_5 rfl (lv_at hl 1 rfl) ?_
  refine lv_iload_n hx hb d_S_take_6 rfl (lv_at hl 0 rfl) ?_
  refine cmI (As := [.int (nI (rnd z))]) (rest := []) (wr := []) S (c_S_place l D cB cI cZ a fb pa ps pr nx la fi en fr mn tp L bk M ct (rnd z) hk hr0) (cw_S_58 S.2.2.2.2 ⟨by decide, by decide⟩) hK hP hD hS [0, 1, 2, 3, 4, 5, 6] [] rfl rfl rfl (by decide) rfl rfl rfl hl.1 rfl (Nat.le_of_ble_eq_true rfl) d_S_take_7 ⟨by decide, by decide⟩ (fun r u H locs hu hP hS => ?_)
  obtain ⟨fb1, pa1, pr1, q⟩ := u
  obtain ⟨hu1, hu2, hk1⟩ := hu
  have hP : va_P D classes (wS cB cI a fb1 pa1 ps pr1 nx la fi en fr mn (q + rnd z)) H := hP.sub [0, 1, 2, 3, 4, 5, 6] rfl
  have hD : va_D (inA (wS cB cI a fb pa ps pr nx la fi en fr mn tp)) (wS cB cI a fb1 pa1 ps pr1 nx la fi en fr mn (q + rnd z)) := dA hD rfl
  subst hu1
  refine lv_istore_n (lv' := [(3, .int (nI q)), (2, .int (nI (rnd z))), (0, .ref (a 0)), (1, .int (nI z))]) hx hb d_S_take_10 rfl hl (by decide) rfl (fun ls hl => ?_)
  refine lv_aload_n hx hb d_S_take_11 rfl (lv_at hl 2 rfl) ?_
  refine gf_S_free S hK hP 0 rfl rfl d_S_take_12 ?_
  refine lv_istore (lv' := [(4, .int fr), (3, .int (nI q)), (2, .int (nI (rnd z))), (0, .ref (a 0)), (1, .int (nI z))]) hx hb d_S_take_15 hl (by decide) rfl (fun ls hl => ?_)
  refine lv_iload hx hb d_S_take_17 (lv_at hl 0 rfl) ?_
  refine lv_if_lt (tgt := 36) hx hb d_S_take_19 (by decide) (fun c1 => ?_) (fun c1 => ?_)
  · have e0 := Sg_neg hk.2.1.1 c1
    subst e0
    refine lv_aload_n hx hb d_S_take_36 rfl (lv_at hl 3 rfl) ?_
    refine gf_S_many S hK hP 0 rfl rfl d_S_take_37 ?_
    refine lv_istore (lv' := [(4, .int (nI mn)), (3, .int (nI q)), (2, .int (nI (rnd z))), (0, .ref (a 0)), (1, .int (nI z))]) hx hb d_S_take_40 hl (by decide) rfl (fun ls hl => ?_)
    refine lv_aload_n hx hb d_S_take_42 rfl (lv_at hl 3 rfl) ?_
    refine lv_dup hx hb d_S_take_43 rfl ?_
    refine gf_S_many S hK hP 0 rfl rfl d_S_take_44 ?_
    refine lv_iconst (v := 1) hx hb d_S_take_47 (by decide) ?_
    refine lv_iadd hx hb d_S_take_48 ?_
    refine tpE (y := nI (mn + 1)) (nI_1 mn) ?_
    refine pf_S_many S hK hP hD hS 0 rfl (Nat.le_of_ble_eq_true rfl) d_S_take_49 (fun H locs hP hD hS => ?_)
    have hP : va_P D classes (wS cB cI a fb1 pa1 ps pr1 nx la fi en fr (mn + 1) (q + rnd z)) H := hP
    have hD : va_D (inA (wS cB cI a fb pa ps pr nx la fi en fr mn tp)) (wS cB cI a fb1 pa1 ps pr1 nx la fi en fr (mn + 1) (q + rnd z)) := hD
    exact tl_S_take (bk1 := []) (h := mn) hk1 hmn (fun q => Nat.lt_irrefl _ (hk.2.2.2.2.1 mn q).1) (Nat.lt_succ_self mn) (Nat.le_succ mn) ⟨hk.2.1.1, List.nodup_nil, fun x q => by cases q⟩ hu2 rfl hz S hK hr hlocks H locs hP hD hS ls (lv_sub hl [3, 4, 2, 1, 0] rfl)
  · obtain ⟨h, t, rfl, hfr, hh, hnt⟩ := Sg_pos hk.2.1.1 c1
    refine lv_aload_n hx hb d_S_take_22 rfl (lv_at hl 3 rfl) ?_
    refine lv_aload_n hx hb d_S_take_23 rfl (lv_at hl 3 rfl) ?_
    refine gf_S_next S hK hP 0 rfl rfl d_S_take_24 ?_
    refine lv_iload hx hb d_S_take_27 (lv_at hl 0 rfl) ?_
    refine ldI S hK hP 5 rfl h hfr hh (v := nx h) rfl d_S_take_29 ?_
    refine pf_S_free S hK hP hD hS 0 rfl (Nat.le_of_ble_eq_true rfl) d_S_take_30 (fun H locs hP hD hS => ?_)
    have hP : va_P D classes (wS cB cI a fb1 pa1 ps pr1 nx la fi en (nx h) mn (q + rnd z)) H := hP
    have hD : va_D (inA (wS cB cI a fb pa ps pr nx la fi en fr mn tp)) (wS cB cI a fb1 pa1 ps pr1 nx la fi en (nx h) mn (q + rnd z)) := hD
    refine lv_goto (tgt := 52) hx hb d_S_take_33 (by decide) ?_
    have hl : lv_has ls 6 [(0, .ref (a 0)), (1, .int (nI z)), (2, .int (nI (rnd z))), (3, .int (nI q)), (4, .int (nI h))] := by rw [← hfr]; exact lv_sub hl [3, 4, 2, 1, 0] rfl
    exact tl_S_take (bk1 := t) (h := h) hk1 hh (hk.2.1.2.2 h List.mem_cons_self) (hbm h List.mem_cons_self) (Nat.le_refl mn) ⟨hnt, (List.nodup_cons.mp hk.2.1.2.1).2, fun x q => ⟨hk.2.1.2.2 x (List.mem_cons_of_mem _ q), fun w => (List.nodup_cons.mp hk.2.1.2.1).1 (w ▸ q)⟩⟩ hu2 rfl hz S hK hr hlocks H locs hP hD hS ls hl
end
section
set_option maxHeartbeats 4000000 in
/-- Shelf.free -/
theorem c_S_free (l : Launch) (D : va_G) (cB cI cZ : ClassId) (a : Nat → Nat) (fb : Nat → Int32) (pa ps pr : Nat → Nat) (nx la : Nat → Int32) (fi en fr : Int32) (mn tp : Nat) (L1 L2 bk : List Nat) (M : Nat → Nat) (ct : Nat → Nat → Int32) (h : Nat) (hk : RepS (L1 ++ h :: L2) bk M ct fb pa ps pr nx la fi en fr mn tp) : Met l y_S_free w_S_free (rmL 1) (va_Pc [.ref (a 0), .int (nI h)] (Wd D cB cI cZ (wS cB cI a fb pa ps pr nx la fi en fr mn tp))) (Qmv D (fun u : Sh => u.2.2.2.2.2.2.2.2.2.1 = mn ∧ RepU (L1 ++ L2) (h :: bk) M ct u) (wSu cB cI a) (wS cB cI a fb pa ps pr nx la fi en fr mn tp)) 0 0 (inA (wS cB cI a fb pa ps pr nx la fi en fr mn tp)) := by
  refine entry (by decide) (Nat.le_of_ble_eq_true rfl) ?_
  intro p e s m args below meth c S hr hlocks hin hPre ls hl
  have hx := S.1
  have hb := S.2.1
  have hl : lv_has ls 2 [(0, .ref (a 0)), (1, .int (nI h))] := hl
  obtain ⟨hP, hK, hD⟩ := hPre
  have hD := inA_self hD
  have hS : va_S (inA (wS cB cI a fb pa ps pr nx la fi en fr mn tp)) s.heap s.heap [] := va_S.rf
  have hh : h < 32000 := (RepS_row hk (List.mem_append_right _ List.mem_cons_self)).1
  refine lv_aload_n hx hb d_S_free_0 rfl (lv_at hl 0 rfl) ?_
  refine lv_iload_n hx hb d_S_free_1 rfl (lv_at hl 1 rfl) ?_
  refine cmV (As := [.int (nI h)]) (rest := []) (wr := []) S (c_S_leave l D cB cI cZ a fb pa ps pr nx la fi en fr mn tp h L1 L2 hk.1) (cw_S_71 S.2.2.2.2 ⟨by decide, by decide⟩) hK hP hD hS [0, 1, 2, 3, 4, 5, 6] [] rfl rfl rfl (by decide) rfl rfl rfl hl.1 rfl (Nat.le_of_ble_eq_true rfl) d_S_free_2 ⟨by decide, by decide⟩ (fun u H locs hu hP hS => ?_)
  obtain ⟨nx1, la1, fi1, en1⟩ := u
  have hP : va_P D classes (wS cB cI a fb pa ps pr nx1 la1 fi1 en1 fr mn tp) H := hP.sub [0, 1, 2, 3, 4, 5, 6] rfl
  have hD : va_D (inA (wS cB cI a fb pa ps pr nx la fi en fr mn tp)) (wS cB cI a fb pa ps pr nx1 la1 fi1 en1 fr mn tp) := dA hD rfl
  refine lv_aload_n hx hb d_S_free_5 rfl (lv_at hl 0 rfl) ?_
  refine gf_S_next S hK hP 0 rfl rfl d_S_free_6 ?_
  refine lv_iload_n hx hb d_S_free_9 rfl (lv_at hl 1 rfl) ?_
  refine lv_aload_n hx hb d_S_free_10 rfl (lv_at hl 0 rfl) ?_
  refine gf_S_free S hK hP 0 rfl rfl d_S_free_11 ?_
  refine stI S hK hP hD hS 5 rfl h rfl (by omega) (g := upd nx1 h fr) rfl d_S_free_14 (fun H locs hP hD hS => ?_)
  have hP : va_P D classes (wS cB cI a fb pa ps pr (upd nx1 h fr) la1 fi1 en1 fr mn tp) H := hP
  have hD : va_D (inA (wS cB cI a fb pa ps pr nx la fi en fr mn tp)) (wS cB cI a fb pa ps pr (upd nx1 h fr) la1 fi1 en1 fr mn tp) := hD
  refine lv_aload_n hx hb d_S_free_15 rfl (lv_at hl 0 rfl) ?_
  refine lv_iload_n hx hb d_S_free_16 rfl (lv_at hl 1 rfl) ?_
  refine pf_S_free S hK hP hD hS 0 rfl (Nat.le_of_ble_eq_true rfl) d_S_free_17 (fun H locs hP hD hS => ?_)
  have hP : va_P D classes (wS cB cI a fb pa ps pr (upd nx1 h fr) la1 fi1 en1 (nI h) mn tp) H := hP
  have hD : va_D (inA (wS cB cI a fb pa ps pr nx la fi en fr mn tp)) (wS cB cI a fb pa ps pr (upd nx1 h fr) la1 fi1 en1 (nI h) mn tp) := hD
  exact rmV S hr hlocks (fb, pa, ps, pr, upd nx1 h fr, la1, fi1, en1, nI h, mn, tp) ⟨rfl, RepS_free hk hu.1 hu.2⟩ hP hS d_S_free_20
set_option maxHeartbeats 4000000 in
/-- Shelf.write -/
theorem c_S_write (l : Launch) (D : va_G) (cB cI cZ : ClassId) (a : Nat → Nat) (fb : Nat → Int32) (pa ps pr : Nat → Nat) (nx la : Nat → Int32) (fi en fr : Int32) (mn tp : Nat) (hd : Nat → Int32) (h i n : Nat) (hh : h < 32000) (hi : pa h + i + n ≤ 400000) (hn : n ≤ 16384) (hbF : bF hd) : Met l y_S_write w_S_write (rmL 1) (va_Pc [.ref (a 0), .int (nI h), .int (nI i), .ref (a 8), .int 0, .int (nI n)] (Wd D cB cI cZ (wSW cB cI a fb pa ps pr nx la fi en fr mn tp hd))) (Qmv D (fun _ : Unit => True) (fun _ => wSW cB cI a (va_cpy hd fb 0 (pa h + i) n) pa ps pr nx la fi en fr mn tp hd) (wSW cB cI a fb pa ps pr nx la fi en fr mn tp hd)) 0 0 (inA (wSW cB cI a fb pa ps pr nx la fi en fr mn tp hd)) := by
  refine entry (by decide) (Nat.le_of_ble_eq_true rfl) ?_
  intro p e s m args below meth c S hr hlocks hin hPre ls hl
  have hx := S.1
  have hb := S.2.1
  have hl : lv_has ls 6 [(0, .ref (a 0)), (1, .int (nI h)), (2, .int (nI i)), (3, .ref (a 8)), (4, .int 0), (5, .int (nI n))] := hl
  obtain ⟨hP, hK, hD⟩ := hPre
  have hD := inA_self hD
  have hS : va_S (inA (wSW cB cI a fb pa ps pr nx la fi en fr mn tp hd)) s.heap s.heap [] := va_S.rf
  refine lv_aload_n hx hb d_S_write_0 rfl (lv_at hl 3 rfl) ?_
  refine lv_iload hx hb d_S_write_1 (lv_at hl 4 rfl) ?_
  refine lv_aload_n hx hb d_S_write_3 rfl (lv_at hl 0 rfl) ?_
  refine gf_S_bytes S hK hP 0 rfl rfl d_S_write_4 ?_
  refine lv_aload_n hx hb d_S_write_7 rfl (lv_at hl 0 rfl) ?_
  refine gf_S_at S hK hP 0 rfl rfl d_S_write_8 ?_
  refine lv_iload_n hx hb d_S_write_11 rfl (lv_at hl 1 rfl) ?_
  refine ldI S hK hP 2 rfl h rfl (by omega) (v := nI (pa h)) rfl d_S_write_12 ?_
  refine lv_iload_n hx hb d_S_write_13 rfl (lv_at hl 2 rfl) ?_
  refine lv_iadd hx hb d_S_write_14 ?_
  refine tpE (y := nI (pa h + i)) (nI_add _ _) ?_
  refine lv_iload hx hb d_S_write_15 (lv_at hl 5 rfl) ?_
  refine cpyB S ⟨by decide, by decide⟩ hl.1 hK hP hD hS 7 1 rfl rfl hbF 0 (pa h + i) n nI_0.symm rfl rfl (by omega) (by omega) (Nat.le_of_ble_eq_true rfl) d_S_write_17 (fun H locs hP hD hS => ?_)
  have hP : va_P D classes (wSW cB cI a (va_cpy hd fb 0 (pa h + i) n) pa ps pr nx la fi en fr mn tp hd) H := hP
  have hD : va_D (inA (wSW cB cI a fb pa ps pr nx la fi en fr mn tp hd)) (wSW cB cI a (va_cpy hd fb 0 (pa h + i) n) pa ps pr nx la fi en fr mn tp hd) := hD
  exact rmV S hr hlocks () trivial hP hS d_S_write_20
set_option maxHeartbeats 4000000 in
theorem lp_S_resize {p : Program} {l : Launch} {e : Env} {s : State} {m : MethodId} {args : Array Value} {below : List Frame} {meth : Method} {c : Code} {D : va_G} {cB cI cZ : ClassId} {a : Nat → Nat} {Q : State → Prop} {A : Nat → Prop} {fb : Nat → Int32} {pa ps pr : Nat → Nat} {nx la : Nat → Int32} {fi en fr : Int32} {mn tp : Nat} {z h old : Nat} (hh : h < 32000) (hz : z ≤ 16384) (ho : old ≤ 16384) (hq : pa h + z ≤ 400000) (S : CallFix p m c b_S_resize 5 s args aw R_S) (hK : va_K D classes (TY cB cI cZ) s) (kx : ∀ (H : Heap) (locs : List Loc), va_P D classes (wS cB cI a (zf fb (pa h + old) (z - old)) pa ps pr nx la fi en fr mn tp) H → va_D A (wS cB cI a (zf fb (pa h + old) (z - old)) pa ps pr nx la fi en fr mn tp) → va_S A s.heap H locs → ∀ (ls : Array Slot), lv_has ls 5 [(0, .ref (a 0)), (1, .int (nI h)), (2, .int (nI z)), (3, .int (nI (old + (z - old))))] → W p l e (rmL 3) s m args below meth c H locs 0 0 Q (F0 m 104 ls [])) :
    ∀ (n j : Nat), j + n = z - old → ∀ (H : Heap) (locs : List Loc), va_P D classes (wS cB cI a (zf fb (pa h + old) j) pa ps pr nx la fi en fr mn tp) H → va_D A (wS cB cI a (zf fb (pa h + old) j) pa ps pr nx la fi en fr mn tp) → va_S A s.heap H locs → ∀ (ls : Array Slot), lv_has ls 5 [(0, .ref (a 0)), (1, .int (nI h)), (2, .int (nI z)), (3, .int (nI (old + j)))] → W p l e (rmL 3) s m args below meth c H locs 0 0 Q (F0 m 79 ls []) := by
  have hx := S.1
  have hb := S.2.1
  intro n
  induction n with
  | zero =>
    intro j hj H locs hP hD hS ls hl
    have e0 : j = z - old := by omega
    subst e0
    refine lv_iload_n hx hb d_S_resize_79 rfl (lv_at hl 3 rfl) ?_
    refine lv_iload_n hx hb d_S_resize_80 rfl (lv_at hl 2 rfl) ?_
    refine lv_icmp_ge (tgt := 104) hx hb d_S_resize_81 (by decide) (fun c1 => ?_) (fun c1 => ?_)
    · exact kx H locs hP hD hS ls hl
    · exact absurd (nI_le (by omega) (by omega)) c1
  | succ n ih =>
    intro j hj H locs hP hD hS ls hl
    refine lv_iload_n hx hb d_S_resize_79 rfl (lv_at hl 3 rfl) ?_
    refine lv_iload_n hx hb d_S_resize_80 rfl (lv_at hl 2 rfl) ?_
    refine lv_icmp_ge (tgt := 104) hx hb d_S_resize_81 (by decide) (fun c1 => ?_) (fun c1 => ?_)
    · exact absurd c1 (nI_ge (by omega) (by omega))
    · refine lv_aload_n hx hb d_S_resize_84 rfl (lv_at hl 0 rfl) ?_
      refine gf_S_bytes S hK hP 0 rfl rfl d_S_resize_85 ?_
      refine lv_aload_n hx hb d_S_resize_88 rfl (lv_at hl 0 rfl) ?_
      refine gf_S_at S hK hP 0 rfl rfl d_S_resize_89 ?_
      refine lv_iload_n hx hb d_S_resize_92 rfl (lv_at hl 1 rfl) ?_
      refine ldI S hK hP 2 rfl h rfl (by omega) (v := nI (pa h)) rfl d_S_resize_93 ?_
      refine lv_iload_n hx hb d_S_resize_94 rfl (lv_at hl 3 rfl) ?_
      refine lv_iadd hx hb d_S_resize_95 ?_
      refine tpE (y := nI (pa h + old + j)) (by rw [nI_add, Nat.add_assoc]) ?_
      refine lv_iconst (v := 0) hx hb d_S_resize_96 (by decide) ?_
      refine stB S hK hP hD hS 1 rfl (pa h + old + j) rfl (by omega) (g := zf fb (pa h + old) (j + 1)) (zf_up fb _ j) d_S_resize_97 (fun H locs hP hD hS => ?_)
      have hP : va_P D classes (wS cB cI a (zf fb (pa h + old) (j + 1)) pa ps pr nx la fi en fr mn tp) H := hP
      have hD : va_D A (wS cB cI a (zf fb (pa h + old) (j + 1)) pa ps pr nx la fi en fr mn tp) := hD
      refine lv_iinc (v := nI (old + (j + 1))) (lv' := [(3, .int (nI (old + (j + 1)))), (0, .ref (a 0)), (1, .int (nI h)), (2, .int (nI z))]) hx hb d_S_resize_98 hl (k := 3) rfl (nI_1 _) (by decide) rfl (fun ls hl => ?_)
      refine lv_goto (tgt := 79) hx hb d_S_resize_101 (by decide) ?_
      exact ih (j + 1) (by omega) H locs hP hD hS ls (lv_sub hl [1, 2, 3, 0] rfl)
set_option maxHeartbeats 4000000 in
theorem tl_S_resize {p : Program} {l : Launch} {e : Env} {s : State} {m : MethodId} {args : Array Value} {below : List Frame} {meth : Method} {c : Code} {D : va_G} {cB cI cZ : ClassId} {a : Nat → Nat} {wc : va_W} {fb : Nat → Int32} {pa ps pr : Nat → Nat} {nx la : Nat → Int32} {fi en fr : Int32} {mn tp : Nat} {L L' bk : List Nat} {M : Nat → Nat} {ct : Nat → Nat → Int32} {z h : Nat} (hk : RepS L' bk M ct fb pa ps pr nx la fi en fr mn tp) (hh : h ∈ L') (hm1 : ∀ x, x ∈ L' ↔ x ∈ L) (hm2 : ∀ f, lsum f L' = lsum f L) (hz : z ≤ 16384) (hzr : z ≤ pr h) (S : CallFix p m c b_S_resize 5 s args aw R_S) (hK : va_K D classes (TY cB cI cZ) s) (hr : meth.sig.returnType = none) (hlocks : meth.locks = false) :
    ∀ (H : Heap) (locs : List Loc), va_P D classes (wS cB cI a fb pa ps pr nx la fi en fr mn tp) H → va_D (inA wc) (wS cB cI a fb pa ps pr nx la fi en fr mn tp) → va_S (inA wc) s.heap H locs → ∀ (ls : Array Slot), lv_has ls 5 [(0, .ref (a 0)), (1, .int (nI h)), (2, .int (nI z))] → W p l e (rmL 3) s m args below meth c H locs 0 0 (MQ below (Qmv D (fun (u : Sh) => u.2.2.2.2.2.2.2.2.2.1 = mn ∧ ∃ L1, RepU L1 bk (va_up M h z) (rsC ct h (M h)) u ∧ (∀ x, x ∈ L1 ↔ x ∈ L) ∧ ∀ f, lsum f L1 = lsum f L) (wSu cB cI a) wc) args s 0 0 (inA wc)) (F0 m 72 ls []) := by
  have hx := S.1
  have hb := S.2.1
  obtain ⟨h1, h2, h3, h4, h5, h6, h7, h8⟩ := RepS_row hk hh
  intro H locs hP hD hS ls hl
  refine lv_aload_n hx hb d_S_resize_72 rfl (lv_at hl 0 rfl) ?_
  refine gf_S_size S hK hP 0 rfl rfl d_S_resize_73 ?_
  refine lv_iload_n hx hb d_S_resize_76 rfl (lv_at hl 1 rfl) ?_
  refine ldI S hK hP 3 rfl h rfl (by omega) (v := nI (M h)) (by show nI (ps h) = _; rw [h2]) d_S_resize_77 ?_
  refine lv_istore_n (lv' := [(3, .int (nI (M h))), (0, .ref (a 0)), (1, .int (nI h)), (2, .int (nI z))]) hx hb d_S_resize_78 rfl hl (by decide) rfl (fun ls hl => ?_)
  refine lp_S_resize (pa := pa) h1 hz h3 (by omega) S hK (fun H locs hP hD hS ls hl => ?_) (z - M h) 0 (by omega) H locs (by rw [zf_0]; exact hP) (by rw [zf_0]; exact hD) hS ls (lv_sub hl [1, 2, 3, 0] rfl)
  refine lv_aload_n hx hb d_S_resize_104 rfl (lv_at hl 0 rfl) ?_
  refine gf_S_size S hK hP 0 rfl rfl d_S_resize_105 ?_
  refine lv_iload_n hx hb d_S_resize_108 rfl (lv_at hl 1 rfl) ?_
  refine lv_iload_n hx hb d_S_resize_109 rfl (lv_at hl 2 rfl) ?_
  refine stI S hK hP hD hS 3 rfl h rfl (by omega) (g := nF (va_up ps h z)) (nF_up _ _ _) d_S_resize_110 (fun H locs hP hD hS => ?_)
  have hP : va_P D classes (wS cB cI a (zf fb (pa h + M h) (z - M h)) pa (va_up ps h z) pr nx la fi en fr mn tp) H := hP
  have hD : va_D (inA wc) (wS cB cI a (zf fb (pa h + M h) (z - M h)) pa (va_up ps h z) pr nx la fi en fr mn tp) := hD
  exact rmV S hr hlocks (zf fb (pa h + M h) (z - M h), pa, va_up ps h z, pr, nx, la, fi, en, fr, mn, tp) ⟨rfl, L', RepS_size hk hh hz hzr, hm1, hm2⟩ hP hS d_S_resize_111
set_option maxHeartbeats 4000000 in
/-- Shelf.resize -/
theorem c_S_resize (l : Launch) (D : va_G) (cB cI cZ : ClassId) (a : Nat → Nat) (fb : Nat → Int32) (pa ps pr : Nat → Nat) (nx la : Nat → Int32) (fi en fr : Int32) (mn tp : Nat) (L bk : List Nat) (M : Nat → Nat) (ct : Nat → Nat → Int32) (h z : Nat) (hk : RepS L bk M ct fb pa ps pr nx la fi en fr mn tp) (hh : h ∈ L) (hz : z ≤ 16384) (hr0 : pr h < z → lsum (fun h => rnd (M h)) L + rnd z ≤ 400000) : Met l y_S_resize w_S_resize (rmL 3) (va_Pc [.ref (a 0), .int (nI h), .int (nI z)] (Wd D cB cI cZ (wS cB cI a fb pa ps pr nx la fi en fr mn tp))) (Qmv D (fun (u : Sh) => u.2.2.2.2.2.2.2.2.2.1 = mn ∧ ∃ L1, RepU L1 bk (va_up M h z) (rsC ct h (M h)) u ∧ (∀ x, x ∈ L1 ↔ x ∈ L) ∧ ∀ f, lsum f L1 = lsum f L) (wSu cB cI a) (wS cB cI a fb pa ps pr nx la fi en fr mn tp)) 0 0 (inA (wS cB cI a fb pa ps pr nx la fi en fr mn tp)) := by
  refine entry (by decide) (Nat.le_of_ble_eq_true rfl) ?_
  intro p e s m args below meth c S hr hlocks hin hPre ls hl
  have hx := S.1
  have hb := S.2.1
  have hl : lv_has ls 5 [(0, .ref (a 0)), (1, .int (nI h)), (2, .int (nI z))] := hl
  obtain ⟨hP, hK, hD⟩ := hPre
  have hD := inA_self hD
  have hS : va_S (inA (wS cB cI a fb pa ps pr nx la fi en fr mn tp)) s.heap s.heap [] := va_S.rf
  obtain ⟨h1, h2, h3, h4, h5, h6, h7, h8⟩ := RepS_row hk hh
  refine lv_iload_n hx hb d_S_resize_0 rfl (lv_at hl 2 rfl) ?_
  refine lv_aload_n hx hb d_S_resize_1 rfl (lv_at hl 0 rfl) ?_
  refine gf_S_room S hK hP 0 rfl rfl d_S_resize_2 ?_
  refine lv_iload_n hx hb d_S_resize_5 rfl (lv_at hl 1 rfl) ?_
  refine ldI S hK hP 4 rfl h rfl (by omega) (v := nI (pr h)) rfl d_S_resize_6 ?_
  refine lv_icmp_le (tgt := 72) hx hb d_S_resize_7 (by decide) (fun c1 => ?_) (fun c1 => ?_)
  · have hle : z ≤ pr h := (nI_leI (by omega) (by omega)).mp c1
    exact tl_S_resize hk hh (fun x => Iff.rfl) (fun f => rfl) hz hle S hK hr hlocks _ _ hP hD hS ls (lv_sub hl [0, 1, 2] rfl)
  · have hlt : pr h < z := Nat.lt_of_not_le (fun q => c1 (nI_le q (by omega)))
    have hr1 := hr0 hlt
    refine lv_iload_n hx hb d_S_resize_10 rfl (lv_at hl 2 rfl) ?_
    refine cpS (As := [.int (nI z)]) (rest := []) S (c_S_rounded l z (by omega)) (cw_S_42 S.2.2.2.2 ⟨by decide, by decide⟩) hP hS rfl hl.1 rfl (Nat.le_of_ble_eq_true rfl) d_S_resize_11 ⟨by decide, by decide⟩ (fun H locs hP hS => ?_)
    refine lv_istore_n (lv' := [(3, .int (nI (rnd z))), (0, .ref (a 0)), (1, .int (nI h)), (2, .int (nI z))]) hx hb d_S_resize_14 rfl hl (by decide) rfl (fun ls hl => ?_)
    refine lv_aload_n hx hb d_S_resize_15 rfl (lv_at hl 1 rfl) ?_
    refine lv_iload_n hx hb d_S_resize_16 rfl (lv_at hl 0 rfl) ?_
    refine cmI (As := [.int (nI (rnd z))]) (rest := []) (wr := []) S (c_S_place l D cB cI cZ a fb pa ps pr nx la fi en fr mn tp L bk M ct (rnd z) hk hr1) (cw_S_58 S.2.2.2.2 ⟨by decide, by decide⟩) hK hP hD hS [0, 1, 2, 3, 4, 5, 6] [] rfl rfl rfl (by decide) rfl rfl rfl hl.1 rfl (Nat.le_of_ble_eq_true rfl) d_S_resize_17 ⟨by decide, by decide⟩ (fun r u H locs hu hP hS => ?_)
    obtain ⟨fb1, pa1, pr1, q⟩ := u
    obtain ⟨hu1, hu2, hk1⟩ := hu
    have hP : va_P D classes (wS cB cI a fb1 pa1 ps pr1 nx la fi en fr mn (q + rnd z)) H := hP.sub [0, 1, 2, 3, 4, 5, 6] rfl
    have hD : va_D (inA (wS cB cI a fb pa ps pr nx la fi en fr mn tp)) (wS cB cI a fb1 pa1 ps pr1 nx la fi en fr mn (q + rnd z)) := dA hD rfl
    subst hu1
    dsimp only at hu2 hk1
    obtain ⟨g1, g2, g3, g4, g5, g6, g7, g8⟩ := RepS_row hk1 hh
    have hzz := rnd_le z
    refine lv_istore (lv' := [(4, .int (nI q)), (3, .int (nI (rnd z))), (0, .ref (a 0)), (1, .int (nI h)), (2, .int (nI z))]) hx hb d_S_resize_20 hl (by decide) rfl (fun ls hl => ?_)
    refine lv_aload_n hx hb d_S_resize_22 rfl (lv_at hl 2 rfl) ?_
    refine gf_S_bytes S hK hP 0 rfl rfl d_S_resize_23 ?_
    refine lv_aload_n hx hb d_S_resize_26 rfl (lv_at hl 2 rfl) ?_
    refine gf_S_at S hK hP 0 rfl rfl d_S_resize_27 ?_
    refine lv_iload_n hx hb d_S_resize_30 rfl (lv_at hl 3 rfl) ?_
    refine ldI S hK hP 2 rfl h rfl (by omega) (v := nI (pa1 h)) rfl d_S_resize_31 ?_
    refine lv_aload_n hx hb d_S_resize_32 rfl (lv_at hl 2 rfl) ?_
    refine gf_S_bytes S hK hP 0 rfl rfl d_S_resize_33 ?_
    refine lv_iload hx hb d_S_resize_36 (lv_at hl 0 rfl) ?_
    refine lv_aload_n hx hb d_S_resize_38 rfl (lv_at hl 2 rfl) ?_
    refine gf_S_size S hK hP 0 rfl rfl d_S_resize_39 ?_
    refine lv_iload_n hx hb d_S_resize_42 rfl (lv_at hl 3 rfl) ?_
    refine ldI S hK hP 3 rfl h rfl (by omega) (v := nI (M h)) (by show nI (ps h) = _; rw [h2]) d_S_resize_43 ?_
    refine cpyB S ⟨by decide, by decide⟩ hl.1 hK hP hD hS 1 1 rfl rfl hk1.2.2.2.2.2 (pa1 h) q (M h) rfl rfl rfl (by omega) (by omega) (Nat.le_of_ble_eq_true rfl) d_S_resize_44 (fun H locs hP hD hS => ?_)
    have hP : va_P D classes (wS cB cI a (va_cpy fb1 fb1 (pa1 h) q (M h)) pa1 ps pr1 nx la fi en fr mn (q + rnd z)) H := hP
    have hD : va_D (inA (wS cB cI a fb pa ps pr nx la fi en fr mn tp)) (wS cB cI a (va_cpy fb1 fb1 (pa1 h) q (M h)) pa1 ps pr1 nx la fi en fr mn (q + rnd z)) := hD
    refine lv_aload_n hx hb d_S_resize_47 rfl (lv_at hl 2 rfl) ?_
    refine lv_iload_n hx hb d_S_resize_48 rfl (lv_at hl 3 rfl) ?_
    obtain ⟨L1, L2, rfl⟩ := RepS_mem hk hh
    have hn0 := Lk_cut hk1.1
    refine cmV (As := [.int (nI h)]) (rest := []) (wr := []) S (c_S_leave l D cB cI cZ a (va_cpy fb1 fb1 (pa1 h) q (M h)) pa1 ps pr1 nx la fi en fr mn (q + rnd z) h L1 L2 hk1.1) (cw_S_71 S.2.2.2.2 ⟨by decide, by decide⟩) hK hP hD hS [0, 1, 2, 3, 4, 5, 6] [] rfl rfl rfl (by decide) rfl rfl rfl hl.1 rfl (Nat.le_of_ble_eq_true rfl) d_S_resize_49 ⟨by decide, by decide⟩ (fun u H locs hv hP hS => ?_)
    obtain ⟨nx1, la1, fi1, en1⟩ := u
    have hP : va_P D classes (wS cB cI a (va_cpy fb1 fb1 (pa1 h) q (M h)) pa1 ps pr1 nx1 la1 fi1 en1 fr mn (q + rnd z)) H := hP.sub [0, 1, 2, 3, 4, 5, 6] rfl
    have hD : va_D (inA (wS cB cI a fb pa ps pr nx la fi en fr mn tp)) (wS cB cI a (va_cpy fb1 fb1 (pa1 h) q (M h)) pa1 ps pr1 nx1 la1 fi1 en1 fr mn (q + rnd z)) := dA hD rfl
    have hnm : h ∉ L1 ++ L2 := fun w => (List.mem_append.mp w).elim hn0.2.2.2.2.2.2.1 hn0.2.2.2.2.2.2.2.1
    refine lv_aload_n hx hb d_S_resize_52 rfl (lv_at hl 2 rfl) ?_
    refine lv_iload_n hx hb d_S_resize_53 rfl (lv_at hl 3 rfl) ?_
    refine cmV (As := [.int (nI h)]) (rest := []) (wr := []) S (c_S_append l D cB cI cZ a (va_cpy fb1 fb1 (pa1 h) q (M h)) pa1 ps pr1 nx1 la1 fi1 en1 fr mn (q + rnd z) h (L1 ++ L2) h1 hnm hv.1) (cw_S_64 S.2.2.2.2 ⟨by decide, by decide⟩) hK hP hD hS [0, 1, 2, 3, 4, 5, 6] [] rfl rfl rfl (by decide) rfl rfl rfl hl.1 rfl (Nat.le_of_ble_eq_true rfl) d_S_resize_54 ⟨by decide, by decide⟩ (fun u H locs hw hP hS => ?_)
    obtain ⟨nx2, la2, fi2⟩ := u
    have hP : va_P D classes (wS cB cI a (va_cpy fb1 fb1 (pa1 h) q (M h)) pa1 ps pr1 nx2 la2 fi2 (nI h) fr mn (q + rnd z)) H := hP.sub [0, 1, 2, 3, 4, 5, 6] rfl
    have hD : va_D (inA (wS cB cI a fb pa ps pr nx la fi en fr mn tp)) (wS cB cI a (va_cpy fb1 fb1 (pa1 h) q (M h)) pa1 ps pr1 nx2 la2 fi2 (nI h) fr mn (q + rnd z)) := dA hD rfl
    refine lv_aload_n hx hb d_S_resize_57 rfl (lv_at hl 2 rfl) ?_
    refine gf_S_at S hK hP 0 rfl rfl d_S_resize_58 ?_
    refine lv_iload_n hx hb d_S_resize_61 rfl (lv_at hl 3 rfl) ?_
    refine lv_iload hx hb d_S_resize_62 (lv_at hl 0 rfl) ?_
    refine stI S hK hP hD hS 2 rfl h rfl (by omega) (g := nF (va_up pa1 h q)) (nF_up _ _ _) d_S_resize_64 (fun H locs hP hD hS => ?_)
    have hP : va_P D classes (wS cB cI a (va_cpy fb1 fb1 (pa1 h) q (M h)) (va_up pa1 h q) ps pr1 nx2 la2 fi2 (nI h) fr mn (q + rnd z)) H := hP
    have hD : va_D (inA (wS cB cI a fb pa ps pr nx la fi en fr mn tp)) (wS cB cI a (va_cpy fb1 fb1 (pa1 h) q (M h)) (va_up pa1 h q) ps pr1 nx2 la2 fi2 (nI h) fr mn (q + rnd z)) := hD
    refine lv_aload_n hx hb d_S_resize_65 rfl (lv_at hl 2 rfl) ?_
    refine gf_S_room S hK hP 0 rfl rfl d_S_resize_66 ?_
    refine lv_iload_n hx hb d_S_resize_69 rfl (lv_at hl 3 rfl) ?_
    refine lv_iload_n hx hb d_S_resize_70 rfl (lv_at hl 1 rfl) ?_
    refine stI S hK hP hD hS 4 rfl h rfl (by omega) (g := nF (va_up pr1 h (rnd z))) (nF_up _ _ _) d_S_resize_71 (fun H locs hP hD hS => ?_)
    have hP : va_P D classes (wS cB cI a (va_cpy fb1 fb1 (pa1 h) q (M h)) (va_up pa1 h q) ps (va_up pr1 h (rnd z)) nx2 la2 fi2 (nI h) fr mn (q + rnd z)) H := hP
    have hD : va_D (inA (wS cB cI a fb pa ps pr nx la fi en fr mn tp)) (wS cB cI a (va_cpy fb1 fb1 (pa1 h) q (M h)) (va_up pa1 h q) ps (va_up pr1 h (rnd z)) nx2 la2 fi2 (nI h) fr mn (q + rnd z)) := hD
    have hx2 : ∀ x, x ∉ L1 ++ h :: L2 → nx2 x = nx x := fun x hx => (hw.2 x (fun w => hx ((List.mem_append.mp w).elim (fun w => List.mem_append_left _ w) (fun w => List.mem_append_right _ (List.mem_cons_of_mem _ w)))) (fun w => hx (by rw [w]; exact List.mem_append_right _ List.mem_cons_self))).trans (hv.2 x hx)
    have hk2 := RepS_move hk1 hu2 rfl (by omega) hw.1 hx2
    exact tl_S_resize hk2 (List.mem_append_right _ (List.mem_singleton.mpr rfl)) (fun x => by simp [or_comm, or_left_comm]) (fun f => by simp only [lsum_app, lsum]; omega) hz (by rw [va_up_self]; exact rnd_le z) S hK hr hlocks _ _ hP hD hS ls (lv_sub hl [2, 3, 4] rfl)
end
section
/-- Integer.signum -/
def sgn (x : Int32) : Int32 := if x < 0 then -1 else if x = 0 then 0 else 1
theorem sgn_eq (x : Int32) : (x >>> ((nI 31) &&& 31)) ||| ((-x).toUInt32 >>> ((nI 31).toUInt32 &&& Int32.toUInt32 31)).toInt32 = sgn x := by
  by_cases h : x < 0
  · have e : x >>> ((nI 31) &&& 31) = -1 := by
      apply Int32.toInt_inj.mp
      rw [pk_shr x ((nI 31) &&& 31) 31 (by decide)]
      have h0 : x.toInt < 0 := by simpa using Int32.lt_iff_toInt_lt.mp h
      have h1 := Int32.le_toInt x
      rw [Int.shiftRight_eq_div_pow]
      show x.toInt / 2147483648 = -1
      omega
    rw [e]
    unfold sgn
    rw [if_pos h]
    apply Int32.toBitVec_inj.mp
    rw [Int32.toBitVec_or]
    exact BitVec.allOnes_or
  · obtain ⟨j, hj, rfl⟩ := nI_of h
    have e : nI j >>> ((nI 31) &&& 31) = 0 := by
      rw [pk_shrN hj ((nI 31) &&& 31) 31 (by decide), Nat.div_eq_of_lt hj]
      exact nI_0
    rw [e]
    unfold sgn
    rw [if_neg h]
    by_cases h0 : j = 0
    · subst h0
      decide
    · rw [if_neg (nI_ne0 (by omega) hj)]
      have hz : ∀ y : Int32, 0 ||| y = y := fun y => by
        apply Int32.toBitVec_inj.mp
        rw [Int32.toBitVec_or]
        exact BitVec.zero_or
      rw [hz]
      apply Int32.toBitVec_inj.mp
      apply BitVec.eq_of_toNat_eq
      rw [pk_ushr (-nI j) (nI 31) 31 (by decide), Int32.toBitVec_neg, BitVec.toNat_neg, pk_tn (by omega), Nat.mod_eq_of_lt (by omega)]
      show (4294967296 - j) / 2147483648 = 1
      omega
set_option maxHeartbeats 4000000 in
/-- Integer.signum -/
theorem c_I_signum (l : Launch) (x : Int32) : Met l y_I_signum w_I_signum (rmL 0) (va_Pc [.int x] (fun _ => True)) (Qi (sgn x)) 0 0 NoA := by
  refine entry (by decide) (Nat.le_of_ble_eq_true rfl) ?_
  intro p e s m args below meth c S hr hlocks hin hPre ls hl
  have hx := S.1
  have hb := S.2.1
  have hl : lv_has ls 1 [(0, .int x)] := hl
  have hS : va_S NoA s.heap s.heap [] := va_S.rf
  refine lv_iload_n hx hb d_I_signum_0 rfl (lv_at hl 0 rfl) ?_
  refine lv_bipush (v := nI 31) hx hb d_I_signum_1 (by decide) ?_
  refine lv_ishr hx hb d_I_signum_3 ?_
  refine lv_iload_n hx hb d_I_signum_4 rfl (lv_at hl 0 rfl) ?_
  refine lv_ineg hx hb d_I_signum_5 ?_
  refine lv_bipush (v := nI 31) hx hb d_I_signum_6 (by decide) ?_
  refine lv_iushr hx hb d_I_signum_8 rfl ?_
  refine lv_ior hx hb d_I_signum_9 ?_
  exact rtI S hr hlocks hS (sgn_eq x) d_I_signum_10
theorem mn_eq {x y : Nat} (hx : x < 2 ^ 31) (hy : y < 2 ^ 31) : (if nI y < nI x then nI y else nI x) = nI (min x y) := by
  by_cases h : y < x
  · rw [if_pos (nI_lt h hx), Nat.min_eq_right (by omega)]
  · rw [if_neg (nI_nlt (by omega) hy), Nat.min_eq_left (by omega)]
/-- the first difference of two rows of bytes from place i on, k places; e if there is none -/
def cm (f g : Nat → Int32) (e : Int32) : Nat → Nat → Int32
  | 0, _ => e
  | k + 1, i => if f i &&& 255 = g i &&& 255 then cm f g e k (i + 1) else (f i &&& 255) - (g i &&& 255)
set_option maxHeartbeats 4000000 in
theorem lp_S_compare {p : Program} {l : Launch} {e : Env} {s : State} {m : MethodId} {args : Array Value} {below : List Frame} {meth : Method} {c : Code} {D : va_G} {cB cI cZ : ClassId} {a : Nat → Nat} {fb : Nat → Int32} {pa ps pr : Nat → Nat} {nx la : Nat → Int32} {fi en fr : Int32} {mn tp : Nat} {L bk : List Nat} {M : Nat → Nat} {ct : Nat → Nat → Int32} {h o k : Nat} {v : Int32} (hk : RepS L bk M ct fb pa ps pr nx la fi en fr mn tp) (hh : h ∈ L) (ho : o ∈ L) (ek : k = min (M h) (M o)) (S : CallFix p m c b_S_compare 5 s args aw R_S) (hK : va_K D classes (TY cB cI cZ) s) (hr : meth.sig.returnType = some .int) (hlocks : meth.locks = false) :
    ∀ (n i : Nat), i + n = k → cm (ct h) (ct o) (nI (M h) - nI (M o)) n i = v → ∀ (H : Heap) (locs : List Loc), va_P D classes (wS cB cI a fb pa ps pr nx la fi en fr mn tp) H → va_D (fun _ => True) (wS cB cI a fb pa ps pr nx la fi en fr mn tp) → va_S NoA s.heap H locs → ∀ (ls : Array Slot), lv_has ls 5 [(0, .ref (a 0)), (1, .int (nI h)), (2, .int (nI o)), (3, .int (nI k)), (4, .int (nI i))] → W p l e (rmL 1) s m args below meth c H locs 0 0 (MQ below (Qi v) args s 0 0 NoA) (F0 m 19 ls []) := by
  have hx := S.1
  have hb := S.2.1
  obtain ⟨h1, h2, h3, h4, h5, h6, h7, h8⟩ := RepS_row hk hh
  obtain ⟨o1, o2, o3, o4, o5, o6, o7, o8⟩ := RepS_row hk ho
  have em1 : k ≤ M h := by omega
  have em2 : k ≤ M o := by omega
  intro n
  induction n with
  | zero =>
    intro i hi hv H locs hP hD hS ls hl
    have e0 : i = k := by omega
    subst e0
    refine lv_iload hx hb d_S_compare_19 (lv_at hl 4 rfl) ?_
    refine lv_iload_n hx hb d_S_compare_21 rfl (lv_at hl 3 rfl) ?_
    refine lv_icmp_ge (tgt := 64) hx hb d_S_compare_22 (by decide) (fun c1 => ?_) (fun c1 => ?_)
    · refine lv_aload_n hx hb d_S_compare_64 rfl (lv_at hl 0 rfl) ?_
      refine gf_S_size S hK hP 0 rfl rfl d_S_compare_65 ?_
      refine lv_iload_n hx hb d_S_compare_68 rfl (lv_at hl 1 rfl) ?_
      refine ldI S hK hP 3 rfl h rfl (by omega) (v := nI (M h)) (by show nI (ps h) = _; rw [h2]) d_S_compare_69 ?_
      refine lv_aload_n hx hb d_S_compare_70 rfl (lv_at hl 0 rfl) ?_
      refine gf_S_size S hK hP 0 rfl rfl d_S_compare_71 ?_
      refine lv_iload_n hx hb d_S_compare_74 rfl (lv_at hl 2 rfl) ?_
      refine ldI S hK hP 3 rfl o rfl (by omega) (v := nI (M o)) (by show nI (ps o) = _; rw [o2]) d_S_compare_75 ?_
      refine lv_isub hx hb d_S_compare_76 ?_
      exact rtI S hr hlocks hS hv d_S_compare_77
    · exact absurd (nI_le (Nat.le_refl i) (by omega)) c1
  | succ n ih =>
    intro i hi hv H locs hP hD hS ls hl
    have hv0 : (if ct h i &&& 255 = ct o i &&& 255 then cm (ct h) (ct o) (nI (M h) - nI (M o)) n (i + 1) else (ct h i &&& 255) - (ct o i &&& 255)) = v := hv
    refine lv_iload hx hb d_S_compare_19 (lv_at hl 4 rfl) ?_
    refine lv_iload_n hx hb d_S_compare_21 rfl (lv_at hl 3 rfl) ?_
    refine lv_icmp_ge (tgt := 64) hx hb d_S_compare_22 (by decide) (fun c1 => ?_) (fun c1 => ?_)
    · exact absurd c1 (nI_ge (by omega) (by omega))
    · refine lv_aload_n hx hb d_S_compare_25 rfl (lv_at hl 0 rfl) ?_
      refine lv_iload_n hx hb d_S_compare_26 rfl (lv_at hl 1 rfl) ?_
      refine lv_iload hx hb d_S_compare_27 (lv_at hl 4 rfl) ?_
      refine cpV (As := [.int (nI h), .int (nI i)]) (rest := []) S (c_S_get l D cB cI cZ a fb pa ps pr nx la fi en fr mn tp h i h1 (by omega)) (cw_S_80 S.2.2.2.2 ⟨by decide, by decide⟩) hK hP hD hS [0, 1, 2, 3, 4, 5, 6] rfl rfl rfl rfl rfl hl.1 rfl (Nat.le_of_ble_eq_true rfl) d_S_compare_29 ⟨by decide, by decide⟩ (fun H locs hP hS => ?_)
      refine tpE (y := ct h i &&& 255) (by rw [h8 i (by omega)]) ?_
      refine lv_aload_n hx hb d_S_compare_32 rfl (lv_at hl 0 rfl) ?_
      refine lv_iload_n hx hb d_S_compare_33 rfl (lv_at hl 2 rfl) ?_
      refine lv_iload hx hb d_S_compare_34 (lv_at hl 4 rfl) ?_
      refine cpV (As := [.int (nI o), .int (nI i)]) (rest := [.int (ct h i &&& 255)]) S (c_S_get l D cB cI cZ a fb pa ps pr nx la fi en fr mn tp o i o1 (by omega)) (cw_S_80 S.2.2.2.2 ⟨by decide, by decide⟩) hK hP hD hS [0, 1, 2, 3, 4, 5, 6] rfl rfl rfl rfl rfl hl.1 rfl (Nat.le_of_ble_eq_true rfl) d_S_compare_36 ⟨by decide, by decide⟩ (fun H locs hP hS => ?_)
      refine tpE (y := ct o i &&& 255) (by rw [o8 i (by omega)]) ?_
      refine lv_icmp_eq (tgt := 58) hx hb d_S_compare_39 (by decide) (fun c2 => ?_) (fun c2 => ?_)
      · refine lv_iinc (v := nI (i + 1)) (lv' := [(4, .int (nI (i + 1))), (0, .ref (a 0)), (1, .int (nI h)), (2, .int (nI o)), (3, .int (nI k))]) hx hb d_S_compare_58 hl (k := 4) rfl (nI_1 i) (by decide) rfl (fun ls hl => ?_)
        refine lv_goto (tgt := 19) hx hb d_S_compare_61 (by decide) ?_
        exact ih (i + 1) (by omega) (by rw [if_pos c2] at hv0; exact hv0) H locs hP hD hS ls (lv_sub hl [1, 2, 3, 4, 0] rfl)
      · refine lv_aload_n hx hb d_S_compare_42 rfl (lv_at hl 0 rfl) ?_
        refine lv_iload_n hx hb d_S_compare_43 rfl (lv_at hl 1 rfl) ?_
        refine lv_iload hx hb d_S_compare_44 (lv_at hl 4 rfl) ?_
        refine cpV (As := [.int (nI h), .int (nI i)]) (rest := []) S (c_S_get l D cB cI cZ a fb pa ps pr nx la fi en fr mn tp h i h1 (by omega)) (cw_S_80 S.2.2.2.2 ⟨by decide, by decide⟩) hK hP hD hS [0, 1, 2, 3, 4, 5, 6] rfl rfl rfl rfl rfl hl.1 rfl (Nat.le_of_ble_eq_true rfl) d_S_compare_46 ⟨by decide, by decide⟩ (fun H locs hP hS => ?_)
        refine tpE (y := ct h i &&& 255) (by rw [h8 i (by omega)]) ?_
        refine lv_aload_n hx hb d_S_compare_49 rfl (lv_at hl 0 rfl) ?_
        refine lv_iload_n hx hb d_S_compare_50 rfl (lv_at hl 2 rfl) ?_
        refine lv_iload hx hb d_S_compare_51 (lv_at hl 4 rfl) ?_
        refine cpV (As := [.int (nI o), .int (nI i)]) (rest := [.int (ct h i &&& 255)]) S (c_S_get l D cB cI cZ a fb pa ps pr nx la fi en fr mn tp o i o1 (by omega)) (cw_S_80 S.2.2.2.2 ⟨by decide, by decide⟩) hK hP hD hS [0, 1, 2, 3, 4, 5, 6] rfl rfl rfl rfl rfl hl.1 rfl (Nat.le_of_ble_eq_true rfl) d_S_compare_53 ⟨by decide, by decide⟩ (fun H locs hP hS => ?_)
        refine tpE (y := ct o i &&& 255) (by rw [o8 i (by omega)]) ?_
        refine lv_isub hx hb d_S_compare_56 ?_
        exact rtI S hr hlocks hS (by rw [if_neg c2] at hv0; exact hv0) d_S_compare_57
set_option maxHeartbeats 4000000 in
/-- Shelf.compare -/
theorem c_S_compare (l : Launch) (D : va_G) (cB cI cZ : ClassId) (a : Nat → Nat) (fb : Nat → Int32) (pa ps pr : Nat → Nat) (nx la : Nat → Int32) (fi en fr : Int32) (mn tp : Nat) (L bk : List Nat) (M : Nat → Nat) (ct : Nat → Nat → Int32) (h o : Nat) (hk : RepS L bk M ct fb pa ps pr nx la fi en fr mn tp) (hh : h ∈ L) (ho : o ∈ L) : Met l y_S_compare w_S_compare (rmL 1) (va_Pc [.ref (a 0), .int (nI h), .int (nI o)] (Wd D cB cI cZ (wS cB cI a fb pa ps pr nx la fi en fr mn tp))) (Qi (cm (ct h) (ct o) (nI (M h) - nI (M o)) (min (M h) (M o)) 0)) 0 0 NoA := by
  refine entry (by decide) (Nat.le_of_ble_eq_true rfl) ?_
  intro p e s m args below meth c S hr hlocks hin hPre ls hl
  have hx := S.1
  have hb := S.2.1
  have hl : lv_has ls 5 [(0, .ref (a 0)), (1, .int (nI h)), (2, .int (nI o))] := hl
  obtain ⟨hP, hK, hD⟩ := hPre
  have hS : va_S NoA s.heap s.heap [] := va_S.rf
  obtain ⟨h1, h2, h3, h4, h5, h6, h7, h8⟩ := RepS_row hk hh
  obtain ⟨o1, o2, o3, o4, o5, o6, o7, o8⟩ := RepS_row hk ho
  refine lv_aload_n hx hb d_S_compare_0 rfl (lv_at hl 0 rfl) ?_
  refine gf_S_size S hK hP 0 rfl rfl d_S_compare_1 ?_
  refine lv_iload_n hx hb d_S_compare_4 rfl (lv_at hl 1 rfl) ?_
  refine ldI S hK hP 3 rfl h rfl (by omega) (v := nI (M h)) (by show nI (ps h) = _; rw [h2]) d_S_compare_5 ?_
  refine lv_aload_n hx hb d_S_compare_6 rfl (lv_at hl 0 rfl) ?_
  refine gf_S_size S hK hP 0 rfl rfl d_S_compare_7 ?_
  refine lv_iload_n hx hb d_S_compare_10 rfl (lv_at hl 2 rfl) ?_
  refine ldI S hK hP 3 rfl o rfl (by omega) (v := nI (M o)) (by show nI (ps o) = _; rw [o2]) d_S_compare_11 ?_
  refine va_mmin hx hb (by rw [S.2.2.1]; exact hl.1.symm) S.2.2.2.1 (S.2.2.2.2 _ k_ml_S_74) (S.2.2.2.2 _ k_st_H_min) (S.2.2.2.2 _ k_ini_H) (S.2.2.2.2 _ k_co_H_min) (by decide) (Nat.le_of_ble_eq_true rfl) (by decide) (by decide) d_S_compare_12 ?_
  refine tpE (y := nI (min (M h) (M o))) (mn_eq (by omega) (by omega)) ?_
  refine lv_istore_n (lv' := [(3, .int (nI (min (M h) (M o)))), (0, .ref (a 0)), (1, .int (nI h)), (2, .int (nI o))]) hx hb d_S_compare_15 rfl hl (by decide) rfl (fun ls hl => ?_)
  refine lv_iconst (v := (nI 0)) hx hb d_S_compare_16 (by decide) ?_
  refine lv_istore (lv' := [(4, .int (nI 0)), (3, .int (nI (min (M h) (M o)))), (0, .ref (a 0)), (1, .int (nI h)), (2, .int (nI o))]) hx hb d_S_compare_17 hl (by decide) rfl (fun ls hl => ?_)
  exact lp_S_compare hk hh ho rfl S hK hr hlocks _ 0 (Nat.zero_add _) rfl _ _ hP hD hS ls (lv_sub hl [2, 3, 4, 1, 0] rfl)
end
section
/-! What both classes are held to: a state x = (how many numbers, the free ones, which rows are there, their sizes, their bytes, the places), each call's answer (..R) and the state behind it (..S) -/
abbrev Ab : Type := Nat × List Nat × (Nat → Bool) × (Nat → Nat) × (Nat → Nat → Int32) × Nat
def zb (b : Bool) : Int32 := if b then 1 else 0
theorem zb_nar (b : Bool) : narrow .boolean (.int (zb b)) = .int (zb b) := by cases b <;> rfl
theorem zb_0 {b : Bool} (h : zb b = 0) : b = false := by cases b with | false => rfl | true => exact absurd h (by decide)
theorem zb_1 {b : Bool} (h : ¬ zb b = 0) : b = true := by cases b with | true => rfl | false => exact absurd rfl h
def sizeN (p : Int32) : Option Nat := if p < 0 then none else if nI 16384 < p then none else some p.toNatClampNeg
def rowN (th : Nat → Bool) (p : Int32) : Option Nat := if p < 0 then none else if th p.toNatClampNeg = true then some p.toNatClampNeg else none
theorem sizeN_neg {p : Int32} (h : p < 0) : sizeN p = none := if_pos h
theorem sizeN_big {p : Int32} (h : nI 16384 < p) : sizeN p = none := by
  unfold sizeN
  by_cases h1 : p < 0
  · rw [if_pos h1]
  · rw [if_neg h1, if_pos h]
theorem sizeN_nI {z : Nat} (h : z ≤ 16384) : sizeN (nI z) = some z := by
  unfold sizeN
  rw [if_neg (nI_pos (by omega)), if_neg (nI_nlt h (by omega)), nI_clamp (by omega)]
theorem sizeN_in {p : Int32} (h1 : ¬ p < 0) (h2 : ¬ nI 16384 < p) : ∃ z : Nat, z ≤ 16384 ∧ p = nI z := nI_of2 (M := nI 16384) (by decide) h1 (Int32.not_lt.mp h2)
theorem sizeN_some {p : Int32} (h : (sizeN p).isSome = true) : ∃ z : Nat, z ≤ 16384 ∧ p = nI z ∧ sizeN p = some z := by
  by_cases h1 : p < 0
  · rw [sizeN_neg h1] at h; cases h
  · by_cases h2 : nI 16384 < p
    · rw [sizeN_big h2] at h; cases h
    · obtain ⟨z, hz, rfl⟩ := sizeN_in h1 h2
      exact ⟨z, hz, rfl, sizeN_nI hz⟩
theorem rowN_neg {th : Nat → Bool} {p : Int32} (h : p < 0) : rowN th p = none := if_pos h
theorem rowN_nI {th : Nat → Bool} {h : Nat} (hh : h < 2 ^ 31) : rowN th (nI h) = if th h = true then some h else none := by
  unfold rowN
  rw [if_neg (nI_pos hh), nI_clamp hh]
theorem rowN_t {th : Nat → Bool} {h : Nat} (hh : h < 2 ^ 31) (ht : th h = true) : rowN th (nI h) = some h := by rw [rowN_nI hh, if_pos ht]
theorem rowN_f {th : Nat → Bool} {h : Nat} (hh : h < 2 ^ 31) (ht : th h = false) : rowN th (nI h) = none := by rw [rowN_nI hh, if_neg (by rw [ht]; decide)]
theorem isN {α : Type} {o : Option α} (h : o.isSome = false) : o = none := by cases o with | none => rfl | some v => cases h
theorem rowN_some {th : Nat → Bool} {p : Int32} (h : (rowN th p).isSome = true) : ∃ k : Nat, k < 2 ^ 31 ∧ p = nI k ∧ th k = true ∧ rowN th p = some k := by
  by_cases h1 : p < 0
  · rw [rowN_neg h1] at h; cases h
  · obtain ⟨k, hk, rfl⟩ := nI_of h1
    by_cases h2 : th k = true
    · exact ⟨k, hk, rfl, h2, rowN_t hk h2⟩
    · rw [rowN_nI hk, if_neg h2] at h; cases h
def tkF (x : Ab) (z : Nat) : Bool := decide (x.1 - x.2.1.length = 20000 ∨ 400000 < x.2.2.2.2.2 + rnd z)
def tkR (x : Ab) (p : Int32) : Int32 := match sizeN p with
  | none => -1
  | some z => if tkF x z then -2 else nI (tkH x.2.1 x.1)
def tkS (x : Ab) (p : Int32) : Ab := match sizeN p with
  | none => x
  | some z => if tkF x z then x else (tkN x.2.1 x.1, x.2.1.tail, va_up x.2.2.1 (tkH x.2.1 x.1) true, va_up x.2.2.2.1 (tkH x.2.1 x.1) z, va_up x.2.2.2.2.1 (tkH x.2.1 x.1) (fun _ => 0), x.2.2.2.2.2 + rnd z)
def gvR (x : Ab) (p : Int32) : Int32 := match rowN x.2.2.1 p with
  | none => 0
  | some _ => 1
def gvS (x : Ab) (p : Int32) : Ab := match rowN x.2.2.1 p with
  | none => x
  | some h => (x.1, h :: x.2.1, va_up x.2.2.1 h false, va_up x.2.2.2.1 h 0, x.2.2.2.2.1, x.2.2.2.2.2 - rnd (x.2.2.2.1 h))
/-- no room for z bytes in row h -/
def rsF (x : Ab) (h z : Nat) : Bool := decide (rnd (x.2.2.2.1 h) < rnd z ∧ 400000 < x.2.2.2.2.2 + rnd z)
def rsR (x : Ab) (p q : Int32) : Int32 := match rowN x.2.2.1 p, sizeN q with
  | some h, some z => if rsF x h z then -2 else nI z
  | _, _ => -1
def rsT (x : Ab) (h z : Nat) : Ab := (x.1, x.2.1, x.2.2.1, va_up x.2.2.2.1 h z, rsC x.2.2.2.2.1 h (x.2.2.2.1 h), x.2.2.2.2.2 + rnd z - rnd (x.2.2.2.1 h))
def rsS (x : Ab) (p q : Int32) : Ab := match rowN x.2.2.1 p, sizeN q with
  | some h, some z => if rsF x h z then x else rsT x h z
  | _, _ => x
def inR (x : Ab) (h : Nat) (i : Int32) : Bool := decide (¬ i < 0 ∧ i < nI (x.2.2.2.1 h))
def ptR (x : Ab) (p i : Int32) : Int32 := match rowN x.2.2.1 p with
  | none => 0
  | some h => if inR x h i then 1 else 0
def ctS (x : Ab) (h : Nat) (g : Nat → Int32) : Ab := (x.1, x.2.1, x.2.2.1, x.2.2.2.1, va_up x.2.2.2.2.1 h g, x.2.2.2.2.2)
def ptS (x : Ab) (p i b : Int32) : Ab := match rowN x.2.2.1 p with
  | none => x
  | some h => if inR x h i then ctS x h (upd (x.2.2.2.2.1 h) i.toNatClampNeg b.toInt8.toInt32) else x
def flF (x : Ab) (h : Nat) (i n : Int32) : Bool := decide (¬ i < 0 ∧ ¬ n < 0 ∧ i.toNatClampNeg + n.toNatClampNeg ≤ x.2.2.2.1 h)
def fv (seed : Int32) (k : Nat) : Int32 := (seed + nI 7 * nI k + nI k / nI 250).toInt8.toInt32
def flR (x : Ab) (p i n : Int32) : Int32 := match rowN x.2.2.1 p with
  | none => 0
  | some h => if flF x h i n then 1 else 0
def flS (x : Ab) (p i n seed : Int32) : Ab := match rowN x.2.2.1 p with
  | none => x
  | some h => if flF x h i n then ctS x h (va_cpy (fv seed) (x.2.2.2.2.1 h) 0 i.toNatClampNeg n.toNatClampNeg) else x
def coR (x : Ab) (p q : Int32) : Int32 := match rowN x.2.2.1 p, rowN x.2.2.1 q with
  | some h, some o => if rsF x h (x.2.2.2.1 o) then -2 else nI (x.2.2.2.1 o)
  | _, _ => -1
def coS (x : Ab) (p q : Int32) : Ab := match rowN x.2.2.1 p, rowN x.2.2.1 q with
  | some h, some o => if rsF x h (x.2.2.2.1 o) then x else ctS (rsT x h (x.2.2.2.1 o)) h (x.2.2.2.2.1 o)
  | _, _ => x
def gtR (x : Ab) (p i : Int32) : Int32 := match rowN x.2.2.1 p with
  | none => -1
  | some h => if inR x h i then x.2.2.2.2.1 h i.toNatClampNeg &&& 255 else -1
def szR (x : Ab) (p : Int32) : Int32 := match rowN x.2.2.1 p with
  | none => -1
  | some h => nI (x.2.2.2.1 h)
def cmR (x : Ab) (p q : Int32) : Int32 := match rowN x.2.2.1 p, rowN x.2.2.1 q with
  | some h, some o => sgn (cm (x.2.2.2.2.1 h) (x.2.2.2.2.1 o) (nI (x.2.2.2.1 h) - nI (x.2.2.2.1 o)) (min (x.2.2.2.1 h) (x.2.2.2.1 o)) 0)
  | _, _ => -2
def su (f : Nat → Int32) : Nat → Int32
  | 0 => nI 7
  | k + 1 => nI 31 * su f k + (f k &&& 255)
def suR (x : Ab) (p : Int32) : Int32 := match rowN x.2.2.1 p with
  | none => 0
  | some h => su (x.2.2.2.2.1 h) (x.2.2.2.1 h)
/-- what holds of every state that the law comes to -/
def Ok (x : Ab) : Prop := x.1 ≤ 20000 ∧ (∀ k ∈ x.2.1, k < x.1 ∧ x.2.2.1 k = false) ∧ (∀ k, x.2.2.1 k = true → k < x.1) ∧ (∀ k, x.2.2.2.1 k ≤ 16384) ∧ (∀ k, x.2.2.1 k = false → x.2.2.2.1 k = 0) ∧ x.2.2.2.2.2 = sm (fun k => rnd (x.2.2.2.1 k)) x.1 ∧ x.2.2.2.2.2 ≤ 400000 ∧ sm (fun k => if x.2.2.1 k = true then 1 else 0) x.1 + x.2.1.length = x.1
theorem Ok_len {x : Ab} (h : Ok x) : x.2.1.length ≤ x.1 := by have := h.2.2.2.2.2.2.2; omega
theorem Ok_row {x : Ab} (h : Ok x) {k : Nat} (hk : x.2.2.1 k = true) : k < x.1 ∧ k < 20000 ∧ x.2.2.2.1 k ≤ 16384 ∧ rnd (x.2.2.2.1 k) ≤ x.2.2.2.2.2 ∧ x.2.1.length < x.1 := by
  obtain ⟨h1, h2, h3, h4, h5, h6, h7, h8⟩ := h
  have hl := h3 k hk
  have e1 := sm_mem (f := fun k => rnd (x.2.2.2.1 k)) x.1 k hl
  have e2 := sm_mem (f := fun k => if x.2.2.1 k = true then 1 else 0) x.1 k hl
  simp only [hk, if_true] at e1 e2
  exact ⟨hl, by omega, h4 k, by rw [h6]; exact e1, by omega⟩
theorem tkH_lt {x : Ab} (h : Ok x) (hf : ¬ (x.1 - x.2.1.length = 20000)) : tkH x.2.1 x.1 < 20000 ∧ tkH x.2.1 x.1 < tkN x.2.1 x.1 ∧ tkN x.2.1 x.1 ≤ 20000 ∧ x.2.2.1 (tkH x.2.1 x.1) = false ∧ tkN x.2.1 x.1 - x.2.1.tail.length = x.1 - x.2.1.length + 1 ∧ x.1 < 32000 := by
  obtain ⟨n, bk, th, M, ct, pl⟩ := x
  have hl := Ok_len h
  obtain ⟨h1, h2, h3, h4, h5, h6, h7, h8⟩ := h
  dsimp only at *
  cases bk with
  | nil =>
    simp only [List.length_nil] at *
    have hn : n < 20000 := by omega
    refine ⟨hn, Nat.lt_succ_self n, hn, ?_, rfl, by omega⟩
    cases e : th n with
    | false => exact e
    | true => exact absurd (h3 n e) (Nat.lt_irrefl n)
  | cons y t =>
    have hy := h2 y List.mem_cons_self
    simp only [List.length_cons] at *
    refine ⟨?_, hy.1, h1, hy.2, ?_, by omega⟩
    · show y < 20000
      omega
    · show n - t.length = n - (t.length + 1) + 1
      omega
def thI (th : Nat → Bool) : Nat → Int32 := fun k => zb (th k)
theorem thI_up (th : Nat → Bool) (h : Nat) (b : Bool) : upd (thI th) h (vp_nar .boolean (zb b)) = thI (va_up th h b) := by
  have e : vp_nar .boolean (zb b) = zb b := by cases b <;> rfl
  rw [e]
  funext k
  unfold upd thI va_up
  by_cases hk : k = h <;> simp [hk]
/-- the ByteShelf's picture -/
def RepA (x : Ab) (u : Sh) (hd : Nat → Int32) : Prop := bF hd ∧ u.2.2.2.2.2.2.2.2.2.1 = x.1 ∧ ∃ L, RepU L x.2.1 x.2.2.2.1 x.2.2.2.2.1 u ∧ (∀ h, h ∈ L ↔ x.2.2.1 h = true) ∧ lsum (fun h => rnd (x.2.2.2.1 h)) L = x.2.2.2.2.2
abbrev UA : Type := Ab × Sh × (Nat → Int32)
abbrev wAu (cB cI cZ : ClassId) (a : Nat → Nat) (u : UA) : va_W := wA cB cI cZ a u.2.1.1 u.2.1.2.1 u.2.1.2.2.1 u.2.1.2.2.2.1 u.2.1.2.2.2.2.1 u.2.1.2.2.2.2.2.1 u.2.1.2.2.2.2.2.2.1 u.2.1.2.2.2.2.2.2.2.1 u.2.1.2.2.2.2.2.2.2.2.1 u.2.1.2.2.2.2.2.2.2.2.2.1 u.2.1.2.2.2.2.2.2.2.2.2.2 (thI u.1.2.2.1) u.2.2 (u.1.1 - u.1.2.1.length) u.1.2.2.2.2.2
theorem mem_up {th : Nat → Bool} {L : List Nat} {h : Nat} (k : ∀ x, x ∈ L ↔ th x = true) : ∀ x, x ∈ L ++ [h] ↔ va_up th h true x = true := by
  intro x
  rw [List.mem_append, List.mem_singleton]
  unfold va_up
  by_cases e : x = h
  · simp [e]
  · simp [e, k x]
theorem mem_dn {th : Nat → Bool} {L1 L2 : List Nat} {h : Nat} (k : ∀ x, x ∈ L1 ++ h :: L2 ↔ th x = true) (h1 : h ∉ L1) (h2 : h ∉ L2) : ∀ x, x ∈ L1 ++ L2 ↔ va_up th h false x = true := by
  intro x
  have := k x
  rw [List.mem_append, List.mem_cons] at this
  rw [List.mem_append]
  unfold va_up
  by_cases e : x = h
  · subst e; simp [h1, h2]
  · simp only [e, false_or, if_false] at this ⊢
    exact this
theorem lsum_up {M : Nat → Nat} {L : List Nat} {h z : Nat} (hn : h ∉ L) : lsum (fun k => rnd (va_up M h z k)) L = lsum (fun k => rnd (M k)) L := by
  refine lsum_congr L (fun x hx => ?_)
  have e : x ≠ h := fun q => hn (q ▸ hx)
  show rnd (va_up M h z x) = rnd (M x)
  rw [va_up_ne _ _ e]
theorem lsum_at {M : Nat → Nat} {L1 L2 : List Nat} {h z : Nat} (h1 : h ∉ L1) (h2 : h ∉ L2) : lsum (fun k => rnd (va_up M h z k)) (L1 ++ h :: L2) + rnd (M h) = lsum (fun k => rnd (M k)) (L1 ++ h :: L2) + rnd z := by
  rw [lsum_app, lsum_app]
  show _ + (rnd (va_up M h z h) + _) + _ = _ + (rnd (M h) + _) + _
  rw [lsum_up h1, lsum_up h2, va_up_self]
  omega
theorem nd_mid {L1 L2 : List Nat} {h : Nat} (k : (L1 ++ h :: L2).Nodup) : h ∉ L1 ∧ h ∉ L2 := by
  rw [List.nodup_append, List.nodup_cons] at k
  exact ⟨fun q => k.2.2 h q h List.mem_cons_self rfl, k.2.1.1⟩
/-- sizes of numbers that are no row don't matter -/
theorem RepU_M {L bk : List Nat} {M M' : Nat → Nat} {ct : Nat → Nat → Int32} {u : Sh} (k : RepU L bk M ct u) (h : ∀ x ∈ L, M' x = M x) : RepU L bk M' ct u := by
  obtain ⟨k1, k2, k3, k4, k5, k6⟩ := k
  refine ⟨k1, k2, k3, k4, fun x q => ⟨(k5 x q).1, ?_⟩, k6⟩
  have := (k5 x q).2
  unfold Rw at this ⊢
  rw [h x q]
  exact this
end
section
/-! Pure: small laws of the answers; bytes -/
def ibB (x : Ab) (p i : Int32) : Bool := match rowN x.2.2.1 p with
  | none => false
  | some h => inR x h i
theorem ibB_none {x : Ab} {p : Int32} (i : Int32) (h : rowN x.2.2.1 p = none) : ibB x p i = false := by unfold ibB; rw [h]
theorem ibB_some {x : Ab} {p : Int32} {k : Nat} (i : Int32) (h : rowN x.2.2.1 p = some k) : ibB x p i = inR x k i := by unfold ibB; rw [h]
theorem inR_neg {x : Ab} {h : Nat} {i : Int32} (hi : i < 0) : inR x h i = false := decide_eq_false (fun q => q.1 hi)
theorem inR_nI {x : Ab} {h j : Nat} (hj : j < 2 ^ 31) (hM : x.2.2.2.1 h < 2 ^ 31) : inR x h (nI j) = decide (j < x.2.2.2.1 h) := by
  unfold inR
  exact decide_eq_decide.mpr ⟨fun q => (nI_ltI hj hM).mp q.2, fun q => ⟨nI_pos hj, nI_lt q hM⟩⟩
theorem inR_t {x : Ab} {h : Nat} {i : Int32} (hM : x.2.2.2.1 h < 2 ^ 31) (q : inR x h i = true) : ∃ j, i = nI j ∧ j < x.2.2.2.1 h := by
  have := of_decide_eq_true q
  obtain ⟨j, hj, rfl⟩ := nI_of this.1
  exact ⟨j, rfl, (nI_ltI hj hM).mp this.2⟩
theorem ibB_t {x : Ab} {p i : Int32} (hM : ∀ k, x.2.2.2.1 k < 2 ^ 31) (q : ibB x p i = true) : ∃ h j : Nat, p = nI h ∧ x.2.2.1 h = true ∧ i = nI j ∧ j < x.2.2.2.1 h ∧ rowN x.2.2.1 p = some h ∧ inR x h i = true := by
  cases e : rowN x.2.2.1 p with
  | none => rw [ibB_none i e] at q; cases q
  | some k =>
    obtain ⟨h, h1, h2, h3, h4⟩ := rowN_some (show (rowN x.2.2.1 p).isSome = true by rw [e]; rfl)
    rw [e] at h4
    cases h4
    rw [ibB_some i e] at q
    obtain ⟨j, hj, hl⟩ := inR_t (hM k) q
    exact ⟨k, j, h2, h3, hj, hl, rfl, q⟩
theorem ibB_f {x : Ab} {p i : Int32} (b : Int32) (q : ibB x p i = false) : ptR x p i = 0 ∧ ptS x p i b = x ∧ gtR x p i = -1 := by
  unfold ibB at q
  unfold ptR ptS gtR
  cases e : rowN x.2.2.1 p with
  | none => exact ⟨rfl, rfl, rfl⟩
  | some k =>
    rw [e] at q
    simp only at q
    simp [q]
theorem ibB_ok {x : Ab} {p i : Int32} {h : Nat} (b : Int32) (e : rowN x.2.2.1 p = some h) (q : inR x h i = true) : ptR x p i = 1 ∧ ptS x p i b = ctS x h (upd (x.2.2.2.2.1 h) i.toNatClampNeg b.toInt8.toInt32) ∧ gtR x p i = x.2.2.2.2.1 h i.toNatClampNeg &&& 255 := by
  unfold ptR ptS gtR
  rw [e]
  simp [q]
theorem cpy_up (f g : Nat → Int32) (j : Nat) : upd (va_cpy f g 0 0 j) j (f j) = va_cpy f g 0 0 (j + 1) := by
  funext t
  unfold upd va_cpy
  by_cases h : t = j
  · subst h
    rw [if_pos rfl, if_pos (by omega), show 0 + (t - 0) = t by omega]
  · rw [if_neg h]
    by_cases h2 : 0 ≤ t ∧ t < 0 + j
    · rw [if_pos h2, if_pos (by omega)]
    · rw [if_neg h2, if_neg (by omega)]
theorem cpy_0 (f g : Nat → Int32) (d : Nat) : va_cpy f g 0 d 0 = g := by
  funext t
  unfold va_cpy
  rw [if_neg (by omega)]
theorem and255 (x : Int32) : (x &&& 255).toInt8.toInt32 = x.toInt8.toInt32 := by
  have e : (x &&& 255).toInt8 = x.toInt8 := by
    apply Int8.toBitVec_inj.mp
    rw [Int32.toBitVec_toInt8, Int32.toBitVec_toInt8, Int32.toBitVec_and]
    apply BitVec.eq_of_getLsbD_eq
    intro i hi
    rw [BitVec.getLsbD_signExtend, BitVec.getLsbD_signExtend]
    have h8 : i < 32 := by omega
    simp only [h8, if_true, BitVec.getLsbD_and]
    have k : ∀ i, i < 8 → (Int32.toBitVec 255).getLsbD i = true := by decide
    rw [k i hi]
    simp
  rw [e]
theorem fv_bF (seed : Int32) : bF (fv seed) := fun k => tb_tb _
theorem uu {α : Type} (f : Nat → α) (k : Nat) (v w : α) : va_up (va_up f k v) k w = va_up f k w := bx_uu f k v w
theorem up_id {α : Type} (f : Nat → α) (k : Nat) : va_up f k (f k) = f := by
  funext j
  unfold va_up
  by_cases h : j = k
  · rw [if_pos h, h]
  · rw [if_neg h]
/-- a row is handed new bytes -/
theorem RepA_ct {x : Ab} {u : Sh} {hd : Nat → Int32} {h : Nat} {fb' g : Nat → Int32} (hR : RepA x u hd) (hh : x.2.2.1 h = true) (ho : ∀ j, (j < u.2.1 h ∨ u.2.1 h + u.2.2.2.1 h ≤ j) → fb' j = u.1 j) (hb : bF fb') (hg : ∀ i, i < x.2.2.2.1 h → fb' (u.2.1 h + i) = g i) : RepA (ctS x h g) (fb', u.2) hd := by
  obtain ⟨h1, h2, L, h3, h4, h5⟩ := hR
  exact ⟨h1, h2, L, RepS_fb h3 ((h4 h).mpr hh) ho hb hg, h4, h5⟩
theorem RepA_hd {x : Ab} {u : Sh} {hd hd' : Nat → Int32} (hR : RepA x u hd) (hb : bF hd') : RepA x u hd' := ⟨hb, hR.2⟩
/-- the row's facts -/
theorem RepA_row {x : Ab} {u : Sh} {hd : Nat → Int32} (hR : RepA x u hd) {h : Nat} (hh : x.2.2.1 h = true) : h < 32000 ∧ u.2.2.1 h = x.2.2.2.1 h ∧ x.2.2.2.1 h ≤ 16384 ∧ x.2.2.2.1 h ≤ u.2.2.2.1 h ∧ u.2.2.2.1 h % 8 = 0 ∧ u.2.1 h + u.2.2.2.1 h ≤ 400000 ∧ (∀ i, i < x.2.2.2.1 h → u.1 (u.2.1 h + i) = x.2.2.2.2.1 h i) ∧ bF u.1 := by
  obtain ⟨h1, h2, L, h3, h4, h5⟩ := hR
  obtain ⟨r1, r2, r3, r4, r5, r6, r7, r8⟩ := RepS_row h3 ((h4 h).mpr hh)
  exact ⟨r1, r2, r3, r4, r5, by omega, r8, h3.2.2.2.2.2⟩
theorem ct_bF {x : Ab} {u : Sh} {hd : Nat → Int32} (hR : RepA x u hd) {h i : Nat} (hh : x.2.2.1 h = true) (hi : i < x.2.2.2.1 h) : (x.2.2.2.2.1 h i).toInt8.toInt32 = x.2.2.2.2.1 h i := by
  obtain ⟨r1, r2, r3, r4, r5, r6, r8, r9⟩ := RepA_row hR hh
  rw [← r8 i hi]
  exact r9 _
end
section
set_option maxHeartbeats 4000000 in
/-- ByteShelf.isSize -/
theorem c_A_isSize (l : Launch) (p0 : Int32) : Met l y_A_isSize w_A_isSize (rmL 0) (va_Pc [.int p0] (fun _ => True)) (Qi (zb (sizeN p0).isSome)) 0 0 NoA := by
  refine entry (by decide) (Nat.le_of_ble_eq_true rfl) ?_
  intro p e s m args below meth c S hr hlocks hin hPre ls hl
  have hx := S.1
  have hb := S.2.1
  have hl : lv_has ls 1 [(0, .int p0)] := hl
  have hS : va_S NoA s.heap s.heap [] := va_S.rf
  refine lv_iload_n hx hb d_A_isSize_0 rfl (lv_at hl 0 rfl) ?_
  refine lv_if_lt (tgt := 15) hx hb d_A_isSize_1 (by decide) (fun c1 => ?_) (fun c1 => ?_)
  · have hn : sizeN p0 = none := sizeN_neg c1
    refine lv_iconst (v := 0) hx hb d_A_isSize_15 (by decide) ?_
    exact rtZ S hr hlocks hS (by rw [hn]; rfl) rfl d_A_isSize_16
  · refine lv_iload_n hx hb d_A_isSize_4 rfl (lv_at hl 0 rfl) ?_
    refine lv_sipush (v := (nI 16384)) hx hb d_A_isSize_5 (by decide) ?_
    refine lv_icmp_gt (tgt := 15) hx hb d_A_isSize_8 (by decide) (fun c2 => ?_) (fun c2 => ?_)
    · have hn : sizeN p0 = none := sizeN_big c2
      refine lv_iconst (v := 0) hx hb d_A_isSize_15 (by decide) ?_
      exact rtZ S hr hlocks hS (by rw [hn]; rfl) rfl d_A_isSize_16
    · obtain ⟨z, hz, rfl⟩ := sizeN_in c1 c2
      have hn := sizeN_nI hz
      refine lv_iconst (v := 1) hx hb d_A_isSize_11 (by decide) ?_
      refine lv_goto (tgt := 16) hx hb d_A_isSize_12 (by decide) ?_
      exact rtZ S hr hlocks hS (by rw [hn]; rfl) rfl d_A_isSize_16
set_option maxHeartbeats 4000000 in
/-- ByteShelf.isRow -/
theorem c_A_isRow (l : Launch) (D : va_G) (cB cI cZ : ClassId) (a : Nat → Nat) (fb : Nat → Int32) (pa ps pr : Nat → Nat) (nx la : Nat → Int32) (fi en fr : Int32) (mn tp : Nat) (hd : Nat → Int32) (rw : Nat) (th : Nat → Bool) (pl : Nat) (p0 : Int32) (ht : ∀ k, th k = true → k < 20000) : Met l y_A_isRow w_A_isRow (rmL 0) (va_Pc [.ref (a 0), .int p0] (Wd D cB cI cZ (wA cB cI cZ a fb pa ps pr nx la fi en fr mn tp (thI th) hd rw pl))) (Qi (zb (rowN th p0).isSome)) 0 0 NoA := by
  refine entry (by decide) (Nat.le_of_ble_eq_true rfl) ?_
  intro p e s m args below meth c S hr hlocks hin hPre ls hl
  have hx := S.1
  have hb := S.2.1
  have hl : lv_has ls 2 [(0, .ref (a 0)), (1, .int p0)] := hl
  obtain ⟨hP, hK, hD⟩ := hPre
  have hS : va_S NoA s.heap s.heap [] := va_S.rf
  refine lv_iload_n hx hb d_A_isRow_0 rfl (lv_at hl 1 rfl) ?_
  refine lv_if_lt (tgt := 24) hx hb d_A_isRow_1 (by decide) (fun c1 => ?_) (fun c1 => ?_)
  · have hn : rowN th p0 = none := rowN_neg c1
    refine lv_iconst (v := 0) hx hb d_A_isRow_24 (by decide) ?_
    exact rtZ S hr hlocks hS (by rw [hn]; rfl) rfl d_A_isRow_25
  · obtain ⟨h, hh, rfl⟩ := nI_of c1
    refine lv_iload_n hx hb d_A_isRow_4 rfl (lv_at hl 1 rfl) ?_
    refine lv_sipush (v := (nI 20000)) hx hb d_A_isRow_5 (by decide) ?_
    refine lv_icmp_ge (tgt := 24) hx hb d_A_isRow_8 (by decide) (fun c2 => ?_) (fun c2 => ?_)
    · have hn : rowN th (nI h) = none := rowN_f hh (by
        cases e : th h with
        | false => rfl
        | true => exact absurd (ht h e) (by have := (nI_leI (by decide) hh).mp c2; omega))
      refine lv_iconst (v := 0) hx hb d_A_isRow_24 (by decide) ?_
      exact rtZ S hr hlocks hS (by rw [hn]; rfl) rfl d_A_isRow_25
    · have hlt : h < 20000 := Nat.lt_of_not_le (fun q => c2 (nI_le q hh))
      refine lv_aload_n hx hb d_A_isRow_11 rfl (lv_at hl 0 rfl) ?_
      refine gf_A_there S hK hP 0 rfl rfl d_A_isRow_12 ?_
      refine lv_iload_n hx hb d_A_isRow_15 rfl (lv_at hl 1 rfl) ?_
      refine ldZ S hK hP 8 rfl h rfl (by omega) (v := zb (th h)) rfl d_A_isRow_16 ?_
      refine lv_if_eq (tgt := 24) hx hb d_A_isRow_17 (by decide) (fun c3 => ?_) (fun c3 => ?_)
      · have hn : rowN th (nI h) = none := rowN_f hh (zb_0 c3)
        refine lv_iconst (v := 0) hx hb d_A_isRow_24 (by decide) ?_
        exact rtZ S hr hlocks hS (by rw [hn]; rfl) rfl d_A_isRow_25
      · have hn : rowN th (nI h) = some h := rowN_t hh (zb_1 c3)
        refine lv_iconst (v := 1) hx hb d_A_isRow_20 (by decide) ?_
        refine lv_goto (tgt := 25) hx hb d_A_isRow_21 (by decide) ?_
        exact rtZ S hr hlocks hS (by rw [hn]; rfl) rfl d_A_isRow_25
set_option maxHeartbeats 4000000 in
/-- ByteShelf.isByte -/
theorem c_A_isByte (l : Launch) (D : va_G) (cB cI cZ : ClassId) (a : Nat → Nat) (fb : Nat → Int32) (pa ps pr : Nat → Nat) (nx la : Nat → Int32) (fi en fr : Int32) (tp : Nat) (hd : Nat → Int32) (n : Nat) (bk : List Nat) (th : Nat → Bool) (M : Nat → Nat) (ct : Nat → Nat → Int32) (pl : Nat) (p0 p1 : Int32) (hO : Ok (n, bk, th, M, ct, pl)) (hR : RepA (n, bk, th, M, ct, pl) (fb, pa, ps, pr, nx, la, fi, en, fr, n, tp) hd) : Met l y_A_isByte w_A_isByte (rmL 1) (va_Pc [.ref (a 0), .int p0, .int p1] (Wd D cB cI cZ (wA cB cI cZ a fb pa ps pr nx la fi en fr n tp (thI th) hd (n - bk.length) pl))) (Qi (zb (ibB (n, bk, th, M, ct, pl) p0 p1))) 0 0 NoA := by
  refine entry (by decide) (Nat.le_of_ble_eq_true rfl) ?_
  intro p e s m args below meth c S hr hlocks hin hPre ls hl
  have hx := S.1
  have hb := S.2.1
  have hl : lv_has ls 3 [(0, .ref (a 0)), (1, .int p0), (2, .int p1)] := hl
  obtain ⟨hP, hK, hD⟩ := hPre
  have hS : va_S NoA s.heap s.heap [] := va_S.rf
  have hrw : ∀ k, th k = true → k < n ∧ k < 20000 ∧ M k ≤ 16384 ∧ rnd (M k) ≤ pl ∧ bk.length < n := fun k hk => Ok_row hO hk
  have hrr : ∀ h, th h = true → h < 32000 ∧ ps h = M h ∧ M h ≤ 16384 ∧ M h ≤ pr h ∧ pr h % 8 = 0 ∧ pa h + pr h ≤ 400000 ∧ (∀ i, i < M h → fb (pa h + i) = ct h i) ∧ bF fb := fun h hh => RepA_row hR hh
  have hMl : ∀ k, M k ≤ 16384 := hO.2.2.2.1
  have hpl : pl ≤ 400000 := hO.2.2.2.2.2.2.1
  have hn0 : n ≤ 20000 := hO.1
  have hln : bk.length ≤ n := Ok_len hO
  refine lv_aload_n hx hb d_A_isByte_0 rfl (lv_at hl 0 rfl) ?_
  refine lv_iload_n hx hb d_A_isByte_1 rfl (lv_at hl 1 rfl) ?_
  refine cpV (As := [.int p0]) (rest := []) S (c_A_isRow l D cB cI cZ a fb pa ps pr nx la fi en fr n tp hd (n - bk.length) th pl p0 (fun k hk => (hrw k hk).2.1)) (cw_A_43 S.2.2.2.2 ⟨by decide, by decide⟩) hK hP hD hS [0, 1, 2, 3, 4, 5, 6, 7, 8, 9] rfl rfl rfl rfl rfl hl.1 rfl (Nat.le_of_ble_eq_true rfl) d_A_isByte_2 ⟨by decide, by decide⟩ (fun H locs hP hS => ?_)
  refine lv_if_eq (tgt := 28) hx hb d_A_isByte_5 (by decide) (fun c1 => ?_) (fun c1 => ?_)
  · have hn := isN (zb_0 c1)
    refine lv_iconst (v := 0) hx hb d_A_isByte_28 (by decide) ?_
    exact rtZ S hr hlocks hS (by rw [ibB_none (x := (n, bk, th, M, ct, pl)) _ hn]; rfl) rfl d_A_isByte_29
  · obtain ⟨h, hh, rfl, ht, hn⟩ := rowN_some (zb_1 c1)
    have hw := hrw h ht
    obtain ⟨q1, q2, q3, q4, q5, q6, q8, q9⟩ := hrr h ht
    refine lv_iload_n hx hb d_A_isByte_8 rfl (lv_at hl 2 rfl) ?_
    refine lv_if_lt (tgt := 28) hx hb d_A_isByte_9 (by decide) (fun c2 => ?_) (fun c2 => ?_)
    · refine lv_iconst (v := 0) hx hb d_A_isByte_28 (by decide) ?_
      exact rtZ S hr hlocks hS (by rw [ibB_some (x := (n, bk, th, M, ct, pl)) _ hn, inR_neg c2]; rfl) rfl d_A_isByte_29
    · obtain ⟨j, hj, rfl⟩ := nI_of c2
      refine lv_iload_n hx hb d_A_isByte_12 rfl (lv_at hl 2 rfl) ?_
      refine lv_aload_n hx hb d_A_isByte_13 rfl (lv_at hl 0 rfl) ?_
      refine gf_A_shelf S hK hP 0 rfl rfl d_A_isByte_14 ?_
      refine lv_iload_n hx hb d_A_isByte_17 rfl (lv_at hl 1 rfl) ?_
      refine cpV (As := [.int (nI h)]) (rest := [.int (nI j)]) S (c_S_size l D cB cI cZ (fun k => a (k + 1)) fb pa ps pr nx la fi en fr n tp h q1) (cw_A_46 S.2.2.2.2 ⟨by decide, by decide⟩) hK hP hD hS [1, 2, 3, 4, 5, 6, 7] rfl rfl rfl rfl rfl hl.1 rfl (Nat.le_of_ble_eq_true rfl) d_A_isByte_18 ⟨by decide, by decide⟩ (fun H locs hP hS => ?_)
      refine tpE (y := nI (M h)) (by rw [q2]) ?_
      refine lv_icmp_ge (tgt := 28) hx hb d_A_isByte_21 (by decide) (fun c3 => ?_) (fun c3 => ?_)
      · refine lv_iconst (v := 0) hx hb d_A_isByte_28 (by decide) ?_
        exact rtZ S hr hlocks hS (by rw [ibB_some (x := (n, bk, th, M, ct, pl)) _ hn, inR_nI hj (by show M h < _; omega), decide_eq_false]; rfl; show ¬ j < M h; have := (nI_leI (by omega) hj).mp c3; omega) rfl d_A_isByte_29
      · refine lv_iconst (v := 1) hx hb d_A_isByte_24 (by decide) ?_
        refine lv_goto (tgt := 29) hx hb d_A_isByte_25 (by decide) ?_
        exact rtZ S hr hlocks hS (by rw [ibB_some (x := (n, bk, th, M, ct, pl)) _ hn, inR_nI hj (by show M h < _; omega), decide_eq_true]; rfl; show j < M h; exact Nat.lt_of_not_le (fun q => c3 (nI_le q (by omega)))) rfl d_A_isByte_29
set_option maxHeartbeats 4000000 in
/-- ByteShelf.rows -/
theorem c_A_rows (l : Launch) (D : va_G) (cB cI cZ : ClassId) (a : Nat → Nat) (fb : Nat → Int32) (pa ps pr : Nat → Nat) (nx la : Nat → Int32) (fi en fr : Int32) (tp : Nat) (hd : Nat → Int32) (n : Nat) (bk : List Nat) (th : Nat → Bool) (M : Nat → Nat) (ct : Nat → Nat → Int32) (pl : Nat) : Met l y_A_rows w_A_rows (rmL 0) (va_Pc [.ref (a 0)] (Wd D cB cI cZ (wA cB cI cZ a fb pa ps pr nx la fi en fr n tp (thI th) hd (n - bk.length) pl))) (Qi (nI (n - bk.length))) 0 0 NoA := by
  refine entry (by decide) (Nat.le_of_ble_eq_true rfl) ?_
  intro p e s m args below meth c S hr hlocks hin hPre ls hl
  have hx := S.1
  have hb := S.2.1
  have hl : lv_has ls 1 [(0, .ref (a 0))] := hl
  obtain ⟨hP, hK, hD⟩ := hPre
  have hS : va_S NoA s.heap s.heap [] := va_S.rf
  refine lv_aload_n hx hb d_A_rows_0 rfl (lv_at hl 0 rfl) ?_
  refine gf_A_rows S hK hP 0 rfl rfl d_A_rows_1 ?_
  exact rtI S hr hlocks hS rfl d_A_rows_4
set_option maxHeartbeats 4000000 in
/-- ByteShelf.places -/
theorem c_A_places (l : Launch) (D : va_G) (cB cI cZ : ClassId) (a : Nat → Nat) (fb : Nat → Int32) (pa ps pr : Nat → Nat) (nx la : Nat → Int32) (fi en fr : Int32) (tp : Nat) (hd : Nat → Int32) (n : Nat) (bk : List Nat) (th : Nat → Bool) (M : Nat → Nat) (ct : Nat → Nat → Int32) (pl : Nat) : Met l y_A_places w_A_places (rmL 0) (va_Pc [.ref (a 0)] (Wd D cB cI cZ (wA cB cI cZ a fb pa ps pr nx la fi en fr n tp (thI th) hd (n - bk.length) pl))) (Qi (nI pl)) 0 0 NoA := by
  refine entry (by decide) (Nat.le_of_ble_eq_true rfl) ?_
  intro p e s m args below meth c S hr hlocks hin hPre ls hl
  have hx := S.1
  have hb := S.2.1
  have hl : lv_has ls 1 [(0, .ref (a 0))] := hl
  obtain ⟨hP, hK, hD⟩ := hPre
  have hS : va_S NoA s.heap s.heap [] := va_S.rf
  refine lv_aload_n hx hb d_A_places_0 rfl (lv_at hl 0 rfl) ?_
  refine gf_A_places S hK hP 0 rfl rfl d_A_places_1 ?_
  exact rtI S hr hlocks hS rfl d_A_places_4
set_option maxHeartbeats 4000000 in
/-- ByteShelf.get -/
theorem c_A_get (l : Launch) (D : va_G) (cB cI cZ : ClassId) (a : Nat → Nat) (fb : Nat → Int32) (pa ps pr : Nat → Nat) (nx la : Nat → Int32) (fi en fr : Int32) (tp : Nat) (hd : Nat → Int32) (n : Nat) (bk : List Nat) (th : Nat → Bool) (M : Nat → Nat) (ct : Nat → Nat → Int32) (pl : Nat) (p0 p1 : Int32) (hO : Ok (n, bk, th, M, ct, pl)) (hR : RepA (n, bk, th, M, ct, pl) (fb, pa, ps, pr, nx, la, fi, en, fr, n, tp) hd) : Met l y_A_get w_A_get (rmL 2) (va_Pc [.ref (a 0), .int p0, .int p1] (Wd D cB cI cZ (wA cB cI cZ a fb pa ps pr nx la fi en fr n tp (thI th) hd (n - bk.length) pl))) (Qi (gtR (n, bk, th, M, ct, pl) p0 p1)) 0 0 NoA := by
  refine entry (by decide) (Nat.le_of_ble_eq_true rfl) ?_
  intro p e s m args below meth c S hr hlocks hin hPre ls hl
  have hx := S.1
  have hb := S.2.1
  have hl : lv_has ls 3 [(0, .ref (a 0)), (1, .int p0), (2, .int p1)] := hl
  obtain ⟨hP, hK, hD⟩ := hPre
  have hS : va_S NoA s.heap s.heap [] := va_S.rf
  have hrw : ∀ k, th k = true → k < n ∧ k < 20000 ∧ M k ≤ 16384 ∧ rnd (M k) ≤ pl ∧ bk.length < n := fun k hk => Ok_row hO hk
  have hrr : ∀ h, th h = true → h < 32000 ∧ ps h = M h ∧ M h ≤ 16384 ∧ M h ≤ pr h ∧ pr h % 8 = 0 ∧ pa h + pr h ≤ 400000 ∧ (∀ i, i < M h → fb (pa h + i) = ct h i) ∧ bF fb := fun h hh => RepA_row hR hh
  have hMl : ∀ k, M k ≤ 16384 := hO.2.2.2.1
  have hpl : pl ≤ 400000 := hO.2.2.2.2.2.2.1
  have hn0 : n ≤ 20000 := hO.1
  have hln : bk.length ≤ n := Ok_len hO
  refine lv_aload_n hx hb d_A_get_0 rfl (lv_at hl 0 rfl) ?_
  refine lv_iload_n hx hb d_A_get_1 rfl (lv_at hl 1 rfl) ?_
  refine lv_iload_n hx hb d_A_get_2 rfl (lv_at hl 2 rfl) ?_
  refine cpV (As := [.int p0, .int p1]) (rest := []) S (c_A_isByte l D cB cI cZ a fb pa ps pr nx la fi en fr tp hd n bk th M ct pl p0 p1 hO hR) (cw_A_57 S.2.2.2.2 ⟨by decide, by decide⟩) hK hP hD hS [0, 1, 2, 3, 4, 5, 6, 7, 8, 9] rfl rfl rfl rfl rfl hl.1 rfl (Nat.le_of_ble_eq_true rfl) d_A_get_3 ⟨by decide, by decide⟩ (fun H locs hP hS => ?_)
  refine lv_if_eq (tgt := 21) hx hb d_A_get_6 (by decide) (fun c1 => ?_) (fun c1 => ?_)
  · have hf := (ibB_f 0 (zb_0 c1)).2.2
    refine lv_iconst (v := (-1)) hx hb d_A_get_21 (by decide) ?_
    exact rtI S hr hlocks hS hf.symm d_A_get_22
  · obtain ⟨h, j, rfl, ht, rfl, hj, hn, hi⟩ := ibB_t (x := (n, bk, th, M, ct, pl)) (fun k => by have := hMl k; show M k < _; omega) (zb_1 c1)
    have hj : j < M h := hj
    obtain ⟨q1, q2, q3, q4, q5, q6, q8, q9⟩ := hrr h ht
    have hcl := nI_clamp (n := j) (by omega)
    have hg := (ibB_ok (x := (n, bk, th, M, ct, pl)) 0 hn hi).2.2
    refine lv_aload_n hx hb d_A_get_9 rfl (lv_at hl 0 rfl) ?_
    refine gf_A_shelf S hK hP 0 rfl rfl d_A_get_10 ?_
    refine lv_iload_n hx hb d_A_get_13 rfl (lv_at hl 1 rfl) ?_
    refine lv_iload_n hx hb d_A_get_14 rfl (lv_at hl 2 rfl) ?_
    refine cpV (As := [.int (nI h), .int (nI j)]) (rest := []) S (c_S_get l D cB cI cZ (fun k => a (k + 1)) fb pa ps pr nx la fi en fr n tp h j q1 (by omega)) (cw_A_69 S.2.2.2.2 ⟨by decide, by decide⟩) hK hP hD hS [1, 2, 3, 4, 5, 6, 7] rfl rfl rfl rfl rfl hl.1 rfl (Nat.le_of_ble_eq_true rfl) d_A_get_15 ⟨by decide, by decide⟩ (fun H locs hP hS => ?_)
    refine lv_goto (tgt := 22) hx hb d_A_get_18 (by decide) ?_
    exact rtI S hr hlocks hS (by rw [hg, hcl]; show _ = ct h j &&& 255; rw [q8 j hj]) d_A_get_22
set_option maxHeartbeats 4000000 in
/-- ByteShelf.size -/
theorem c_A_size (l : Launch) (D : va_G) (cB cI cZ : ClassId) (a : Nat → Nat) (fb : Nat → Int32) (pa ps pr : Nat → Nat) (nx la : Nat → Int32) (fi en fr : Int32) (tp : Nat) (hd : Nat → Int32) (n : Nat) (bk : List Nat) (th : Nat → Bool) (M : Nat → Nat) (ct : Nat → Nat → Int32) (pl : Nat) (p0 : Int32) (hO : Ok (n, bk, th, M, ct, pl)) (hR : RepA (n, bk, th, M, ct, pl) (fb, pa, ps, pr, nx, la, fi, en, fr, n, tp) hd) : Met l y_A_size w_A_size (rmL 1) (va_Pc [.ref (a 0), .int p0] (Wd D cB cI cZ (wA cB cI cZ a fb pa ps pr nx la fi en fr n tp (thI th) hd (n - bk.length) pl))) (Qi (szR (n, bk, th, M, ct, pl) p0)) 0 0 NoA := by
  refine entry (by decide) (Nat.le_of_ble_eq_true rfl) ?_
  intro p e s m args below meth c S hr hlocks hin hPre ls hl
  have hx := S.1
  have hb := S.2.1
  have hl : lv_has ls 2 [(0, .ref (a 0)), (1, .int p0)] := hl
  obtain ⟨hP, hK, hD⟩ := hPre
  have hS : va_S NoA s.heap s.heap [] := va_S.rf
  have hrw : ∀ k, th k = true → k < n ∧ k < 20000 ∧ M k ≤ 16384 ∧ rnd (M k) ≤ pl ∧ bk.length < n := fun k hk => Ok_row hO hk
  have hrr : ∀ h, th h = true → h < 32000 ∧ ps h = M h ∧ M h ≤ 16384 ∧ M h ≤ pr h ∧ pr h % 8 = 0 ∧ pa h + pr h ≤ 400000 ∧ (∀ i, i < M h → fb (pa h + i) = ct h i) ∧ bF fb := fun h hh => RepA_row hR hh
  have hMl : ∀ k, M k ≤ 16384 := hO.2.2.2.1
  have hpl : pl ≤ 400000 := hO.2.2.2.2.2.2.1
  have hn0 : n ≤ 20000 := hO.1
  have hln : bk.length ≤ n := Ok_len hO
  refine lv_aload_n hx hb d_A_size_0 rfl (lv_at hl 0 rfl) ?_
  refine lv_iload_n hx hb d_A_size_1 rfl (lv_at hl 1 rfl) ?_
  refine cpV (As := [.int p0]) (rest := []) S (c_A_isRow l D cB cI cZ a fb pa ps pr nx la fi en fr n tp hd (n - bk.length) th pl p0 (fun k hk => (hrw k hk).2.1)) (cw_A_43 S.2.2.2.2 ⟨by decide, by decide⟩) hK hP hD hS [0, 1, 2, 3, 4, 5, 6, 7, 8, 9] rfl rfl rfl rfl rfl hl.1 rfl (Nat.le_of_ble_eq_true rfl) d_A_size_2 ⟨by decide, by decide⟩ (fun H locs hP hS => ?_)
  refine lv_if_eq (tgt := 19) hx hb d_A_size_5 (by decide) (fun c1 => ?_) (fun c1 => ?_)
  · have hn := isN (zb_0 c1)
    refine lv_iconst (v := (-1)) hx hb d_A_size_19 (by decide) ?_
    exact rtI S hr hlocks hS (by unfold szR; rw [show rowN ((n, bk, th, M, ct, pl) : Ab).2.2.1 p0 = none from hn]) d_A_size_20
  · obtain ⟨h, hh, rfl, ht, hn⟩ := rowN_some (zb_1 c1)
    have hw := hrw h ht
    obtain ⟨q1, q2, q3, q4, q5, q6, q8, q9⟩ := hrr h ht
    refine lv_aload_n hx hb d_A_size_8 rfl (lv_at hl 0 rfl) ?_
    refine gf_A_shelf S hK hP 0 rfl rfl d_A_size_9 ?_
    refine lv_iload_n hx hb d_A_size_12 rfl (lv_at hl 1 rfl) ?_
    refine cpV (As := [.int (nI h)]) (rest := []) S (c_S_size l D cB cI cZ (fun k => a (k + 1)) fb pa ps pr nx la fi en fr n tp h q1) (cw_A_46 S.2.2.2.2 ⟨by decide, by decide⟩) hK hP hD hS [1, 2, 3, 4, 5, 6, 7] rfl rfl rfl rfl rfl hl.1 rfl (Nat.le_of_ble_eq_true rfl) d_A_size_13 ⟨by decide, by decide⟩ (fun H locs hP hS => ?_)
    refine tpE (y := nI (M h)) (by rw [q2]) ?_
    refine lv_goto (tgt := 20) hx hb d_A_size_16 (by decide) ?_
    exact rtI S hr hlocks hS (by unfold szR; rw [show rowN ((n, bk, th, M, ct, pl) : Ab).2.2.1 (nI h) = some h from hn]) d_A_size_20
set_option maxHeartbeats 4000000 in
/-- ByteShelf.compare -/
theorem c_A_compare (l : Launch) (D : va_G) (cB cI cZ : ClassId) (a : Nat → Nat) (fb : Nat → Int32) (pa ps pr : Nat → Nat) (nx la : Nat → Int32) (fi en fr : Int32) (tp : Nat) (hd : Nat → Int32) (n : Nat) (bk : List Nat) (th : Nat → Bool) (M : Nat → Nat) (ct : Nat → Nat → Int32) (pl : Nat) (p0 p1 : Int32) (hO : Ok (n, bk, th, M, ct, pl)) (hR : RepA (n, bk, th, M, ct, pl) (fb, pa, ps, pr, nx, la, fi, en, fr, n, tp) hd) : Met l y_A_compare w_A_compare (rmL 2) (va_Pc [.ref (a 0), .int p0, .int p1] (Wd D cB cI cZ (wA cB cI cZ a fb pa ps pr nx la fi en fr n tp (thI th) hd (n - bk.length) pl))) (Qi (cmR (n, bk, th, M, ct, pl) p0 p1)) 0 0 NoA := by
  refine entry (by decide) (Nat.le_of_ble_eq_true rfl) ?_
  intro p e s m args below meth c S hr hlocks hin hPre ls hl
  have hx := S.1
  have hb := S.2.1
  have hl : lv_has ls 3 [(0, .ref (a 0)), (1, .int p0), (2, .int p1)] := hl
  obtain ⟨hP, hK, hD⟩ := hPre
  have hS : va_S NoA s.heap s.heap [] := va_S.rf
  have hrw : ∀ k, th k = true → k < n ∧ k < 20000 ∧ M k ≤ 16384 ∧ rnd (M k) ≤ pl ∧ bk.length < n := fun k hk => Ok_row hO hk
  have hrr : ∀ h, th h = true → h < 32000 ∧ ps h = M h ∧ M h ≤ 16384 ∧ M h ≤ pr h ∧ pr h % 8 = 0 ∧ pa h + pr h ≤ 400000 ∧ (∀ i, i < M h → fb (pa h + i) = ct h i) ∧ bF fb := fun h hh => RepA_row hR hh
  have hMl : ∀ k, M k ≤ 16384 := hO.2.2.2.1
  have hpl : pl ≤ 400000 := hO.2.2.2.2.2.2.1
  have hn0 : n ≤ 20000 := hO.1
  have hln : bk.length ≤ n := Ok_len hO
  refine lv_aload_n hx hb d_A_compare_0 rfl (lv_at hl 0 rfl) ?_
  refine lv_iload_n hx hb d_A_compare_1 rfl (lv_at hl 1 rfl) ?_
  refine cpV (As := [.int p0]) (rest := []) S (c_A_isRow l D cB cI cZ a fb pa ps pr nx la fi en fr n tp hd (n - bk.length) th pl p0 (fun k hk => (hrw k hk).2.1)) (cw_A_43 S.2.2.2.2 ⟨by decide, by decide⟩) hK hP hD hS [0, 1, 2, 3, 4, 5, 6, 7, 8, 9] rfl rfl rfl rfl rfl hl.1 rfl (Nat.le_of_ble_eq_true rfl) d_A_compare_2 ⟨by decide, by decide⟩ (fun H locs hP hS => ?_)
  refine lv_if_eq (tgt := 31) hx hb d_A_compare_5 (by decide) (fun c1 => ?_) (fun c1 => ?_)
  · have hn := isN (zb_0 c1)
    refine lv_bipush (v := (-2)) hx hb d_A_compare_31 (by decide) ?_
    exact rtI S hr hlocks hS (by unfold cmR; rw [show rowN ((n, bk, th, M, ct, pl) : Ab).2.2.1 p0 = none from hn]) d_A_compare_33
  · obtain ⟨h, hh, rfl, ht, hn⟩ := rowN_some (zb_1 c1)
    have hw := hrw h ht
    obtain ⟨q1, q2, q3, q4, q5, q6, q8, q9⟩ := hrr h ht
    refine lv_aload_n hx hb d_A_compare_8 rfl (lv_at hl 0 rfl) ?_
    refine lv_iload_n hx hb d_A_compare_9 rfl (lv_at hl 2 rfl) ?_
    refine cpV (As := [.int p1]) (rest := []) S (c_A_isRow l D cB cI cZ a fb pa ps pr nx la fi en fr n tp hd (n - bk.length) th pl p1 (fun k hk => (hrw k hk).2.1)) (cw_A_43 S.2.2.2.2 ⟨by decide, by decide⟩) hK hP hD hS [0, 1, 2, 3, 4, 5, 6, 7, 8, 9] rfl rfl rfl rfl rfl hl.1 rfl (Nat.le_of_ble_eq_true rfl) d_A_compare_10 ⟨by decide, by decide⟩ (fun H locs hP hS => ?_)
    refine lv_if_eq (tgt := 31) hx hb d_A_compare_13 (by decide) (fun c2 => ?_) (fun c2 => ?_)
    · have hm := isN (zb_0 c2)
      refine lv_bipush (v := (-2)) hx hb d_A_compare_31 (by decide) ?_
      exact rtI S hr hlocks hS (by unfold cmR; rw [show rowN ((n, bk, th, M, ct, pl) : Ab).2.2.1 (nI h) = some h from hn, show rowN ((n, bk, th, M, ct, pl) : Ab).2.2.1 p1 = none from hm]) d_A_compare_33
    · obtain ⟨o, hho, rfl, hto, hm⟩ := rowN_some (zb_1 c2)
      have hwo := hrw o hto
      obtain ⟨qo1, qo2, qo3, qo4, qo5, qo6, qo8, qo9⟩ := hrr o hto
      obtain ⟨hbF, -, L, hkS, hmem, hlp⟩ := id hR
      have hkS : RepS L bk M ct fb pa ps pr nx la fi en fr n tp := hkS
      refine lv_aload_n hx hb d_A_compare_16 rfl (lv_at hl 0 rfl) ?_
      refine gf_A_shelf S hK hP 0 rfl rfl d_A_compare_17 ?_
      refine lv_iload_n hx hb d_A_compare_20 rfl (lv_at hl 1 rfl) ?_
      refine lv_iload_n hx hb d_A_compare_21 rfl (lv_at hl 2 rfl) ?_
      refine cpV (As := [.int (nI h), .int (nI o)]) (rest := []) S (c_S_compare l D cB cI cZ (fun k => a (k + 1)) fb pa ps pr nx la fi en fr n tp L bk M ct h o hkS ((hmem h).mpr ht) ((hmem o).mpr hto)) (cw_A_75 S.2.2.2.2 ⟨by decide, by decide⟩) hK hP hD hS [1, 2, 3, 4, 5, 6, 7] rfl rfl rfl rfl rfl hl.1 rfl (Nat.le_of_ble_eq_true rfl) d_A_compare_22 ⟨by decide, by decide⟩ (fun H locs hP hS => ?_)
      refine cpS (As := [.int (cm (ct h) (ct o) (nI (M h) - nI (M o)) (min (M h) (M o)) 0)]) (rest := []) S (c_I_signum l (cm (ct h) (ct o) (nI (M h) - nI (M o)) (min (M h) (M o)) 0)) (cw_A_78 S.2.2.2.2 ⟨by decide, by decide⟩) hP hS rfl hl.1 rfl (Nat.le_of_ble_eq_true rfl) d_A_compare_25 ⟨by decide, by decide⟩ (fun H locs hP hS => ?_)
      refine lv_goto (tgt := 33) hx hb d_A_compare_28 (by decide) ?_
      exact rtI S hr hlocks hS (by unfold cmR; rw [show rowN ((n, bk, th, M, ct, pl) : Ab).2.2.1 (nI h) = some h from hn, show rowN ((n, bk, th, M, ct, pl) : Ab).2.2.1 (nI o) = some o from hm]) d_A_compare_33
set_option maxHeartbeats 4000000 in
theorem lp_A_sum {p : Program} {l : Launch} {e : Env} {s : State} {m : MethodId} {args : Array Value} {below : List Frame} {meth : Method} {c : Code} {D : va_G} {cB cI cZ : ClassId} {a : Nat → Nat} {fb : Nat → Int32} {pa ps pr : Nat → Nat} {nx la : Nat → Int32} {fi en fr : Int32} {tp : Nat} {hd : Nat → Int32} {n : Nat} {bk : List Nat} {th : Nat → Bool} {M : Nat → Nat} {ct : Nat → Nat → Int32} {pl : Nat} {h : Nat} (q1 : h < 32000) (q2 : ps h = M h) (q3 : M h ≤ 16384) (q6 : pa h + M h ≤ 400000) (q8 : ∀ i, i < M h → fb (pa h + i) = ct h i) (S : CallFix p m c b_A_sum 4 s args aw R_A) (hK : va_K D classes (TY cB cI cZ) s) (hr : meth.sig.returnType = some .int) (hlocks : meth.locks = false) :
    ∀ (d k : Nat), k + d = M h → ∀ (H : Heap) (locs : List Loc), va_P D classes (wA cB cI cZ a fb pa ps pr nx la fi en fr n tp (thI th) hd (n - bk.length) pl) H → va_D (fun _ => True) (wA cB cI cZ a fb pa ps pr nx la fi en fr n tp (thI th) hd (n - bk.length) pl) → va_S NoA s.heap H locs → ∀ (ls : Array Slot), lv_has ls 4 [(0, .ref (a 0)), (1, .int (nI h)), (2, .int (su (ct h) k)), (3, .int (nI k))] → W p l e (rmL 1) s m args below meth c H locs 0 0 (MQ below (Qi (su (ct h) (M h))) args s 0 0 NoA) (F0 m 15 ls []) := by
  have hx := S.1
  have hb := S.2.1
  intro d
  induction d with
  | zero =>
    intro k hk H locs hP hD hS ls hl
    have e0 : k = M h := by omega
    refine lv_iload_n hx hb d_A_sum_15 rfl (lv_at hl 3 rfl) ?_
    refine lv_aload_n hx hb d_A_sum_16 rfl (lv_at hl 0 rfl) ?_
    refine gf_A_shelf S hK hP 0 rfl rfl d_A_sum_17 ?_
    refine lv_iload_n hx hb d_A_sum_20 rfl (lv_at hl 1 rfl) ?_
    refine cpV (As := [.int (nI h)]) (rest := [.int (nI k)]) S (c_S_size l D cB cI cZ (fun k => a (k + 1)) fb pa ps pr nx la fi en fr n tp h q1) (cw_A_46 S.2.2.2.2 ⟨by decide, by decide⟩) hK hP hD hS [1, 2, 3, 4, 5, 6, 7] rfl rfl rfl rfl rfl hl.1 rfl (Nat.le_of_ble_eq_true rfl) d_A_sum_21 ⟨by decide, by decide⟩ (fun H locs hP hS => ?_)
    refine tpE (y := nI (M h)) (by rw [q2]) ?_
    refine lv_icmp_ge (tgt := 48) hx hb d_A_sum_24 (by decide) (fun c1 => ?_) (fun c1 => ?_)
    · refine lv_iload_n hx hb d_A_sum_48 rfl (lv_at hl 2 rfl) ?_
      exact rtI S hr hlocks hS (by rw [e0]) d_A_sum_49
    · exact absurd (nI_le (by omega) (by omega)) c1
  | succ d ih =>
    intro k hk H locs hP hD hS ls hl
    refine lv_iload_n hx hb d_A_sum_15 rfl (lv_at hl 3 rfl) ?_
    refine lv_aload_n hx hb d_A_sum_16 rfl (lv_at hl 0 rfl) ?_
    refine gf_A_shelf S hK hP 0 rfl rfl d_A_sum_17 ?_
    refine lv_iload_n hx hb d_A_sum_20 rfl (lv_at hl 1 rfl) ?_
    refine cpV (As := [.int (nI h)]) (rest := [.int (nI k)]) S (c_S_size l D cB cI cZ (fun k => a (k + 1)) fb pa ps pr nx la fi en fr n tp h q1) (cw_A_46 S.2.2.2.2 ⟨by decide, by decide⟩) hK hP hD hS [1, 2, 3, 4, 5, 6, 7] rfl rfl rfl rfl rfl hl.1 rfl (Nat.le_of_ble_eq_true rfl) d_A_sum_21 ⟨by decide, by decide⟩ (fun H locs hP hS => ?_)
    refine tpE (y := nI (M h)) (by rw [q2]) ?_
    refine lv_icmp_ge (tgt := 48) hx hb d_A_sum_24 (by decide) (fun c1 => ?_) (fun c1 => ?_)
    · exact absurd c1 (nI_ge (by omega) (by omega))
    · refine lv_bipush (v := (nI 31)) hx hb d_A_sum_27 (by decide) ?_
      refine lv_iload_n hx hb d_A_sum_29 rfl (lv_at hl 2 rfl) ?_
      refine lv_imul hx hb d_A_sum_30 ?_
      refine lv_aload_n hx hb d_A_sum_31 rfl (lv_at hl 0 rfl) ?_
      refine gf_A_shelf S hK hP 0 rfl rfl d_A_sum_32 ?_
      refine lv_iload_n hx hb d_A_sum_35 rfl (lv_at hl 1 rfl) ?_
      refine lv_iload_n hx hb d_A_sum_36 rfl (lv_at hl 3 rfl) ?_
      refine cpV (As := [.int (nI h), .int (nI k)]) (rest := [.int ((nI 31) * (su (ct h) k))]) S (c_S_get l D cB cI cZ (fun k => a (k + 1)) fb pa ps pr nx la fi en fr n tp h k q1 (by omega)) (cw_A_69 S.2.2.2.2 ⟨by decide, by decide⟩) hK hP hD hS [1, 2, 3, 4, 5, 6, 7] rfl rfl rfl rfl rfl hl.1 rfl (Nat.le_of_ble_eq_true rfl) d_A_sum_37 ⟨by decide, by decide⟩ (fun H locs hP hS => ?_)
      refine tpE (y := ct h k &&& 255) (by rw [q8 k (by omega)]) ?_
      refine lv_iadd hx hb d_A_sum_40 ?_
      refine tpE (y := su (ct h) (k + 1)) (rfl) ?_
      refine lv_istore_n (lv' := [(2, .int (su (ct h) (k + 1))), (0, .ref (a 0)), (1, .int (nI h)), (3, .int (nI k))]) hx hb d_A_sum_41 rfl hl (by decide) rfl (fun ls hl => ?_)
      refine lv_iinc (v := nI (k + 1)) (lv' := [(3, .int (nI (k + 1))), (2, .int (su (ct h) (k + 1))), (0, .ref (a 0)), (1, .int (nI h))]) hx hb d_A_sum_42 hl (k := 3) rfl (nI_1 k) (by decide) rfl (fun ls hl => ?_)
      refine lv_goto (tgt := 15) hx hb d_A_sum_45 (by decide) ?_
      exact ih (k + 1) (by omega) H locs hP hD hS ls (lv_sub hl [2, 3, 1, 0] rfl)
set_option maxHeartbeats 4000000 in
/-- ByteShelf.sum -/
theorem c_A_sum (l : Launch) (D : va_G) (cB cI cZ : ClassId) (a : Nat → Nat) (fb : Nat → Int32) (pa ps pr : Nat → Nat) (nx la : Nat → Int32) (fi en fr : Int32) (tp : Nat) (hd : Nat → Int32) (n : Nat) (bk : List Nat) (th : Nat → Bool) (M : Nat → Nat) (ct : Nat → Nat → Int32) (pl : Nat) (p0 : Int32) (hO : Ok (n, bk, th, M, ct, pl)) (hR : RepA (n, bk, th, M, ct, pl) (fb, pa, ps, pr, nx, la, fi, en, fr, n, tp) hd) : Met l y_A_sum w_A_sum (rmL 1) (va_Pc [.ref (a 0), .int p0] (Wd D cB cI cZ (wA cB cI cZ a fb pa ps pr nx la fi en fr n tp (thI th) hd (n - bk.length) pl))) (Qi (suR (n, bk, th, M, ct, pl) p0)) 0 0 NoA := by
  refine entry (by decide) (Nat.le_of_ble_eq_true rfl) ?_
  intro p e s m args below meth c S hr hlocks hin hPre ls hl
  have hx := S.1
  have hb := S.2.1
  have hl : lv_has ls 4 [(0, .ref (a 0)), (1, .int p0)] := hl
  obtain ⟨hP, hK, hD⟩ := hPre
  have hS : va_S NoA s.heap s.heap [] := va_S.rf
  have hrw : ∀ k, th k = true → k < n ∧ k < 20000 ∧ M k ≤ 16384 ∧ rnd (M k) ≤ pl ∧ bk.length < n := fun k hk => Ok_row hO hk
  have hrr : ∀ h, th h = true → h < 32000 ∧ ps h = M h ∧ M h ≤ 16384 ∧ M h ≤ pr h ∧ pr h % 8 = 0 ∧ pa h + pr h ≤ 400000 ∧ (∀ i, i < M h → fb (pa h + i) = ct h i) ∧ bF fb := fun h hh => RepA_row hR hh
  have hMl : ∀ k, M k ≤ 16384 := hO.2.2.2.1
  have hpl : pl ≤ 400000 := hO.2.2.2.2.2.2.1
  have hn0 : n ≤ 20000 := hO.1
  have hln : bk.length ≤ n := Ok_len hO
  refine lv_aload_n hx hb d_A_sum_0 rfl (lv_at hl 0 rfl) ?_
  refine lv_iload_n hx hb d_A_sum_1 rfl (lv_at hl 1 rfl) ?_
  refine cpV (As := [.int p0]) (rest := []) S (c_A_isRow l D cB cI cZ a fb pa ps pr nx la fi en fr n tp hd (n - bk.length) th pl p0 (fun k hk => (hrw k hk).2.1)) (cw_A_43 S.2.2.2.2 ⟨by decide, by decide⟩) hK hP hD hS [0, 1, 2, 3, 4, 5, 6, 7, 8, 9] rfl rfl rfl rfl rfl hl.1 rfl (Nat.le_of_ble_eq_true rfl) d_A_sum_2 ⟨by decide, by decide⟩ (fun H locs hP hS => ?_)
  refine lv_if_ne (tgt := 10) hx hb d_A_sum_5 (by decide) (fun c1 => ?_) (fun c1 => ?_)
  · obtain ⟨h, hh, rfl, ht, hn⟩ := rowN_some (zb_1 c1)
    have hw := hrw h ht
    obtain ⟨q1, q2, q3, q4, q5, q6, q8, q9⟩ := hrr h ht
    refine lv_bipush (v := (nI 7)) hx hb d_A_sum_10 (by decide) ?_
    refine lv_istore_n (lv' := [(2, .int (nI 7)), (0, .ref (a 0)), (1, .int (nI h))]) hx hb d_A_sum_12 rfl hl (by decide) rfl (fun ls hl => ?_)
    refine lv_iconst (v := (nI 0)) hx hb d_A_sum_13 (by decide) ?_
    refine lv_istore_n (lv' := [(3, .int (nI 0)), (2, .int (nI 7)), (0, .ref (a 0)), (1, .int (nI h))]) hx hb d_A_sum_14 rfl hl (by decide) rfl (fun ls hl => ?_)
    rw [show suR (n, bk, th, M, ct, pl) (nI h) = su (ct h) (M h) by unfold suR; rw [show rowN ((n, bk, th, M, ct, pl) : Ab).2.2.1 (nI h) = some h from hn]]
    exact lp_A_sum (hd := hd) (bk := bk) (th := th) (pl := pl) q1 q2 q3 (by omega) q8 S hK hr hlocks (M h) 0 (Nat.zero_add _) _ _ hP hD hS ls (lv_sub hl [2, 3, 1, 0] rfl)
  · have hn := isN (zb_0 c1)
    refine lv_iconst (v := 0) hx hb d_A_sum_8 (by decide) ?_
    exact rtI S hr hlocks hS (by unfold suR; rw [show rowN ((n, bk, th, M, ct, pl) : Ab).2.2.1 p0 = none from hn]) d_A_sum_9
end
section
/-! Pure: the ByteShelf's picture under its calls -/
theorem adsub {a b c : Nat} (h : c ≤ a + b) : nI a + (nI b - nI c) = nI (a + b - c) := by
  rw [← pk_sub h, ← nI_add]
  apply Int32.toBitVec_inj.mp
  rw [Int32.toBitVec_add, Int32.toBitVec_sub, Int32.toBitVec_sub, Int32.toBitVec_add]
  rw [BitVec.sub_eq_add_neg, BitVec.sub_eq_add_neg, BitVec.add_assoc]
theorem tkR_none {x : Ab} {p : Int32} (h : sizeN p = none) : tkR x p = -1 ∧ tkS x p = x := by unfold tkR tkS; rw [h]; exact ⟨rfl, rfl⟩
theorem tkR_full {x : Ab} {p : Int32} {z : Nat} (h : sizeN p = some z) (hf : x.1 - x.2.1.length = 20000 ∨ 400000 < x.2.2.2.2.2 + rnd z) : tkR x p = -2 ∧ tkS x p = x := by
  unfold tkR tkS
  rw [h]
  have e : tkF x z = true := decide_eq_true hf
  simp [e]
theorem tkR_ok {x : Ab} {p : Int32} {z : Nat} (h : sizeN p = some z) (h1 : ¬ x.1 - x.2.1.length = 20000) (h2 : x.2.2.2.2.2 + rnd z ≤ 400000) : tkR x p = nI (tkH x.2.1 x.1) ∧ tkS x p = (tkN x.2.1 x.1, x.2.1.tail, va_up x.2.2.1 (tkH x.2.1 x.1) true, va_up x.2.2.2.1 (tkH x.2.1 x.1) z, va_up x.2.2.2.2.1 (tkH x.2.1 x.1) (fun _ => 0), x.2.2.2.2.2 + rnd z) := by
  unfold tkR tkS
  rw [h]
  have e : tkF x z = false := decide_eq_false (by omega)
  simp [e]
theorem gvR_none {x : Ab} {p : Int32} (h : rowN x.2.2.1 p = none) : gvR x p = 0 ∧ gvS x p = x := by unfold gvR gvS; rw [h]; exact ⟨rfl, rfl⟩
theorem gvR_ok {x : Ab} {p : Int32} {k : Nat} (h : rowN x.2.2.1 p = some k) : gvR x p = 1 ∧ gvS x p = (x.1, k :: x.2.1, va_up x.2.2.1 k false, va_up x.2.2.2.1 k 0, x.2.2.2.2.1, x.2.2.2.2.2 - rnd (x.2.2.2.1 k)) := by unfold gvR gvS; rw [h]; exact ⟨rfl, rfl⟩
theorem rsR_none {x : Ab} {p q : Int32} (h : rowN x.2.2.1 p = none ∨ sizeN q = none) : rsR x p q = -1 ∧ rsS x p q = x := by
  unfold rsR rsS
  rcases h with h | h
  · rw [h]; exact ⟨rfl, rfl⟩
  · cases e : rowN x.2.2.1 p with
    | none => exact ⟨rfl, rfl⟩
    | some k => rw [h]; exact ⟨rfl, rfl⟩
theorem rsR_full {x : Ab} {p q : Int32} {h z : Nat} (e1 : rowN x.2.2.1 p = some h) (e2 : sizeN q = some z) (hf : rsF x h z = true) : rsR x p q = -2 ∧ rsS x p q = x := by
  unfold rsR rsS
  rw [e1, e2]
  simp [hf]
theorem rsR_ok {x : Ab} {p q : Int32} {h z : Nat} (e1 : rowN x.2.2.1 p = some h) (e2 : sizeN q = some z) (hf : rsF x h z = false) : rsR x p q = nI z ∧ rsS x p q = rsT x h z := by
  unfold rsR rsS
  rw [e1, e2]
  simp [hf]
theorem coR_none {x : Ab} {p q : Int32} (h : rowN x.2.2.1 p = none ∨ rowN x.2.2.1 q = none) : coR x p q = -1 ∧ coS x p q = x := by
  unfold coR coS
  rcases h with h | h
  · rw [h]; exact ⟨rfl, rfl⟩
  · cases e : rowN x.2.2.1 p with
    | none => exact ⟨rfl, rfl⟩
    | some k => rw [h]; exact ⟨rfl, rfl⟩
theorem coR_full {x : Ab} {p q : Int32} {h o : Nat} (e1 : rowN x.2.2.1 p = some h) (e2 : rowN x.2.2.1 q = some o) (hf : rsF x h (x.2.2.2.1 o) = true) : coR x p q = -2 ∧ coS x p q = x := by
  unfold coR coS
  rw [e1, e2]
  simp [hf]
theorem coR_ok {x : Ab} {p q : Int32} {h o : Nat} (e1 : rowN x.2.2.1 p = some h) (e2 : rowN x.2.2.1 q = some o) (hf : rsF x h (x.2.2.2.1 o) = false) : coR x p q = nI (x.2.2.2.1 o) ∧ coS x p q = ctS (rsT x h (x.2.2.2.1 o)) h (x.2.2.2.2.1 o) := by
  unfold coR coS
  rw [e1, e2]
  simp [hf]
theorem flR_none {x : Ab} {p i n : Int32} (s : Int32) (h : rowN x.2.2.1 p = none) : flR x p i n = 0 ∧ flS x p i n s = x := by unfold flR flS; rw [h]; exact ⟨rfl, rfl⟩
theorem flR_out {x : Ab} {p i n : Int32} {h : Nat} (s : Int32) (e : rowN x.2.2.1 p = some h) (hf : flF x h i n = false) : flR x p i n = 0 ∧ flS x p i n s = x := by
  unfold flR flS
  rw [e]
  simp [hf]
theorem flR_ok {x : Ab} {p : Int32} {h i n : Nat} (s : Int32) (e : rowN x.2.2.1 p = some h) (hM : x.2.2.2.1 h ≤ 16384) (hf : i + n ≤ x.2.2.2.1 h) : flR x p (nI i) (nI n) = 1 ∧ flS x p (nI i) (nI n) s = ctS x h (va_cpy (fv s) (x.2.2.2.2.1 h) 0 i n) := by
  have c1 := nI_clamp (n := i) (by omega)
  have c2 := nI_clamp (n := n) (by omega)
  have f : flF x h (nI i) (nI n) = true := decide_eq_true ⟨nI_pos (by omega), nI_pos (by omega), by rw [c1, c2]; exact hf⟩
  unfold flR flS
  rw [e]
  simp [f, c1, c2]
theorem flF_i {x : Ab} {h : Nat} {i n : Int32} (hi : i < 0) : flF x h i n = false := decide_eq_false (fun q => q.1 hi)
theorem flF_n {x : Ab} {h : Nat} {i n : Int32} (hi : n < 0) : flF x h i n = false := decide_eq_false (fun q => q.2.1 hi)
theorem flF_b {x : Ab} {h i n : Nat} (hi : i < 2 ^ 31) (hn : n < 2 ^ 31) (hf : x.2.2.2.1 h < i + n) : flF x h (nI i) (nI n) = false := decide_eq_false (fun q => by have := q.2.2; rw [nI_clamp hi, nI_clamp hn] at this; omega)
theorem RepA_tk {x : Ab} {u u' : Sh} {hd : Nat → Int32} {L : List Nat} {z : Nat} (hO : Ok x) (hf : ¬ x.1 - x.2.1.length = 20000) (hb : bF hd) (hm : ∀ h, h ∈ L ↔ x.2.2.1 h = true) (hl : lsum (fun h => rnd (x.2.2.2.1 h)) L = x.2.2.2.2.2) (h1 : u'.2.2.2.2.2.2.2.2.2.1 = tkN x.2.1 x.1) (h2 : RepU (L ++ [tkH x.2.1 x.1]) x.2.1.tail (va_up x.2.2.2.1 (tkH x.2.1 x.1) z) (va_up x.2.2.2.2.1 (tkH x.2.1 x.1) (fun _ => 0)) u') :
    RepA (tkN x.2.1 x.1, x.2.1.tail, va_up x.2.2.1 (tkH x.2.1 x.1) true, va_up x.2.2.2.1 (tkH x.2.1 x.1) z, va_up x.2.2.2.2.1 (tkH x.2.1 x.1) (fun _ => 0), x.2.2.2.2.2 + rnd z) u' hd := by
  have hT := tkH_lt hO hf
  have hn : tkH x.2.1 x.1 ∉ L := fun q => by
    have := (hm _).mp q
    rw [hT.2.2.2.1] at this
    cases this
  refine ⟨hb, h1, _, h2, mem_up hm, ?_⟩
  show lsum (fun h => rnd (va_up x.2.2.2.1 (tkH x.2.1 x.1) z h)) (L ++ [tkH x.2.1 x.1]) = x.2.2.2.2.2 + rnd z
  rw [lsum_app, lsum_up hn, hl]
  show _ + (rnd (va_up _ _ _ _) + 0) = _
  rw [va_up_self]
  omega
theorem RepA_gv {x : Ab} {u' : Sh} {hd : Nat → Int32} {L1 L2 : List Nat} {h : Nat} (hb : bF hd) (hnd : (L1 ++ h :: L2).Nodup) (hm : ∀ k, k ∈ L1 ++ h :: L2 ↔ x.2.2.1 k = true) (hl : lsum (fun h => rnd (x.2.2.2.1 h)) (L1 ++ h :: L2) = x.2.2.2.2.2) (h1 : u'.2.2.2.2.2.2.2.2.2.1 = x.1) (h2 : RepU (L1 ++ L2) (h :: x.2.1) x.2.2.2.1 x.2.2.2.2.1 u') :
    RepA (x.1, h :: x.2.1, va_up x.2.2.1 h false, va_up x.2.2.2.1 h 0, x.2.2.2.2.1, x.2.2.2.2.2 - rnd (x.2.2.2.1 h)) u' hd := by
  obtain ⟨n1, n2⟩ := nd_mid hnd
  have hne : ∀ k ∈ L1 ++ L2, k ≠ h := fun k q e => by
    rcases List.mem_append.mp q with q | q
    · exact n1 (e ▸ q)
    · exact n2 (e ▸ q)
  refine ⟨hb, h1, _, RepU_M h2 (fun k q => va_up_ne _ _ (hne k q)), mem_dn hm n1 n2, ?_⟩
  show lsum (fun k => rnd (va_up x.2.2.2.1 h 0 k)) (L1 ++ L2) = x.2.2.2.2.2 - rnd (x.2.2.2.1 h)
  rw [lsum_app, lsum_up n1, lsum_up n2, ← hl, lsum_app]
  show _ = _ + (rnd (x.2.2.2.1 h) + _) - _
  omega
theorem RepA_rs {x : Ab} {u u' : Sh} {hd : Nat → Int32} {L L1 : List Nat} {h z : Nat} (hb : bF hd) (hk : RepU L x.2.1 x.2.2.2.1 x.2.2.2.2.1 u) (hm : ∀ k, k ∈ L ↔ x.2.2.1 k = true) (hl : lsum (fun h => rnd (x.2.2.2.1 h)) L = x.2.2.2.2.2) (hh : h ∈ L) (h1 : u'.2.2.2.2.2.2.2.2.2.1 = x.1) (h2 : RepU L1 x.2.1 (va_up x.2.2.2.1 h z) (rsC x.2.2.2.2.1 h (x.2.2.2.1 h)) u') (h3 : ∀ k, k ∈ L1 ↔ k ∈ L) (h4 : ∀ f, lsum f L1 = lsum f L) : RepA (rsT x h z) u' hd := by
  refine ⟨hb, h1, L1, h2, fun k => (h3 k).trans (hm k), ?_⟩
  show lsum (fun k => rnd (va_up x.2.2.2.1 h z k)) L1 = x.2.2.2.2.2 + rnd z - rnd (x.2.2.2.1 h)
  rw [h4]
  obtain ⟨A, B, rfl⟩ := List.append_of_mem hh
  obtain ⟨n1, n2⟩ := nd_mid hk.1.2.2
  have := lsum_at (M := x.2.2.2.1) (z := z) n1 n2
  omega
/-- n bytes of g laid behind place i of a row -/
theorem wr_row {fb g f : Nat → Int32} {q i n m j : Nat} (hr : ∀ j, j < m → fb (q + j) = f j) (hj : j < m) : va_cpy g fb 0 (q + i) n (q + j) = va_cpy g f 0 i n j := by
  unfold va_cpy
  by_cases h : i ≤ j ∧ j < i + n
  · rw [if_pos h, if_pos (by omega), show 0 + (q + j - (q + i)) = 0 + (j - i) by omega]
  · rw [if_neg h, if_neg (by omega)]
    exact hr j hj
theorem cpy_in0 {f g h : Nat → Int32} {i n j : Nat} (hf : ∀ t, t < n → f t = g t) : va_cpy f h 0 i n j = va_cpy g h 0 i n j := by
  unfold va_cpy
  by_cases c : i ≤ j ∧ j < i + n
  · rw [if_pos c, if_pos c]; exact hf _ (by omega)
  · rw [if_neg c, if_neg c]
theorem cpy_lt {f g : Nat → Int32} {n t : Nat} (ht : t < n) : va_cpy f g 0 0 n t = f t := by
  unfold va_cpy
  rw [if_pos (by omega), show 0 + (t - 0) = t by omega]
end
section
set_option maxHeartbeats 4000000 in
/-- ByteShelf.put -/
theorem c_A_put (l : Launch) (D : va_G) (cB cI cZ : ClassId) (a : Nat → Nat) (fb : Nat → Int32) (pa ps pr : Nat → Nat) (nx la : Nat → Int32) (fi en fr : Int32) (tp : Nat) (hd : Nat → Int32) (n : Nat) (bk : List Nat) (th : Nat → Bool) (M : Nat → Nat) (ct : Nat → Nat → Int32) (pl : Nat) (p0 p1 p2 : Int32) (hO : Ok (n, bk, th, M, ct, pl)) (hR : RepA (n, bk, th, M, ct, pl) (fb, pa, ps, pr, nx, la, fi, en, fr, n, tp) hd) : Met l y_A_put w_A_put (rmL 2) (va_Pc [.ref (a 0), .int p0, .int p1, .int p2] (Wd D cB cI cZ (wA cB cI cZ a fb pa ps pr nx la fi en fr n tp (thI th) hd (n - bk.length) pl))) (Qmi D (fun (z : Int32) (u : UA) => z = ptR (n, bk, th, M, ct, pl) p0 p1 ∧ u.1 = ptS (n, bk, th, M, ct, pl) p0 p1 p2 ∧ RepA u.1 u.2.1 u.2.2) (wAu cB cI cZ a) (wA cB cI cZ a fb pa ps pr nx la fi en fr n tp (thI th) hd (n - bk.length) pl)) 0 0 (inA (wA cB cI cZ a fb pa ps pr nx la fi en fr n tp (thI th) hd (n - bk.length) pl)) := by
  refine entry (by decide) (Nat.le_of_ble_eq_true rfl) ?_
  intro p e s m args below meth c S hr hlocks hin hPre ls hl
  have hx := S.1
  have hb := S.2.1
  have hl : lv_has ls 4 [(0, .ref (a 0)), (1, .int p0), (2, .int p1), (3, .int p2)] := hl
  obtain ⟨hP, hK, hD⟩ := hPre
  have hD := inA_self hD
  have hS : va_S (inA (wA cB cI cZ a fb pa ps pr nx la fi en fr n tp (thI th) hd (n - bk.length) pl)) s.heap s.heap [] := va_S.rf
  have hrw : ∀ k, th k = true → k < n ∧ k < 20000 ∧ M k ≤ 16384 ∧ rnd (M k) ≤ pl ∧ bk.length < n := fun k hk => Ok_row hO hk
  have hrr : ∀ h, th h = true → h < 32000 ∧ ps h = M h ∧ M h ≤ 16384 ∧ M h ≤ pr h ∧ pr h % 8 = 0 ∧ pa h + pr h ≤ 400000 ∧ (∀ i, i < M h → fb (pa h + i) = ct h i) ∧ bF fb := fun h hh => RepA_row hR hh
  have hMl : ∀ k, M k ≤ 16384 := hO.2.2.2.1
  have hpl : pl ≤ 400000 := hO.2.2.2.2.2.2.1
  have hn0 : n ≤ 20000 := hO.1
  have hln : bk.length ≤ n := Ok_len hO
  refine lv_aload_n hx hb d_A_put_0 rfl (lv_at hl 0 rfl) ?_
  refine lv_iload_n hx hb d_A_put_1 rfl (lv_at hl 1 rfl) ?_
  refine lv_iload_n hx hb d_A_put_2 rfl (lv_at hl 2 rfl) ?_
  refine cpV (As := [.int p0, .int p1]) (rest := []) S (c_A_isByte l D cB cI cZ a fb pa ps pr nx la fi en fr tp hd n bk th M ct pl p0 p1 hO hR) (cw_A_57 S.2.2.2.2 ⟨by decide, by decide⟩) hK hP hD hS [0, 1, 2, 3, 4, 5, 6, 7, 8, 9] rfl rfl rfl rfl rfl hl.1 rfl (Nat.le_of_ble_eq_true rfl) d_A_put_3 ⟨by decide, by decide⟩ (fun H locs hP hS => ?_)
  refine lv_if_ne (tgt := 11) hx hb d_A_put_6 (by decide) (fun c1 => ?_) (fun c1 => ?_)
  · obtain ⟨h, j, rfl, ht, rfl, hj, hn, hi⟩ := ibB_t (x := (n, bk, th, M, ct, pl)) (fun k => by have := hMl k; show M k < _; omega) (zb_1 c1)
    have hj : j < M h := hj
    obtain ⟨q1, q2, q3, q4, q5, q6, q8, q9⟩ := hrr h ht
    have hcl := nI_clamp (n := j) (by omega)
    have hg := ibB_ok (x := (n, bk, th, M, ct, pl)) p2 hn hi
    rw [hcl] at hg
    refine lv_aload_n hx hb d_A_put_11 rfl (lv_at hl 0 rfl) ?_
    refine gf_A_shelf S hK hP 0 rfl rfl d_A_put_12 ?_
    refine lv_iload_n hx hb d_A_put_15 rfl (lv_at hl 1 rfl) ?_
    refine lv_iload_n hx hb d_A_put_16 rfl (lv_at hl 2 rfl) ?_
    refine lv_iload_n hx hb d_A_put_17 rfl (lv_at hl 3 rfl) ?_
    refine cmV (As := [.int (nI h), .int (nI j), .int p2]) (rest := []) (wr := [(a 0, .inr (1, [.ref (a 1), .ref (a 8), .ref (a 9), .int (nI (n - bk.length)), .int (nI pl)])), (a 8, .inl (cZ, 20000, .inl (thI th))), (a 9, .inl (cB, 16384, .inl hd))]) S (c_S_set l D cB cI cZ (fun k => a (k + 1)) fb pa ps pr nx la fi en fr n tp h j p2 q1 (by omega)) (cw_A_61 S.2.2.2.2 ⟨by decide, by decide⟩) hK hP hD hS [1, 2, 3, 4, 5, 6, 7] [0, 8, 9] rfl rfl rfl (by decide) rfl rfl rfl hl.1 rfl (Nat.le_of_ble_eq_true rfl) d_A_put_18 ⟨by decide, by decide⟩ (fun u H locs hu hP hS => ?_)
    have hP : va_P D classes (wA cB cI cZ a (upd fb (pa h + j) p2.toInt8.toInt32) pa ps pr nx la fi en fr n tp (thI th) hd (n - bk.length) pl) H := hP.sub [0, 3, 4, 5, 6, 7, 8, 9, 1, 2] rfl
    have hD : va_D (inA (wA cB cI cZ a fb pa ps pr nx la fi en fr n tp (thI th) hd (n - bk.length) pl)) (wA cB cI cZ a (upd fb (pa h + j) p2.toInt8.toInt32) pa ps pr nx la fi en fr n tp (thI th) hd (n - bk.length) pl) := dA hD rfl
    refine lv_iconst (v := 1) hx hb d_A_put_21 (by decide) ?_
    have hA := RepA_ct (x := (n, bk, th, M, ct, pl)) (u := (fb, pa, ps, pr, nx, la, fi, en, fr, n, tp)) (h := h) (fb' := upd fb (pa h + j) p2.toInt8.toInt32) (g := upd (ct h) j p2.toInt8.toInt32) hR ht (fun t hq => pk_un (by have : t < pa h ∨ pa h + pr h ≤ t := hq; omega)) (bF_upd q9 _ _) (fun i hi => by
      show upd fb (pa h + j) _ (pa h + i) = upd (ct h) j _ i
      unfold upd
      by_cases e : i = j
      · rw [if_pos e, if_pos (by omega)]
      · rw [if_neg e, if_neg (by omega)]; exact q8 i hi)
    exact rmZ S hr hlocks rfl (ctS (n, bk, th, M, ct, pl) h (upd (ct h) j p2.toInt8.toInt32), (upd fb (pa h + j) p2.toInt8.toInt32, pa, ps, pr, nx, la, fi, en, fr, n, tp), hd) ⟨hg.1.symm, hg.2.1.symm, hA⟩ hP hS d_A_put_22
  · have hf := ibB_f p2 (zb_0 c1)
    refine lv_iconst (v := 0) hx hb d_A_put_9 (by decide) ?_
    exact rmZ S hr hlocks rfl ((n, bk, th, M, ct, pl), (fb, pa, ps, pr, nx, la, fi, en, fr, n, tp), hd) ⟨hf.1.symm, hf.2.1.symm, hR⟩ hP hS d_A_put_10
set_option maxHeartbeats 4000000 in
/-- ByteShelf.give -/
theorem c_A_give (l : Launch) (D : va_G) (cB cI cZ : ClassId) (a : Nat → Nat) (fb : Nat → Int32) (pa ps pr : Nat → Nat) (nx la : Nat → Int32) (fi en fr : Int32) (tp : Nat) (hd : Nat → Int32) (n : Nat) (bk : List Nat) (th : Nat → Bool) (M : Nat → Nat) (ct : Nat → Nat → Int32) (pl : Nat) (p0 : Int32) (hO : Ok (n, bk, th, M, ct, pl)) (hR : RepA (n, bk, th, M, ct, pl) (fb, pa, ps, pr, nx, la, fi, en, fr, n, tp) hd) : Met l y_A_give w_A_give (rmL 2) (va_Pc [.ref (a 0), .int p0] (Wd D cB cI cZ (wA cB cI cZ a fb pa ps pr nx la fi en fr n tp (thI th) hd (n - bk.length) pl))) (Qmi D (fun (z : Int32) (u : UA) => z = gvR (n, bk, th, M, ct, pl) p0 ∧ u.1 = gvS (n, bk, th, M, ct, pl) p0 ∧ RepA u.1 u.2.1 u.2.2) (wAu cB cI cZ a) (wA cB cI cZ a fb pa ps pr nx la fi en fr n tp (thI th) hd (n - bk.length) pl)) 0 0 (inA (wA cB cI cZ a fb pa ps pr nx la fi en fr n tp (thI th) hd (n - bk.length) pl)) := by
  refine entry (by decide) (Nat.le_of_ble_eq_true rfl) ?_
  intro p e s m args below meth c S hr hlocks hin hPre ls hl
  have hx := S.1
  have hb := S.2.1
  have hl : lv_has ls 2 [(0, .ref (a 0)), (1, .int p0)] := hl
  obtain ⟨hP, hK, hD⟩ := hPre
  have hD := inA_self hD
  have hS : va_S (inA (wA cB cI cZ a fb pa ps pr nx la fi en fr n tp (thI th) hd (n - bk.length) pl)) s.heap s.heap [] := va_S.rf
  have hrw : ∀ k, th k = true → k < n ∧ k < 20000 ∧ M k ≤ 16384 ∧ rnd (M k) ≤ pl ∧ bk.length < n := fun k hk => Ok_row hO hk
  have hrr : ∀ h, th h = true → h < 32000 ∧ ps h = M h ∧ M h ≤ 16384 ∧ M h ≤ pr h ∧ pr h % 8 = 0 ∧ pa h + pr h ≤ 400000 ∧ (∀ i, i < M h → fb (pa h + i) = ct h i) ∧ bF fb := fun h hh => RepA_row hR hh
  have hMl : ∀ k, M k ≤ 16384 := hO.2.2.2.1
  have hpl : pl ≤ 400000 := hO.2.2.2.2.2.2.1
  have hn0 : n ≤ 20000 := hO.1
  have hln : bk.length ≤ n := Ok_len hO
  refine lv_aload_n hx hb d_A_give_0 rfl (lv_at hl 0 rfl) ?_
  refine lv_iload_n hx hb d_A_give_1 rfl (lv_at hl 1 rfl) ?_
  refine cpV (As := [.int p0]) (rest := []) S (c_A_isRow l D cB cI cZ a fb pa ps pr nx la fi en fr n tp hd (n - bk.length) th pl p0 (fun k hk => (hrw k hk).2.1)) (cw_A_43 S.2.2.2.2 ⟨by decide, by decide⟩) hK hP hD hS [0, 1, 2, 3, 4, 5, 6, 7, 8, 9] rfl rfl rfl rfl rfl hl.1 rfl (Nat.le_of_ble_eq_true rfl) d_A_give_2 ⟨by decide, by decide⟩ (fun H locs hP hS => ?_)
  refine lv_if_ne (tgt := 10) hx hb d_A_give_5 (by decide) (fun c1 => ?_) (fun c1 => ?_)
  · obtain ⟨h, hh, rfl, ht, hn⟩ := rowN_some (zb_1 c1)
    have hw := hrw h ht
    obtain ⟨q1, q2, q3, q4, q5, q6, q8, q9⟩ := hrr h ht
    obtain ⟨hbF, -, L, hkS, hmem, hlp⟩ := id hR
    have hkS : RepS L bk M ct fb pa ps pr nx la fi en fr n tp := hkS
    have hmem : ∀ h, h ∈ L ↔ th h = true := hmem
    have hlp : lsum (fun h => rnd (M h)) L = pl := hlp
    refine lv_aload_n hx hb d_A_give_10 rfl (lv_at hl 0 rfl) ?_
    refine lv_dup hx hb d_A_give_11 rfl ?_
    refine gf_A_places S hK hP 0 rfl rfl d_A_give_12 ?_
    refine lv_aload_n hx hb d_A_give_15 rfl (lv_at hl 0 rfl) ?_
    refine gf_A_shelf S hK hP 0 rfl rfl d_A_give_16 ?_
    refine lv_iload_n hx hb d_A_give_19 rfl (lv_at hl 1 rfl) ?_
    refine cpV (As := [.int (nI h)]) (rest := [.int (nI pl), .ref (a 0)]) S (c_S_size l D cB cI cZ (fun k => a (k + 1)) fb pa ps pr nx la fi en fr n tp h q1) (cw_A_46 S.2.2.2.2 ⟨by decide, by decide⟩) hK hP hD hS [1, 2, 3, 4, 5, 6, 7] rfl rfl rfl rfl rfl hl.1 rfl (Nat.le_of_ble_eq_true rfl) d_A_give_20 ⟨by decide, by decide⟩ (fun H locs hP hS => ?_)
    refine tpE (y := nI (M h)) (by rw [q2]) ?_
    refine cpS (As := [.int (nI (M h))]) (rest := [.int (nI pl), .ref (a 0)]) S (c_A_rounded l (M h) (by omega)) (cw_A_35 S.2.2.2.2 ⟨by decide, by decide⟩) hP hS rfl hl.1 rfl (Nat.le_of_ble_eq_true rfl) d_A_give_23 ⟨by decide, by decide⟩ (fun H locs hP hS => ?_)
    refine lv_isub hx hb d_A_give_26 ?_
    refine tpE (y := nI (pl - rnd (M h))) (pk_sub hw.2.2.2.1) ?_
    refine pf_A_places S hK hP hD hS 0 rfl (Nat.le_of_ble_eq_true rfl) d_A_give_27 (fun H locs hP hD hS => ?_)
    have hP : va_P D classes (wA cB cI cZ a fb pa ps pr nx la fi en fr n tp (thI th) hd (n - bk.length) (pl - rnd (M h))) H := hP
    have hD : va_D (inA (wA cB cI cZ a fb pa ps pr nx la fi en fr n tp (thI th) hd (n - bk.length) pl)) (wA cB cI cZ a fb pa ps pr nx la fi en fr n tp (thI th) hd (n - bk.length) (pl - rnd (M h))) := hD
    refine lv_aload_n hx hb d_A_give_30 rfl (lv_at hl 0 rfl) ?_
    refine lv_dup hx hb d_A_give_31 rfl ?_
    refine gf_A_rows S hK hP 0 rfl rfl d_A_give_32 ?_
    refine lv_iconst (v := (nI 1)) hx hb d_A_give_35 (by decide) ?_
    refine lv_isub hx hb d_A_give_36 ?_
    refine tpE (y := nI (n - (h :: bk).length)) (by rw [pk_sub (by have := hw.2.2.2.2; omega), Nat.sub_sub]; rfl) ?_
    refine pf_A_rows S hK hP hD hS 0 rfl (Nat.le_of_ble_eq_true rfl) d_A_give_37 (fun H locs hP hD hS => ?_)
    have hP : va_P D classes (wA cB cI cZ a fb pa ps pr nx la fi en fr n tp (thI th) hd (n - (h :: bk).length) (pl - rnd (M h))) H := hP
    have hD : va_D (inA (wA cB cI cZ a fb pa ps pr nx la fi en fr n tp (thI th) hd (n - bk.length) pl)) (wA cB cI cZ a fb pa ps pr nx la fi en fr n tp (thI th) hd (n - (h :: bk).length) (pl - rnd (M h))) := hD
    refine lv_aload_n hx hb d_A_give_40 rfl (lv_at hl 0 rfl) ?_
    refine gf_A_there S hK hP 0 rfl rfl d_A_give_41 ?_
    refine lv_iload_n hx hb d_A_give_44 rfl (lv_at hl 1 rfl) ?_
    refine lv_iconst (v := (zb false)) hx hb d_A_give_45 (by decide) ?_
    refine stZ S hK hP hD hS 8 rfl h rfl hw.2.1 (g := thI (va_up th h false)) (thI_up th h false) d_A_give_46 (fun H locs hP hD hS => ?_)
    have hP : va_P D classes (wA cB cI cZ a fb pa ps pr nx la fi en fr n tp (thI (va_up th h false)) hd (n - (h :: bk).length) (pl - rnd (M h))) H := hP
    have hD : va_D (inA (wA cB cI cZ a fb pa ps pr nx la fi en fr n tp (thI th) hd (n - bk.length) pl)) (wA cB cI cZ a fb pa ps pr nx la fi en fr n tp (thI (va_up th h false)) hd (n - (h :: bk).length) (pl - rnd (M h))) := hD
    refine lv_aload_n hx hb d_A_give_47 rfl (lv_at hl 0 rfl) ?_
    refine gf_A_shelf S hK hP 0 rfl rfl d_A_give_48 ?_
    refine lv_iload_n hx hb d_A_give_51 rfl (lv_at hl 1 rfl) ?_
    obtain ⟨L1, L2, rfl⟩ := RepS_mem hkS ((hmem h).mpr ht)
    refine cmV (As := [.int (nI h)]) (rest := []) (wr := [(a 0, .inr (1, [.ref (a 1), .ref (a 8), .ref (a 9), .int (nI (n - (h :: bk).length)), .int (nI (pl - rnd (M h)))])), (a 8, .inl (cZ, 20000, .inl (thI (va_up th h false)))), (a 9, .inl (cB, 16384, .inl hd))]) S (c_S_free l D cB cI cZ (fun k => a (k + 1)) fb pa ps pr nx la fi en fr n tp L1 L2 bk M ct h hkS) (cw_A_49 S.2.2.2.2 ⟨by decide, by decide⟩) hK hP hD hS [1, 2, 3, 4, 5, 6, 7] [0, 8, 9] rfl rfl rfl (by decide) rfl rfl rfl hl.1 rfl (Nat.le_of_ble_eq_true rfl) d_A_give_52 ⟨by decide, by decide⟩ (fun u H locs hu hP hS => ?_)
    obtain ⟨fb1, pa1, ps1, pr1, nx1, la1, fi1, en1, fr1, mn1, tp1⟩ := u
    have hP : va_P D classes (wA cB cI cZ a fb1 pa1 ps1 pr1 nx1 la1 fi1 en1 fr1 mn1 tp1 (thI (va_up th h false)) hd (n - (h :: bk).length) (pl - rnd (M h))) H := hP.sub [0, 3, 4, 5, 6, 7, 8, 9, 1, 2] rfl
    have hD : va_D (inA (wA cB cI cZ a fb pa ps pr nx la fi en fr n tp (thI th) hd (n - bk.length) pl)) (wA cB cI cZ a fb1 pa1 ps1 pr1 nx1 la1 fi1 en1 fr1 mn1 tp1 (thI (va_up th h false)) hd (n - (h :: bk).length) (pl - rnd (M h))) := dA hD rfl
    refine lv_iconst (v := 1) hx hb d_A_give_55 (by decide) ?_
    have hg := gvR_ok (x := (n, bk, th, M, ct, pl)) hn
    have hA := RepA_gv (x := (n, bk, th, M, ct, pl)) (u' := (fb1, pa1, ps1, pr1, nx1, la1, fi1, en1, fr1, mn1, tp1)) hbF hkS.1.2.2 hmem hlp hu.1 hu.2
    exact rmZ S hr hlocks rfl ((n, h :: bk, va_up th h false, va_up M h 0, ct, pl - rnd (M h)), (fb1, pa1, ps1, pr1, nx1, la1, fi1, en1, fr1, mn1, tp1), hd) ⟨hg.1.symm, hg.2.symm, hA⟩ hP hS d_A_give_56
  · have hn := isN (zb_0 c1)
    refine lv_iconst (v := 0) hx hb d_A_give_8 (by decide) ?_
    have hf := gvR_none (x := (n, bk, th, M, ct, pl)) hn
    exact rmZ S hr hlocks rfl ((n, bk, th, M, ct, pl), (fb, pa, ps, pr, nx, la, fi, en, fr, n, tp), hd) ⟨hf.1.symm, hf.2.symm, hR⟩ hP hS d_A_give_9
set_option maxHeartbeats 4000000 in
/-- ByteShelf.take -/
theorem c_A_take (l : Launch) (D : va_G) (cB cI cZ : ClassId) (a : Nat → Nat) (fb : Nat → Int32) (pa ps pr : Nat → Nat) (nx la : Nat → Int32) (fi en fr : Int32) (tp : Nat) (hd : Nat → Int32) (n : Nat) (bk : List Nat) (th : Nat → Bool) (M : Nat → Nat) (ct : Nat → Nat → Int32) (pl : Nat) (p0 : Int32) (hO : Ok (n, bk, th, M, ct, pl)) (hR : RepA (n, bk, th, M, ct, pl) (fb, pa, ps, pr, nx, la, fi, en, fr, n, tp) hd) : Met l y_A_take w_A_take (rmL 4) (va_Pc [.ref (a 0), .int p0] (Wd D cB cI cZ (wA cB cI cZ a fb pa ps pr nx la fi en fr n tp (thI th) hd (n - bk.length) pl))) (Qmi D (fun (z : Int32) (u : UA) => z = tkR (n, bk, th, M, ct, pl) p0 ∧ u.1 = tkS (n, bk, th, M, ct, pl) p0 ∧ RepA u.1 u.2.1 u.2.2) (wAu cB cI cZ a) (wA cB cI cZ a fb pa ps pr nx la fi en fr n tp (thI th) hd (n - bk.length) pl)) 0 0 (inA (wA cB cI cZ a fb pa ps pr nx la fi en fr n tp (thI th) hd (n - bk.length) pl)) := by
  refine entry (by decide) (Nat.le_of_ble_eq_true rfl) ?_
  intro p e s m args below meth c S hr hlocks hin hPre ls hl
  have hx := S.1
  have hb := S.2.1
  have hl : lv_has ls 3 [(0, .ref (a 0)), (1, .int p0)] := hl
  obtain ⟨hP, hK, hD⟩ := hPre
  have hD := inA_self hD
  have hS : va_S (inA (wA cB cI cZ a fb pa ps pr nx la fi en fr n tp (thI th) hd (n - bk.length) pl)) s.heap s.heap [] := va_S.rf
  have hrw : ∀ k, th k = true → k < n ∧ k < 20000 ∧ M k ≤ 16384 ∧ rnd (M k) ≤ pl ∧ bk.length < n := fun k hk => Ok_row hO hk
  have hrr : ∀ h, th h = true → h < 32000 ∧ ps h = M h ∧ M h ≤ 16384 ∧ M h ≤ pr h ∧ pr h % 8 = 0 ∧ pa h + pr h ≤ 400000 ∧ (∀ i, i < M h → fb (pa h + i) = ct h i) ∧ bF fb := fun h hh => RepA_row hR hh
  have hMl : ∀ k, M k ≤ 16384 := hO.2.2.2.1
  have hpl : pl ≤ 400000 := hO.2.2.2.2.2.2.1
  have hn0 : n ≤ 20000 := hO.1
  have hln : bk.length ≤ n := Ok_len hO
  refine lv_iload_n hx hb d_A_take_0 rfl (lv_at hl 1 rfl) ?_
  refine cpS (As := [.int p0]) (rest := []) S (c_A_isSize l p0) (cw_A_24 S.2.2.2.2 ⟨by decide, by decide⟩) hP hS rfl hl.1 rfl (Nat.le_of_ble_eq_true rfl) d_A_take_1 ⟨by decide, by decide⟩ (fun H locs hP hS => ?_)
  refine lv_if_ne (tgt := 9) hx hb d_A_take_4 (by decide) (fun c1 => ?_) (fun c1 => ?_)
  · obtain ⟨z, hz, rfl, hs⟩ := sizeN_some (zb_1 c1)
    obtain ⟨hbF, -, L, hkS, hmem, hlp⟩ := id hR
    have hkS : RepS L bk M ct fb pa ps pr nx la fi en fr n tp := hkS
    have hmem : ∀ h, h ∈ L ↔ th h = true := hmem
    have hlp : lsum (fun h => rnd (M h)) L = pl := hlp
    refine lv_aload_n hx hb d_A_take_9 rfl (lv_at hl 0 rfl) ?_
    refine gf_A_rows S hK hP 0 rfl rfl d_A_take_10 ?_
    refine lv_sipush (v := (nI 20000)) hx hb d_A_take_13 (by decide) ?_
    refine lv_icmp_eq (tgt := 33) hx hb d_A_take_16 (by decide) (fun c2 => ?_) (fun c2 => ?_)
    · have h20 : n - bk.length = 20000 := (nI_eq (by omega) (by decide)).mp c2
      refine lv_bipush (v := (-2)) hx hb d_A_take_33 (by decide) ?_
      have hf := tkR_full (x := (n, bk, th, M, ct, pl)) hs (Or.inl h20)
      exact rmI S hr hlocks ((n, bk, th, M, ct, pl), (fb, pa, ps, pr, nx, la, fi, en, fr, n, tp), hd) ⟨hf.1.symm, hf.2.symm, hR⟩ hP hS d_A_take_35
    · have h20 : ¬ n - bk.length = 20000 := fun q => c2 (by rw [q])
      have hT := tkH_lt hO h20
      have hT1 : tkH bk n < 20000 := hT.1
      have hT5 : tkN bk n - bk.tail.length = n - bk.length + 1 := hT.2.2.2.2.1
      refine lv_aload_n hx hb d_A_take_19 rfl (lv_at hl 0 rfl) ?_
      refine gf_A_places S hK hP 0 rfl rfl d_A_take_20 ?_
      refine lv_iload_n hx hb d_A_take_23 rfl (lv_at hl 1 rfl) ?_
      refine cpS (As := [.int (nI z)]) (rest := [.int (nI pl)]) S (c_A_rounded l z (by omega)) (cw_A_35 S.2.2.2.2 ⟨by decide, by decide⟩) hP hS rfl hl.1 rfl (Nat.le_of_ble_eq_true rfl) d_A_take_24 ⟨by decide, by decide⟩ (fun H locs hP hS => ?_)
      refine lv_iadd hx hb d_A_take_27 ?_
      refine tpE (y := nI (pl + rnd z)) (nI_add _ _) ?_
      refine lv_ldc (v := 400000) hx hb S.2.2.2.1 (S.2.2.2.2 _ k_k_A_39) d_A_take_28 ?_
      have hrz := rnd_lt z
      refine lv_icmp_le (tgt := 36) hx hb d_A_take_30 (by decide) (fun c3 => ?_) (fun c3 => ?_)
      · have hq : pl + rnd z ≤ 400000 := (nI_leI (by omega) (by decide)).mp c3
        refine lv_aload_n hx hb d_A_take_36 rfl (lv_at hl 0 rfl) ?_
        refine gf_A_shelf S hK hP 0 rfl rfl d_A_take_37 ?_
        refine lv_iload_n hx hb d_A_take_40 rfl (lv_at hl 1 rfl) ?_
        refine cmI (As := [.int (nI z)]) (rest := []) (wr := [(a 0, .inr (1, [.ref (a 1), .ref (a 8), .ref (a 9), .int (nI (n - bk.length)), .int (nI pl)])), (a 8, .inl (cZ, 20000, .inl (thI th))), (a 9, .inl (cB, 16384, .inl hd))]) S (c_S_take l D cB cI cZ (fun k => a (k + 1)) fb pa ps pr nx la fi en fr n tp L bk M ct z hkS hz (by rw [hlp]; exact hq) hT.2.2.2.2.2 (fun k hk => (hO.2.1 k hk).1)) (cw_A_40 S.2.2.2.2 ⟨by decide, by decide⟩) hK hP hD hS [1, 2, 3, 4, 5, 6, 7] [0, 8, 9] rfl rfl rfl (by decide) rfl rfl rfl hl.1 rfl (Nat.le_of_ble_eq_true rfl) d_A_take_41 ⟨by decide, by decide⟩ (fun r u H locs hu hP hS => ?_)
        obtain ⟨fb1, pa1, ps1, pr1, nx1, la1, fi1, en1, fr1, mn1, tp1⟩ := u
        obtain ⟨hu1, hu2, hu3⟩ := hu
        have hP : va_P D classes (wA cB cI cZ a fb1 pa1 ps1 pr1 nx1 la1 fi1 en1 fr1 mn1 tp1 (thI th) hd (n - bk.length) pl) H := hP.sub [0, 3, 4, 5, 6, 7, 8, 9, 1, 2] rfl
        have hD : va_D (inA (wA cB cI cZ a fb pa ps pr nx la fi en fr n tp (thI th) hd (n - bk.length) pl)) (wA cB cI cZ a fb1 pa1 ps1 pr1 nx1 la1 fi1 en1 fr1 mn1 tp1 (thI th) hd (n - bk.length) pl) := dA hD rfl
        subst hu1
        refine lv_istore_n (lv' := [(2, .int (nI (tkH bk n))), (0, .ref (a 0)), (1, .int (nI z))]) hx hb d_A_take_44 rfl hl (by decide) rfl (fun ls hl => ?_)
        refine lv_aload_n hx hb d_A_take_45 rfl (lv_at hl 1 rfl) ?_
        refine gf_A_there S hK hP 0 rfl rfl d_A_take_46 ?_
        refine lv_iload_n hx hb d_A_take_49 rfl (lv_at hl 0 rfl) ?_
        refine lv_iconst (v := (zb true)) hx hb d_A_take_50 (by decide) ?_
        refine stZ S hK hP hD hS 8 rfl (tkH bk n) rfl hT1 (g := thI (va_up th (tkH bk n) true)) (thI_up th _ true) d_A_take_51 (fun H locs hP hD hS => ?_)
        have hP : va_P D classes (wA cB cI cZ a fb1 pa1 ps1 pr1 nx1 la1 fi1 en1 fr1 mn1 tp1 (thI (va_up th (tkH bk n) true)) hd (n - bk.length) pl) H := hP
        have hD : va_D (inA (wA cB cI cZ a fb pa ps pr nx la fi en fr n tp (thI th) hd (n - bk.length) pl)) (wA cB cI cZ a fb1 pa1 ps1 pr1 nx1 la1 fi1 en1 fr1 mn1 tp1 (thI (va_up th (tkH bk n) true)) hd (n - bk.length) pl) := hD
        refine lv_aload_n hx hb d_A_take_52 rfl (lv_at hl 1 rfl) ?_
        refine lv_dup hx hb d_A_take_53 rfl ?_
        refine gf_A_rows S hK hP 0 rfl rfl d_A_take_54 ?_
        refine lv_iconst (v := 1) hx hb d_A_take_57 (by decide) ?_
        refine lv_iadd hx hb d_A_take_58 ?_
        refine tpE (y := nI (tkN bk n - bk.tail.length)) (by rw [nI_1, hT5]) ?_
        refine pf_A_rows S hK hP hD hS 0 rfl (Nat.le_of_ble_eq_true rfl) d_A_take_59 (fun H locs hP hD hS => ?_)
        have hP : va_P D classes (wA cB cI cZ a fb1 pa1 ps1 pr1 nx1 la1 fi1 en1 fr1 mn1 tp1 (thI (va_up th (tkH bk n) true)) hd (tkN bk n - bk.tail.length) pl) H := hP
        have hD : va_D (inA (wA cB cI cZ a fb pa ps pr nx la fi en fr n tp (thI th) hd (n - bk.length) pl)) (wA cB cI cZ a fb1 pa1 ps1 pr1 nx1 la1 fi1 en1 fr1 mn1 tp1 (thI (va_up th (tkH bk n) true)) hd (tkN bk n - bk.tail.length) pl) := hD
        refine lv_aload_n hx hb d_A_take_62 rfl (lv_at hl 1 rfl) ?_
        refine lv_dup hx hb d_A_take_63 rfl ?_
        refine gf_A_places S hK hP 0 rfl rfl d_A_take_64 ?_
        refine lv_iload_n hx hb d_A_take_67 rfl (lv_at hl 2 rfl) ?_
        refine cpS (As := [.int (nI z)]) (rest := [.int (nI pl), .ref (a 0)]) S (c_A_rounded l z (by omega)) (cw_A_35 S.2.2.2.2 ⟨by decide, by decide⟩) hP hS rfl hl.1 rfl (Nat.le_of_ble_eq_true rfl) d_A_take_68 ⟨by decide, by decide⟩ (fun H locs hP hS => ?_)
        refine lv_iadd hx hb d_A_take_71 ?_
        refine tpE (y := nI (pl + rnd z)) (nI_add _ _) ?_
        refine pf_A_places S hK hP hD hS 0 rfl (Nat.le_of_ble_eq_true rfl) d_A_take_72 (fun H locs hP hD hS => ?_)
        have hP : va_P D classes (wA cB cI cZ a fb1 pa1 ps1 pr1 nx1 la1 fi1 en1 fr1 mn1 tp1 (thI (va_up th (tkH bk n) true)) hd (tkN bk n - bk.tail.length) (pl + rnd z)) H := hP
        have hD : va_D (inA (wA cB cI cZ a fb pa ps pr nx la fi en fr n tp (thI th) hd (n - bk.length) pl)) (wA cB cI cZ a fb1 pa1 ps1 pr1 nx1 la1 fi1 en1 fr1 mn1 tp1 (thI (va_up th (tkH bk n) true)) hd (tkN bk n - bk.tail.length) (pl + rnd z)) := hD
        refine lv_iload_n hx hb d_A_take_75 rfl (lv_at hl 0 rfl) ?_
        have hg := tkR_ok (x := (n, bk, th, M, ct, pl)) hs h20 hq
        have hA := RepA_tk (x := (n, bk, th, M, ct, pl)) (u := (fb, pa, ps, pr, nx, la, fi, en, fr, n, tp)) (u' := (fb1, pa1, ps1, pr1, nx1, la1, fi1, en1, fr1, mn1, tp1)) hO h20 hbF hmem hlp hu2 hu3
        exact rmI S hr hlocks ((tkN bk n, bk.tail, va_up th (tkH bk n) true, va_up M (tkH bk n) z, va_up ct (tkH bk n) (fun _ => 0), pl + rnd z), (fb1, pa1, ps1, pr1, nx1, la1, fi1, en1, fr1, mn1, tp1), hd) ⟨hg.1.symm, hg.2.symm, hA⟩ hP hS d_A_take_76
      · have hq : 400000 < pl + rnd z := Nat.lt_of_not_le (fun q => c3 (nI_le (b := 400000) q (by decide)))
        refine lv_bipush (v := (-2)) hx hb d_A_take_33 (by decide) ?_
        have hf := tkR_full (x := (n, bk, th, M, ct, pl)) hs (Or.inr hq)
        exact rmI S hr hlocks ((n, bk, th, M, ct, pl), (fb, pa, ps, pr, nx, la, fi, en, fr, n, tp), hd) ⟨hf.1.symm, hf.2.symm, hR⟩ hP hS d_A_take_35
  · have hs := isN (zb_0 c1)
    refine lv_iconst (v := (-1)) hx hb d_A_take_7 (by decide) ?_
    have hf := tkR_none (x := (n, bk, th, M, ct, pl)) hs
    exact rmI S hr hlocks ((n, bk, th, M, ct, pl), (fb, pa, ps, pr, nx, la, fi, en, fr, n, tp), hd) ⟨hf.1.symm, hf.2.symm, hR⟩ hP hS d_A_take_8
set_option maxHeartbeats 4000000 in
/-- ByteShelf.resize -/
theorem c_A_resize (l : Launch) (D : va_G) (cB cI cZ : ClassId) (a : Nat → Nat) (fb : Nat → Int32) (pa ps pr : Nat → Nat) (nx la : Nat → Int32) (fi en fr : Int32) (tp : Nat) (hd : Nat → Int32) (n : Nat) (bk : List Nat) (th : Nat → Bool) (M : Nat → Nat) (ct : Nat → Nat → Int32) (pl : Nat) (p0 p1 : Int32) (hO : Ok (n, bk, th, M, ct, pl)) (hR : RepA (n, bk, th, M, ct, pl) (fb, pa, ps, pr, nx, la, fi, en, fr, n, tp) hd) : Met l y_A_resize w_A_resize (rmL 4) (va_Pc [.ref (a 0), .int p0, .int p1] (Wd D cB cI cZ (wA cB cI cZ a fb pa ps pr nx la fi en fr n tp (thI th) hd (n - bk.length) pl))) (Qmi D (fun (z : Int32) (u : UA) => z = rsR (n, bk, th, M, ct, pl) p0 p1 ∧ u.1 = rsS (n, bk, th, M, ct, pl) p0 p1 ∧ RepA u.1 u.2.1 u.2.2 ∧ u.2.2 = hd) (wAu cB cI cZ a) (wA cB cI cZ a fb pa ps pr nx la fi en fr n tp (thI th) hd (n - bk.length) pl)) 0 0 (inA (wA cB cI cZ a fb pa ps pr nx la fi en fr n tp (thI th) hd (n - bk.length) pl)) := by
  refine entry (by decide) (Nat.le_of_ble_eq_true rfl) ?_
  intro p e s m args below meth c S hr hlocks hin hPre ls hl
  have hx := S.1
  have hb := S.2.1
  have hl : lv_has ls 4 [(0, .ref (a 0)), (1, .int p0), (2, .int p1)] := hl
  obtain ⟨hP, hK, hD⟩ := hPre
  have hD := inA_self hD
  have hS : va_S (inA (wA cB cI cZ a fb pa ps pr nx la fi en fr n tp (thI th) hd (n - bk.length) pl)) s.heap s.heap [] := va_S.rf
  have hrw : ∀ k, th k = true → k < n ∧ k < 20000 ∧ M k ≤ 16384 ∧ rnd (M k) ≤ pl ∧ bk.length < n := fun k hk => Ok_row hO hk
  have hrr : ∀ h, th h = true → h < 32000 ∧ ps h = M h ∧ M h ≤ 16384 ∧ M h ≤ pr h ∧ pr h % 8 = 0 ∧ pa h + pr h ≤ 400000 ∧ (∀ i, i < M h → fb (pa h + i) = ct h i) ∧ bF fb := fun h hh => RepA_row hR hh
  have hMl : ∀ k, M k ≤ 16384 := hO.2.2.2.1
  have hpl : pl ≤ 400000 := hO.2.2.2.2.2.2.1
  have hn0 : n ≤ 20000 := hO.1
  have hln : bk.length ≤ n := Ok_len hO
  refine lv_aload_n hx hb d_A_resize_0 rfl (lv_at hl 0 rfl) ?_
  refine lv_iload_n hx hb d_A_resize_1 rfl (lv_at hl 1 rfl) ?_
  refine cpV (As := [.int p0]) (rest := []) S (c_A_isRow l D cB cI cZ a fb pa ps pr nx la fi en fr n tp hd (n - bk.length) th pl p0 (fun k hk => (hrw k hk).2.1)) (cw_A_43 S.2.2.2.2 ⟨by decide, by decide⟩) hK hP hD hS [0, 1, 2, 3, 4, 5, 6, 7, 8, 9] rfl rfl rfl rfl rfl hl.1 rfl (Nat.le_of_ble_eq_true rfl) d_A_resize_2 ⟨by decide, by decide⟩ (fun H locs hP hS => ?_)
  refine lv_if_eq (tgt := 15) hx hb d_A_resize_5 (by decide) (fun c1 => ?_) (fun c1 => ?_)
  · have hn := isN (zb_0 c1)
    refine lv_iconst (v := (-1)) hx hb d_A_resize_15 (by decide) ?_
    have hf := rsR_none (x := (n, bk, th, M, ct, pl)) (p := p0) (q := p1) (Or.inl hn)
    exact rmI S hr hlocks ((n, bk, th, M, ct, pl), (fb, pa, ps, pr, nx, la, fi, en, fr, n, tp), hd) ⟨hf.1.symm, hf.2.symm, hR, rfl⟩ hP hS d_A_resize_16
  · obtain ⟨h, hh, rfl, ht, hn⟩ := rowN_some (zb_1 c1)
    have hw := hrw h ht
    obtain ⟨q1, q2, q3, q4, q5, q6, q8, q9⟩ := hrr h ht
    obtain ⟨hbF, -, L, hkS, hmem, hlp⟩ := id hR
    have hkS : RepS L bk M ct fb pa ps pr nx la fi en fr n tp := hkS
    have hmem : ∀ h, h ∈ L ↔ th h = true := hmem
    have hlp : lsum (fun h => rnd (M h)) L = pl := hlp
    refine lv_iload_n hx hb d_A_resize_8 rfl (lv_at hl 2 rfl) ?_
    refine cpS (As := [.int p1]) (rest := []) S (c_A_isSize l p1) (cw_A_24 S.2.2.2.2 ⟨by decide, by decide⟩) hP hS rfl hl.1 rfl (Nat.le_of_ble_eq_true rfl) d_A_resize_9 ⟨by decide, by decide⟩ (fun H locs hP hS => ?_)
    refine lv_if_ne (tgt := 17) hx hb d_A_resize_12 (by decide) (fun c2 => ?_) (fun c2 => ?_)
    · obtain ⟨z, hz, rfl, hs⟩ := sizeN_some (zb_1 c2)
      have hrz := rnd_lt z
      have hrm := rnd_lt (M h)
      have hrp : rnd (M h) ≤ pr h := rnd_of q4 q5
      have hrl := rnd_le z
      have hw4 := hw.2.2.2.1
      refine lv_aload_n hx hb d_A_resize_17 rfl (lv_at hl 0 rfl) ?_
      refine gf_A_shelf S hK hP 0 rfl rfl d_A_resize_18 ?_
      refine lv_iload_n hx hb d_A_resize_21 rfl (lv_at hl 1 rfl) ?_
      refine cpV (As := [.int (nI h)]) (rest := []) S (c_S_size l D cB cI cZ (fun k => a (k + 1)) fb pa ps pr nx la fi en fr n tp h q1) (cw_A_46 S.2.2.2.2 ⟨by decide, by decide⟩) hK hP hD hS [1, 2, 3, 4, 5, 6, 7] rfl rfl rfl rfl rfl hl.1 rfl (Nat.le_of_ble_eq_true rfl) d_A_resize_22 ⟨by decide, by decide⟩ (fun H locs hP hS => ?_)
      refine tpE (y := nI (M h)) (by rw [q2]) ?_
      refine cpS (As := [.int (nI (M h))]) (rest := []) S (c_A_rounded l (M h) (by omega)) (cw_A_35 S.2.2.2.2 ⟨by decide, by decide⟩) hP hS rfl hl.1 rfl (Nat.le_of_ble_eq_true rfl) d_A_resize_25 ⟨by decide, by decide⟩ (fun H locs hP hS => ?_)
      refine lv_istore_n (lv' := [(3, .int (nI (rnd (M h)))), (0, .ref (a 0)), (1, .int (nI h)), (2, .int (nI z))]) hx hb d_A_resize_28 rfl hl (by decide) rfl (fun ls hl => ?_)
      refine lv_iload_n hx hb d_A_resize_29 rfl (lv_at hl 3 rfl) ?_
      refine cpS (As := [.int (nI z)]) (rest := []) S (c_A_rounded l z (by omega)) (cw_A_35 S.2.2.2.2 ⟨by decide, by decide⟩) hP hS rfl hl.1 rfl (Nat.le_of_ble_eq_true rfl) d_A_resize_30 ⟨by decide, by decide⟩ (fun H locs hP hS => ?_)
      refine lv_iload_n hx hb d_A_resize_33 rfl (lv_at hl 0 rfl) ?_
      refine lv_icmp_le (tgt := 54) hx hb d_A_resize_34 (by decide) (fun c3 => ?_) (fun c3 => ?_)
      · have hle : rnd z ≤ rnd (M h) := (nI_leI (by omega) (by omega)).mp c3
        have hr0 : pr h < z → lsum (fun h => rnd (M h)) L + rnd z ≤ 400000 := fun q => by omega
        have hff : rnd (M h) < rnd z → pl + rnd z ≤ 400000 := fun q => by omega
        refine lv_aload_n hx hb d_A_resize_54 rfl (lv_at hl 1 rfl) ?_
        refine lv_dup hx hb d_A_resize_55 rfl ?_
        refine gf_A_places S hK hP 0 rfl rfl d_A_resize_56 ?_
        refine lv_iload_n hx hb d_A_resize_59 rfl (lv_at hl 3 rfl) ?_
        refine cpS (As := [.int (nI z)]) (rest := [.int (nI pl), .ref (a 0)]) S (c_A_rounded l z (by omega)) (cw_A_35 S.2.2.2.2 ⟨by decide, by decide⟩) hP hS rfl hl.1 rfl (Nat.le_of_ble_eq_true rfl) d_A_resize_60 ⟨by decide, by decide⟩ (fun H locs hP hS => ?_)
        refine lv_iload_n hx hb d_A_resize_63 rfl (lv_at hl 0 rfl) ?_
        refine lv_isub hx hb d_A_resize_64 ?_
        refine lv_iadd hx hb d_A_resize_65 ?_
        refine tpE (y := nI (pl + rnd z - rnd (M h))) (adsub (by omega)) ?_
        refine pf_A_places S hK hP hD hS 0 rfl (Nat.le_of_ble_eq_true rfl) d_A_resize_66 (fun H locs hP hD hS => ?_)
        have hP : va_P D classes (wA cB cI cZ a fb pa ps pr nx la fi en fr n tp (thI th) hd (n - bk.length) (pl + rnd z - rnd (M h))) H := hP
        have hD : va_D (inA (wA cB cI cZ a fb pa ps pr nx la fi en fr n tp (thI th) hd (n - bk.length) pl)) (wA cB cI cZ a fb pa ps pr nx la fi en fr n tp (thI th) hd (n - bk.length) (pl + rnd z - rnd (M h))) := hD
        refine lv_aload_n hx hb d_A_resize_69 rfl (lv_at hl 1 rfl) ?_
        refine gf_A_shelf S hK hP 0 rfl rfl d_A_resize_70 ?_
        refine lv_iload_n hx hb d_A_resize_73 rfl (lv_at hl 2 rfl) ?_
        refine lv_iload_n hx hb d_A_resize_74 rfl (lv_at hl 3 rfl) ?_
        refine cmV (As := [.int (nI h), .int (nI z)]) (rest := []) (wr := [(a 0, .inr (1, [.ref (a 1), .ref (a 8), .ref (a 9), .int (nI (n - bk.length)), .int (nI (pl + rnd z - rnd (M h)))])), (a 8, .inl (cZ, 20000, .inl (thI th))), (a 9, .inl (cB, 16384, .inl hd))]) S (c_S_resize l D cB cI cZ (fun k => a (k + 1)) fb pa ps pr nx la fi en fr n tp L bk M ct h z hkS ((hmem h).mpr ht) hz hr0) (cw_A_53 S.2.2.2.2 ⟨by decide, by decide⟩) hK hP hD hS [1, 2, 3, 4, 5, 6, 7] [0, 8, 9] rfl rfl rfl (by decide) rfl rfl rfl hl.1 rfl (Nat.le_of_ble_eq_true rfl) d_A_resize_75 ⟨by decide, by decide⟩ (fun u H locs hu hP hS => ?_)
        obtain ⟨fb1, pa1, ps1, pr1, nx1, la1, fi1, en1, fr1, mn1, tp1⟩ := u
        have hP : va_P D classes (wA cB cI cZ a fb1 pa1 ps1 pr1 nx1 la1 fi1 en1 fr1 mn1 tp1 (thI th) hd (n - bk.length) (pl + rnd z - rnd (M h))) H := hP.sub [0, 3, 4, 5, 6, 7, 8, 9, 1, 2] rfl
        have hD : va_D (inA (wA cB cI cZ a fb pa ps pr nx la fi en fr n tp (thI th) hd (n - bk.length) pl)) (wA cB cI cZ a fb1 pa1 ps1 pr1 nx1 la1 fi1 en1 fr1 mn1 tp1 (thI th) hd (n - bk.length) (pl + rnd z - rnd (M h))) := dA hD rfl
        refine lv_iload_n hx hb d_A_resize_78 rfl (lv_at hl 3 rfl) ?_
        have hf : rsF (n, bk, th, M, ct, pl) h z = false := decide_eq_false (fun q => by have q1 : rnd (M h) < rnd z := q.1; have q2 : 400000 < pl + rnd z := q.2; omega)
        have hg := rsR_ok (x := (n, bk, th, M, ct, pl)) hn hs hf
        obtain ⟨hu1, L1, hu2, hu3, hu4⟩ := hu
        have hA := RepA_rs (x := (n, bk, th, M, ct, pl)) (u := (fb, pa, ps, pr, nx, la, fi, en, fr, n, tp)) (u' := (fb1, pa1, ps1, pr1, nx1, la1, fi1, en1, fr1, mn1, tp1)) hbF hkS hmem hlp ((hmem h).mpr ht) hu1 hu2 hu3 hu4
        exact rmI S hr hlocks (rsT (n, bk, th, M, ct, pl) h z, (fb1, pa1, ps1, pr1, nx1, la1, fi1, en1, fr1, mn1, tp1), hd) ⟨hg.1.symm, hg.2.symm, hA, rfl⟩ hP hS d_A_resize_79
      · have hlt : rnd (M h) < rnd z := Nat.lt_of_not_le (fun q => c3 (nI_le q (by omega)))
        refine lv_aload_n hx hb d_A_resize_37 rfl (lv_at hl 1 rfl) ?_
        refine gf_A_places S hK hP 0 rfl rfl d_A_resize_38 ?_
        refine lv_iload_n hx hb d_A_resize_41 rfl (lv_at hl 3 rfl) ?_
        refine cpS (As := [.int (nI z)]) (rest := [.int (nI pl)]) S (c_A_rounded l z (by omega)) (cw_A_35 S.2.2.2.2 ⟨by decide, by decide⟩) hP hS rfl hl.1 rfl (Nat.le_of_ble_eq_true rfl) d_A_resize_42 ⟨by decide, by decide⟩ (fun H locs hP hS => ?_)
        refine lv_iadd hx hb d_A_resize_45 ?_
        refine tpE (y := nI (pl + rnd z)) (nI_add _ _) ?_
        refine lv_ldc (v := 400000) hx hb S.2.2.2.1 (S.2.2.2.2 _ k_k_A_39) d_A_resize_46 ?_
        refine lv_icmp_le (tgt := 54) hx hb d_A_resize_48 (by decide) (fun c4 => ?_) (fun c4 => ?_)
        · have hq : pl + rnd z ≤ 400000 := (nI_leI (by omega) (by decide)).mp c4
          have hr0 : pr h < z → lsum (fun h => rnd (M h)) L + rnd z ≤ 400000 := fun q => by rw [hlp]; exact hq
          have hff : rnd (M h) < rnd z → pl + rnd z ≤ 400000 := fun q => hq
          refine lv_aload_n hx hb d_A_resize_54 rfl (lv_at hl 1 rfl) ?_
          refine lv_dup hx hb d_A_resize_55 rfl ?_
          refine gf_A_places S hK hP 0 rfl rfl d_A_resize_56 ?_
          refine lv_iload_n hx hb d_A_resize_59 rfl (lv_at hl 3 rfl) ?_
          refine cpS (As := [.int (nI z)]) (rest := [.int (nI pl), .ref (a 0)]) S (c_A_rounded l z (by omega)) (cw_A_35 S.2.2.2.2 ⟨by decide, by decide⟩) hP hS rfl hl.1 rfl (Nat.le_of_ble_eq_true rfl) d_A_resize_60 ⟨by decide, by decide⟩ (fun H locs hP hS => ?_)
          refine lv_iload_n hx hb d_A_resize_63 rfl (lv_at hl 0 rfl) ?_
          refine lv_isub hx hb d_A_resize_64 ?_
          refine lv_iadd hx hb d_A_resize_65 ?_
          refine tpE (y := nI (pl + rnd z - rnd (M h))) (adsub (by omega)) ?_
          refine pf_A_places S hK hP hD hS 0 rfl (Nat.le_of_ble_eq_true rfl) d_A_resize_66 (fun H locs hP hD hS => ?_)
          have hP : va_P D classes (wA cB cI cZ a fb pa ps pr nx la fi en fr n tp (thI th) hd (n - bk.length) (pl + rnd z - rnd (M h))) H := hP
          have hD : va_D (inA (wA cB cI cZ a fb pa ps pr nx la fi en fr n tp (thI th) hd (n - bk.length) pl)) (wA cB cI cZ a fb pa ps pr nx la fi en fr n tp (thI th) hd (n - bk.length) (pl + rnd z - rnd (M h))) := hD
          refine lv_aload_n hx hb d_A_resize_69 rfl (lv_at hl 1 rfl) ?_
          refine gf_A_shelf S hK hP 0 rfl rfl d_A_resize_70 ?_
          refine lv_iload_n hx hb d_A_resize_73 rfl (lv_at hl 2 rfl) ?_
          refine lv_iload_n hx hb d_A_resize_74 rfl (lv_at hl 3 rfl) ?_
          refine cmV (As := [.int (nI h), .int (nI z)]) (rest := []) (wr := [(a 0, .inr (1, [.ref (a 1), .ref (a 8), .ref (a 9), .int (nI (n - bk.length)), .int (nI (pl + rnd z - rnd (M h)))])), (a 8, .inl (cZ, 20000, .inl (thI th))), (a 9, .inl (cB, 16384, .inl hd))]) S (c_S_resize l D cB cI cZ (fun k => a (k + 1)) fb pa ps pr nx la fi en fr n tp L bk M ct h z hkS ((hmem h).mpr ht) hz hr0) (cw_A_53 S.2.2.2.2 ⟨by decide, by decide⟩) hK hP hD hS [1, 2, 3, 4, 5, 6, 7] [0, 8, 9] rfl rfl rfl (by decide) rfl rfl rfl hl.1 rfl (Nat.le_of_ble_eq_true rfl) d_A_resize_75 ⟨by decide, by decide⟩ (fun u H locs hu hP hS => ?_)
          obtain ⟨fb1, pa1, ps1, pr1, nx1, la1, fi1, en1, fr1, mn1, tp1⟩ := u
          have hP : va_P D classes (wA cB cI cZ a fb1 pa1 ps1 pr1 nx1 la1 fi1 en1 fr1 mn1 tp1 (thI th) hd (n - bk.length) (pl + rnd z - rnd (M h))) H := hP.sub [0, 3, 4, 5, 6, 7, 8, 9, 1, 2] rfl
          have hD : va_D (inA (wA cB cI cZ a fb pa ps pr nx la fi en fr n tp (thI th) hd (n - bk.length) pl)) (wA cB cI cZ a fb1 pa1 ps1 pr1 nx1 la1 fi1 en1 fr1 mn1 tp1 (thI th) hd (n - bk.length) (pl + rnd z - rnd (M h))) := dA hD rfl
          refine lv_iload_n hx hb d_A_resize_78 rfl (lv_at hl 3 rfl) ?_
          have hf : rsF (n, bk, th, M, ct, pl) h z = false := decide_eq_false (fun q => by have q1 : rnd (M h) < rnd z := q.1; have q2 : 400000 < pl + rnd z := q.2; omega)
          have hg := rsR_ok (x := (n, bk, th, M, ct, pl)) hn hs hf
          obtain ⟨hu1, L1, hu2, hu3, hu4⟩ := hu
          have hA := RepA_rs (x := (n, bk, th, M, ct, pl)) (u := (fb, pa, ps, pr, nx, la, fi, en, fr, n, tp)) (u' := (fb1, pa1, ps1, pr1, nx1, la1, fi1, en1, fr1, mn1, tp1)) hbF hkS hmem hlp ((hmem h).mpr ht) hu1 hu2 hu3 hu4
          exact rmI S hr hlocks (rsT (n, bk, th, M, ct, pl) h z, (fb1, pa1, ps1, pr1, nx1, la1, fi1, en1, fr1, mn1, tp1), hd) ⟨hg.1.symm, hg.2.symm, hA, rfl⟩ hP hS d_A_resize_79
        · have hq : 400000 < pl + rnd z := Nat.lt_of_not_le (fun q => c4 (nI_le (b := 400000) q (by decide)))
          refine lv_bipush (v := (-2)) hx hb d_A_resize_51 (by decide) ?_
          have hf := rsR_full (x := (n, bk, th, M, ct, pl)) hn hs (decide_eq_true ⟨hlt, hq⟩)
          exact rmI S hr hlocks ((n, bk, th, M, ct, pl), (fb, pa, ps, pr, nx, la, fi, en, fr, n, tp), hd) ⟨hf.1.symm, hf.2.symm, hR, rfl⟩ hP hS d_A_resize_53
    · have hs := isN (zb_0 c2)
      refine lv_iconst (v := (-1)) hx hb d_A_resize_15 (by decide) ?_
      have hf := rsR_none (x := (n, bk, th, M, ct, pl)) (p := nI h) (q := p1) (Or.inr hs)
      exact rmI S hr hlocks ((n, bk, th, M, ct, pl), (fb, pa, ps, pr, nx, la, fi, en, fr, n, tp), hd) ⟨hf.1.symm, hf.2.symm, hR, rfl⟩ hP hS d_A_resize_16
end
section
set_option maxHeartbeats 4000000 in
theorem lp_A_fill {p : Program} {l : Launch} {e : Env} {s : State} {m : MethodId} {args : Array Value} {below : List Frame} {meth : Method} {c : Code} {D : va_G} {cB cI cZ : ClassId} {a : Nat → Nat} {Q : State → Prop} {A : Nat → Prop} {fb : Nat → Int32} {pa ps pr : Nat → Nat} {nx la : Nat → Int32} {fi en fr : Int32} {tp : Nat} {hd : Nat → Int32} {n : Nat} {bk : List Nat} {th : Nat → Bool} {M : Nat → Nat} {ct : Nat → Nat → Int32} {pl : Nat} {h i k : Nat} {p3 : Int32} (hk : k ≤ 16384) (S : CallFix p m c b_A_fill 6 s args aw R_A) (hK : va_K D classes (TY cB cI cZ) s) (kx : ∀ (H : Heap) (locs : List Loc), va_P D classes (wA cB cI cZ a fb pa ps pr nx la fi en fr n tp (thI th) (va_cpy (fv p3) hd 0 0 k) (n - bk.length) pl) H → va_D A (wA cB cI cZ a fb pa ps pr nx la fi en fr n tp (thI th) (va_cpy (fv p3) hd 0 0 k) (n - bk.length) pl) → va_S A s.heap H locs → ∀ (ls : Array Slot), lv_has ls 6 [(0, .ref (a 0)), (1, .int (nI h)), (2, .int (nI i)), (3, .int (nI k)), (4, .int p3), (5, .int (nI k))] → W p l e (rmL 2) s m args below meth c H locs 0 0 Q (F0 m 82 ls [])) :
    ∀ (d j : Nat), j + d = k → ∀ (H : Heap) (locs : List Loc), va_P D classes (wA cB cI cZ a fb pa ps pr nx la fi en fr n tp (thI th) (va_cpy (fv p3) hd 0 0 j) (n - bk.length) pl) H → va_D A (wA cB cI cZ a fb pa ps pr nx la fi en fr n tp (thI th) (va_cpy (fv p3) hd 0 0 j) (n - bk.length) pl) → va_S A s.heap H locs → ∀ (ls : Array Slot), lv_has ls 6 [(0, .ref (a 0)), (1, .int (nI h)), (2, .int (nI i)), (3, .int (nI k)), (4, .int p3), (5, .int (nI j))] → W p l e (rmL 2) s m args below meth c H locs 0 0 Q (F0 m 47 ls []) := by
  have hx := S.1
  have hb := S.2.1
  intro d
  induction d with
  | zero =>
    intro j hj H locs hP hD hS ls hl
    have e0 : j = k := by omega
    subst e0
    refine lv_iload hx hb d_A_fill_47 (lv_at hl 5 rfl) ?_
    refine lv_iload_n hx hb d_A_fill_49 rfl (lv_at hl 3 rfl) ?_
    refine lv_icmp_ge (tgt := 82) hx hb d_A_fill_50 (by decide) (fun c1 => ?_) (fun c1 => ?_)
    · exact kx H locs hP hD hS ls hl
    · exact absurd (nI_le (Nat.le_refl j) (by omega)) c1
  | succ d ih =>
    intro j hj H locs hP hD hS ls hl
    refine lv_iload hx hb d_A_fill_47 (lv_at hl 5 rfl) ?_
    refine lv_iload_n hx hb d_A_fill_49 rfl (lv_at hl 3 rfl) ?_
    refine lv_icmp_ge (tgt := 82) hx hb d_A_fill_50 (by decide) (fun c1 => ?_) (fun c1 => ?_)
    · exact absurd c1 (nI_ge (by omega) (by omega))
    · refine lv_aload_n hx hb d_A_fill_53 rfl (lv_at hl 0 rfl) ?_
      refine gf_A_hand S hK hP 0 rfl rfl d_A_fill_54 ?_
      refine lv_iload hx hb d_A_fill_57 (lv_at hl 5 rfl) ?_
      refine lv_iload hx hb d_A_fill_59 (lv_at hl 4 rfl) ?_
      refine lv_bipush (v := (nI 7)) hx hb d_A_fill_61 (by decide) ?_
      refine lv_iload hx hb d_A_fill_63 (lv_at hl 5 rfl) ?_
      refine lv_imul hx hb d_A_fill_65 ?_
      refine lv_iadd hx hb d_A_fill_66 ?_
      refine lv_iload hx hb d_A_fill_67 (lv_at hl 5 rfl) ?_
      refine lv_sipush (v := (nI 250)) hx hb d_A_fill_69 (by decide) ?_
      refine lv_idiv hx hb d_A_fill_72 (by decide) ?_
      refine lv_iadd hx hb d_A_fill_73 ?_
      refine lv_i2b (v := fv p3 j) hx hb d_A_fill_74 (rfl) ?_
      refine stB S hK hP hD hS 9 rfl j rfl (by omega) (g := va_cpy (fv p3) hd 0 0 (j + 1)) (by rw [fv_bF p3 j]; exact cpy_up (fv p3) hd j) d_A_fill_75 (fun H locs hP hD hS => ?_)
      have hP : va_P D classes (wA cB cI cZ a fb pa ps pr nx la fi en fr n tp (thI th) (va_cpy (fv p3) hd 0 0 (j + 1)) (n - bk.length) pl) H := hP
      have hD : va_D A (wA cB cI cZ a fb pa ps pr nx la fi en fr n tp (thI th) (va_cpy (fv p3) hd 0 0 (j + 1)) (n - bk.length) pl) := hD
      refine lv_iinc (v := nI (j + 1)) (lv' := [(5, .int (nI (j + 1))), (0, .ref (a 0)), (1, .int (nI h)), (2, .int (nI i)), (3, .int (nI k)), (4, .int p3)]) hx hb d_A_fill_76 hl (k := 5) rfl (nI_1 j) (by decide) rfl (fun ls hl => ?_)
      refine lv_goto (tgt := 47) hx hb d_A_fill_79 (by decide) ?_
      exact ih (j + 1) (by omega) H locs hP hD hS ls (lv_sub hl [1, 2, 3, 4, 5, 0] rfl)
set_option maxHeartbeats 4000000 in
/-- ByteShelf.fill -/
theorem c_A_fill (l : Launch) (D : va_G) (cB cI cZ : ClassId) (a : Nat → Nat) (fb : Nat → Int32) (pa ps pr : Nat → Nat) (nx la : Nat → Int32) (fi en fr : Int32) (tp : Nat) (hd : Nat → Int32) (n : Nat) (bk : List Nat) (th : Nat → Bool) (M : Nat → Nat) (ct : Nat → Nat → Int32) (pl : Nat) (p0 p1 p2 p3 : Int32) (hO : Ok (n, bk, th, M, ct, pl)) (hR : RepA (n, bk, th, M, ct, pl) (fb, pa, ps, pr, nx, la, fi, en, fr, n, tp) hd) : Met l y_A_fill w_A_fill (rmL 2) (va_Pc [.ref (a 0), .int p0, .int p1, .int p2, .int p3] (Wd D cB cI cZ (wA cB cI cZ a fb pa ps pr nx la fi en fr n tp (thI th) hd (n - bk.length) pl))) (Qmi D (fun (z : Int32) (u : UA) => z = flR (n, bk, th, M, ct, pl) p0 p1 p2 ∧ u.1 = flS (n, bk, th, M, ct, pl) p0 p1 p2 p3 ∧ RepA u.1 u.2.1 u.2.2) (wAu cB cI cZ a) (wA cB cI cZ a fb pa ps pr nx la fi en fr n tp (thI th) hd (n - bk.length) pl)) 0 0 (inA (wA cB cI cZ a fb pa ps pr nx la fi en fr n tp (thI th) hd (n - bk.length) pl)) := by
  refine entry (by decide) (Nat.le_of_ble_eq_true rfl) ?_
  intro p e s m args below meth c S hr hlocks hin hPre ls hl
  have hx := S.1
  have hb := S.2.1
  have hl : lv_has ls 6 [(0, .ref (a 0)), (1, .int p0), (2, .int p1), (3, .int p2), (4, .int p3)] := hl
  obtain ⟨hP, hK, hD⟩ := hPre
  have hD := inA_self hD
  have hS : va_S (inA (wA cB cI cZ a fb pa ps pr nx la fi en fr n tp (thI th) hd (n - bk.length) pl)) s.heap s.heap [] := va_S.rf
  have hrw : ∀ k, th k = true → k < n ∧ k < 20000 ∧ M k ≤ 16384 ∧ rnd (M k) ≤ pl ∧ bk.length < n := fun k hk => Ok_row hO hk
  have hrr : ∀ h, th h = true → h < 32000 ∧ ps h = M h ∧ M h ≤ 16384 ∧ M h ≤ pr h ∧ pr h % 8 = 0 ∧ pa h + pr h ≤ 400000 ∧ (∀ i, i < M h → fb (pa h + i) = ct h i) ∧ bF fb := fun h hh => RepA_row hR hh
  have hMl : ∀ k, M k ≤ 16384 := hO.2.2.2.1
  have hpl : pl ≤ 400000 := hO.2.2.2.2.2.2.1
  have hn0 : n ≤ 20000 := hO.1
  have hln : bk.length ≤ n := Ok_len hO
  refine lv_aload_n hx hb d_A_fill_0 rfl (lv_at hl 0 rfl) ?_
  refine lv_iload_n hx hb d_A_fill_1 rfl (lv_at hl 1 rfl) ?_
  refine cpV (As := [.int p0]) (rest := []) S (c_A_isRow l D cB cI cZ a fb pa ps pr nx la fi en fr n tp hd (n - bk.length) th pl p0 (fun k hk => (hrw k hk).2.1)) (cw_A_43 S.2.2.2.2 ⟨by decide, by decide⟩) hK hP hD hS [0, 1, 2, 3, 4, 5, 6, 7, 8, 9] rfl rfl rfl rfl rfl hl.1 rfl (Nat.le_of_ble_eq_true rfl) d_A_fill_2 ⟨by decide, by decide⟩ (fun H locs hP hS => ?_)
  refine lv_if_eq (tgt := 42) hx hb d_A_fill_5 (by decide) (fun c1 => ?_) (fun c1 => ?_)
  · have hn := isN (zb_0 c1)
    refine lv_iconst (v := 0) hx hb d_A_fill_42 (by decide) ?_
    have hf := flR_none (x := (n, bk, th, M, ct, pl)) (i := p1) (n := p2) p3 hn
    exact rmZ S hr hlocks rfl ((n, bk, th, M, ct, pl), (fb, pa, ps, pr, nx, la, fi, en, fr, n, tp), hd) ⟨hf.1.symm, hf.2.symm, hR⟩ hP hS d_A_fill_43
  · obtain ⟨h, hh, rfl, ht, hn⟩ := rowN_some (zb_1 c1)
    have hw := hrw h ht
    obtain ⟨q1, q2, q3, q4, q5, q6, q8, q9⟩ := hrr h ht
    refine lv_iload_n hx hb d_A_fill_8 rfl (lv_at hl 2 rfl) ?_
    refine lv_if_lt (tgt := 42) hx hb d_A_fill_9 (by decide) (fun c2 => ?_) (fun c2 => ?_)
    · refine lv_iconst (v := 0) hx hb d_A_fill_42 (by decide) ?_
      have hf := flR_out (x := (n, bk, th, M, ct, pl)) (n := p2) p3 hn (flF_i c2)
      exact rmZ S hr hlocks rfl ((n, bk, th, M, ct, pl), (fb, pa, ps, pr, nx, la, fi, en, fr, n, tp), hd) ⟨hf.1.symm, hf.2.symm, hR⟩ hP hS d_A_fill_43
    · obtain ⟨i, hi, rfl⟩ := nI_of c2
      refine lv_iload_n hx hb d_A_fill_12 rfl (lv_at hl 3 rfl) ?_
      refine lv_if_lt (tgt := 42) hx hb d_A_fill_13 (by decide) (fun c3 => ?_) (fun c3 => ?_)
      · refine lv_iconst (v := 0) hx hb d_A_fill_42 (by decide) ?_
        have hf := flR_out (x := (n, bk, th, M, ct, pl)) (i := nI i) p3 hn (flF_n c3)
        exact rmZ S hr hlocks rfl ((n, bk, th, M, ct, pl), (fb, pa, ps, pr, nx, la, fi, en, fr, n, tp), hd) ⟨hf.1.symm, hf.2.symm, hR⟩ hP hS d_A_fill_43
      · obtain ⟨k, hk, rfl⟩ := nI_of c3
        refine lv_iload_n hx hb d_A_fill_16 rfl (lv_at hl 3 rfl) ?_
        refine lv_aload_n hx hb d_A_fill_17 rfl (lv_at hl 0 rfl) ?_
        refine gf_A_shelf S hK hP 0 rfl rfl d_A_fill_18 ?_
        refine lv_iload_n hx hb d_A_fill_21 rfl (lv_at hl 1 rfl) ?_
        refine cpV (As := [.int (nI h)]) (rest := [.int (nI k)]) S (c_S_size l D cB cI cZ (fun k => a (k + 1)) fb pa ps pr nx la fi en fr n tp h q1) (cw_A_46 S.2.2.2.2 ⟨by decide, by decide⟩) hK hP hD hS [1, 2, 3, 4, 5, 6, 7] rfl rfl rfl rfl rfl hl.1 rfl (Nat.le_of_ble_eq_true rfl) d_A_fill_22 ⟨by decide, by decide⟩ (fun H locs hP hS => ?_)
        refine tpE (y := nI (M h)) (by rw [q2]) ?_
        refine lv_icmp_gt (tgt := 42) hx hb d_A_fill_25 (by decide) (fun c4 => ?_) (fun c4 => ?_)
        · have hlt : M h < k := (nI_ltI (by omega) hk).mp c4
          refine lv_iconst (v := 0) hx hb d_A_fill_42 (by decide) ?_
          have hf := flR_out (x := (n, bk, th, M, ct, pl)) p3 hn (flF_b hi hk (by show M h < i + k; omega))
          exact rmZ S hr hlocks rfl ((n, bk, th, M, ct, pl), (fb, pa, ps, pr, nx, la, fi, en, fr, n, tp), hd) ⟨hf.1.symm, hf.2.symm, hR⟩ hP hS d_A_fill_43
        · have hle : k ≤ M h := Nat.le_of_not_lt (fun q => c4 (nI_lt q hk))
          refine lv_iload_n hx hb d_A_fill_28 rfl (lv_at hl 2 rfl) ?_
          refine lv_aload_n hx hb d_A_fill_29 rfl (lv_at hl 0 rfl) ?_
          refine gf_A_shelf S hK hP 0 rfl rfl d_A_fill_30 ?_
          refine lv_iload_n hx hb d_A_fill_33 rfl (lv_at hl 1 rfl) ?_
          refine cpV (As := [.int (nI h)]) (rest := [.int (nI i)]) S (c_S_size l D cB cI cZ (fun k => a (k + 1)) fb pa ps pr nx la fi en fr n tp h q1) (cw_A_46 S.2.2.2.2 ⟨by decide, by decide⟩) hK hP hD hS [1, 2, 3, 4, 5, 6, 7] rfl rfl rfl rfl rfl hl.1 rfl (Nat.le_of_ble_eq_true rfl) d_A_fill_34 ⟨by decide, by decide⟩ (fun H locs hP hS => ?_)
          refine tpE (y := nI (M h)) (by rw [q2]) ?_
          refine lv_iload_n hx hb d_A_fill_37 rfl (lv_at hl 3 rfl) ?_
          refine lv_isub hx hb d_A_fill_38 ?_
          refine tpE (y := nI (M h - k)) (pk_sub hle) ?_
          refine lv_icmp_le (tgt := 44) hx hb d_A_fill_39 (by decide) (fun c5 => ?_) (fun c5 => ?_)
          · have hil : i ≤ M h - k := (nI_leI hi (by omega)).mp c5
            refine lv_iconst (v := (nI 0)) hx hb d_A_fill_44 (by decide) ?_
            refine lv_istore (lv' := [(5, .int (nI 0)), (0, .ref (a 0)), (1, .int (nI h)), (2, .int (nI i)), (3, .int (nI k)), (4, .int p3)]) hx hb d_A_fill_45 hl (by decide) rfl (fun ls hl => ?_)
            refine lp_A_fill (bk := bk) (th := th) (M := M) (ct := ct) (pl := pl) (p3 := p3) (hd := hd) (by omega) S hK (fun H locs hP hD hS ls hl => ?_) k 0 (Nat.zero_add k) _ _ (by rw [cpy_0]; exact hP) (by rw [cpy_0]; exact hD) hS ls (lv_sub hl [1, 2, 3, 4, 5, 0] rfl)
            refine lv_aload_n hx hb d_A_fill_82 rfl (lv_at hl 0 rfl) ?_
            refine gf_A_shelf S hK hP 0 rfl rfl d_A_fill_83 ?_
            refine lv_iload_n hx hb d_A_fill_86 rfl (lv_at hl 1 rfl) ?_
            refine lv_iload_n hx hb d_A_fill_87 rfl (lv_at hl 2 rfl) ?_
            refine lv_aload_n hx hb d_A_fill_88 rfl (lv_at hl 0 rfl) ?_
            refine gf_A_hand S hK hP 0 rfl rfl d_A_fill_89 ?_
            refine lv_iconst (v := 0) hx hb d_A_fill_92 (by decide) ?_
            refine lv_iload_n hx hb d_A_fill_93 rfl (lv_at hl 3 rfl) ?_
            refine cmV (As := [.int (nI h), .int (nI i), .ref (a 9), .int 0, .int (nI k)]) (rest := []) (wr := [(a 0, .inr (1, [.ref (a 1), .ref (a 8), .ref (a 9), .int (nI (n - bk.length)), .int (nI pl)])), (a 8, .inl (cZ, 20000, .inl (thI th)))]) S (c_S_write l D cB cI cZ (fun k => a (k + 1)) fb pa ps pr nx la fi en fr n tp (va_cpy (fv p3) hd 0 0 k) h i k q1 (by omega) (by omega) (bF_cpy (fv_bF p3) hR.1)) (cw_A_65 S.2.2.2.2 ⟨by decide, by decide⟩) hK hP hD hS [1, 2, 3, 4, 5, 6, 7, 9] [0, 8] rfl rfl rfl (by decide) rfl rfl rfl hl.1 rfl (Nat.le_of_ble_eq_true rfl) d_A_fill_94 ⟨by decide, by decide⟩ (fun u H locs hu hP hS => ?_)
            have hP : va_P D classes (wA cB cI cZ a (va_cpy (va_cpy (fv p3) hd 0 0 k) fb 0 (pa h + i) k) pa ps pr nx la fi en fr n tp (thI th) (va_cpy (fv p3) hd 0 0 k) (n - bk.length) pl) H := hP.sub [0, 2, 3, 4, 5, 6, 7, 8, 1, 9] rfl
            have hD : va_D (inA (wA cB cI cZ a fb pa ps pr nx la fi en fr n tp (thI th) hd (n - bk.length) pl)) (wA cB cI cZ a (va_cpy (va_cpy (fv p3) hd 0 0 k) fb 0 (pa h + i) k) pa ps pr nx la fi en fr n tp (thI th) (va_cpy (fv p3) hd 0 0 k) (n - bk.length) pl) := dA hD rfl
            refine lv_iconst (v := 1) hx hb d_A_fill_97 (by decide) ?_
            have hg := flR_ok (x := (n, bk, th, M, ct, pl)) (i := i) (n := k) p3 hn (by show M h ≤ 16384; omega) (by show i + k ≤ M h; omega)
            have hA := RepA_ct (x := (n, bk, th, M, ct, pl)) (u := (fb, pa, ps, pr, nx, la, fi, en, fr, n, tp)) (h := h) (fb' := va_cpy (va_cpy (fv p3) hd 0 0 k) fb 0 (pa h + i) k) (g := va_cpy (fv p3) (ct h) 0 i k) (RepA_hd hR (bF_cpy (sp := 0) (dp := 0) (n := k) (fv_bF p3) hR.1)) ht (fun t hq => pk_cpy_out (by have : t < pa h ∨ pa h + pr h ≤ t := hq; omega)) (bF_cpy (bF_cpy (fv_bF p3) hR.1) q9) (fun j hj => by
              show va_cpy (va_cpy (fv p3) hd 0 0 k) fb 0 (pa h + i) k (pa h + j) = va_cpy (fv p3) (ct h) 0 i k j
              rw [wr_row (m := M h) q8 hj]
              exact cpy_in0 (fun t ht => cpy_lt ht))
            exact rmZ S hr hlocks rfl (ctS (n, bk, th, M, ct, pl) h (va_cpy (fv p3) (ct h) 0 i k), (va_cpy (va_cpy (fv p3) hd 0 0 k) fb 0 (pa h + i) k, pa, ps, pr, nx, la, fi, en, fr, n, tp), va_cpy (fv p3) hd 0 0 k) ⟨hg.1.symm, hg.2.symm, hA⟩ hP hS d_A_fill_98
          · have hil : M h - k < i := Nat.lt_of_not_le (fun q => c5 (nI_le q (by omega)))
            refine lv_iconst (v := 0) hx hb d_A_fill_42 (by decide) ?_
            have hf := flR_out (x := (n, bk, th, M, ct, pl)) p3 hn (flF_b hi hk (by show M h < i + k; omega))
            exact rmZ S hr hlocks rfl ((n, bk, th, M, ct, pl), (fb, pa, ps, pr, nx, la, fi, en, fr, n, tp), hd) ⟨hf.1.symm, hf.2.symm, hR⟩ hP hS d_A_fill_43
set_option maxHeartbeats 4000000 in
theorem lp_A_copy {p : Program} {l : Launch} {e : Env} {s : State} {m : MethodId} {args : Array Value} {below : List Frame} {meth : Method} {c : Code} {D : va_G} {cB cI cZ : ClassId} {a : Nat → Nat} {Q : State → Prop} {A : Nat → Prop} {fb : Nat → Int32} {pa ps pr : Nat → Nat} {nx la : Nat → Int32} {fi en fr : Int32} {tp : Nat} {hd : Nat → Int32} {n : Nat} {bk : List Nat} {th : Nat → Bool} {M : Nat → Nat} {ct : Nat → Nat → Int32} {pl : Nat} {h o : Nat} (q1 : o < 32000) (q3 : M o ≤ 16384) (q6 : pa o + M o ≤ 400000) (q8 : ∀ i, i < M o → fb (pa o + i) = ct o i) (q9 : ∀ i, i < M o → (ct o i).toInt8.toInt32 = ct o i) (S : CallFix p m c b_A_copy 5 s args aw R_A) (hK : va_K D classes (TY cB cI cZ) s) (kx : ∀ (H : Heap) (locs : List Loc), va_P D classes (wA cB cI cZ a fb pa ps pr nx la fi en fr n tp (thI th) (va_cpy (ct o) hd 0 0 (M o)) (n - bk.length) pl) H → va_D A (wA cB cI cZ a fb pa ps pr nx la fi en fr n tp (thI th) (va_cpy (ct o) hd 0 0 (M o)) (n - bk.length) pl) → va_S A s.heap H locs → ∀ (ls : Array Slot), lv_has ls 5 [(0, .ref (a 0)), (1, .int (nI h)), (2, .int (nI o)), (3, .int (nI (M o))), (4, .int (nI (M o)))] → W p l e (rmL 5) s m args below meth c H locs 0 0 Q (F0 m 60 ls [])) :
    ∀ (d j : Nat), j + d = M o → ∀ (H : Heap) (locs : List Loc), va_P D classes (wA cB cI cZ a fb pa ps pr nx la fi en fr n tp (thI th) (va_cpy (ct o) hd 0 0 j) (n - bk.length) pl) H → va_D A (wA cB cI cZ a fb pa ps pr nx la fi en fr n tp (thI th) (va_cpy (ct o) hd 0 0 j) (n - bk.length) pl) → va_S A s.heap H locs → ∀ (ls : Array Slot), lv_has ls 5 [(0, .ref (a 0)), (1, .int (nI h)), (2, .int (nI o)), (3, .int (nI (M o))), (4, .int (nI j))] → W p l e (rmL 5) s m args below meth c H locs 0 0 Q (F0 m 30 ls []) := by
  have hx := S.1
  have hb := S.2.1
  intro d
  induction d with
  | zero =>
    intro j hj H locs hP hD hS ls hl
    have e0 : j = M o := by omega
    subst e0
    refine lv_iload hx hb d_A_copy_30 (lv_at hl 4 rfl) ?_
    refine lv_iload_n hx hb d_A_copy_32 rfl (lv_at hl 3 rfl) ?_
    refine lv_icmp_ge (tgt := 60) hx hb d_A_copy_33 (by decide) (fun c1 => ?_) (fun c1 => ?_)
    · exact kx H locs hP hD hS ls hl
    · exact absurd (nI_le (Nat.le_refl (M o)) (by omega)) c1
  | succ d ih =>
    intro j hj H locs hP hD hS ls hl
    refine lv_iload hx hb d_A_copy_30 (lv_at hl 4 rfl) ?_
    refine lv_iload_n hx hb d_A_copy_32 rfl (lv_at hl 3 rfl) ?_
    refine lv_icmp_ge (tgt := 60) hx hb d_A_copy_33 (by decide) (fun c1 => ?_) (fun c1 => ?_)
    · exact absurd c1 (nI_ge (by omega) (by omega))
    · refine lv_aload_n hx hb d_A_copy_36 rfl (lv_at hl 0 rfl) ?_
      refine gf_A_hand S hK hP 0 rfl rfl d_A_copy_37 ?_
      refine lv_iload hx hb d_A_copy_40 (lv_at hl 4 rfl) ?_
      refine lv_aload_n hx hb d_A_copy_42 rfl (lv_at hl 0 rfl) ?_
      refine gf_A_shelf S hK hP 0 rfl rfl d_A_copy_43 ?_
      refine lv_iload_n hx hb d_A_copy_46 rfl (lv_at hl 2 rfl) ?_
      refine lv_iload hx hb d_A_copy_47 (lv_at hl 4 rfl) ?_
      refine cpV (As := [.int (nI o), .int (nI j)]) (rest := [.int (nI j), .ref (a 9)]) S (c_S_get l D cB cI cZ (fun k => a (k + 1)) fb pa ps pr nx la fi en fr n tp o j q1 (by omega)) (cw_A_69 S.2.2.2.2 ⟨by decide, by decide⟩) hK hP hD hS [1, 2, 3, 4, 5, 6, 7] rfl rfl rfl rfl rfl hl.1 rfl (Nat.le_of_ble_eq_true rfl) d_A_copy_49 ⟨by decide, by decide⟩ (fun H locs hP hS => ?_)
      refine lv_i2b (v := ct o j) hx hb d_A_copy_52 (by rw [and255, q8 j (by omega)]; exact q9 j (by omega)) ?_
      refine stB S hK hP hD hS 9 rfl j rfl (by omega) (g := va_cpy (ct o) hd 0 0 (j + 1)) (by rw [q9 j (by omega)]; exact cpy_up (ct o) hd j) d_A_copy_53 (fun H locs hP hD hS => ?_)
      have hP : va_P D classes (wA cB cI cZ a fb pa ps pr nx la fi en fr n tp (thI th) (va_cpy (ct o) hd 0 0 (j + 1)) (n - bk.length) pl) H := hP
      have hD : va_D A (wA cB cI cZ a fb pa ps pr nx la fi en fr n tp (thI th) (va_cpy (ct o) hd 0 0 (j + 1)) (n - bk.length) pl) := hD
      refine lv_iinc (v := nI (j + 1)) (lv' := [(4, .int (nI (j + 1))), (0, .ref (a 0)), (1, .int (nI h)), (2, .int (nI o)), (3, .int (nI (M o)))]) hx hb d_A_copy_54 hl (k := 4) rfl (nI_1 j) (by decide) rfl (fun ls hl => ?_)
      refine lv_goto (tgt := 30) hx hb d_A_copy_57 (by decide) ?_
      exact ih (j + 1) (by omega) H locs hP hD hS ls (lv_sub hl [1, 2, 3, 4, 0] rfl)
set_option maxHeartbeats 4000000 in
/-- ByteShelf.copy -/
theorem c_A_copy (l : Launch) (D : va_G) (cB cI cZ : ClassId) (a : Nat → Nat) (fb : Nat → Int32) (pa ps pr : Nat → Nat) (nx la : Nat → Int32) (fi en fr : Int32) (tp : Nat) (hd : Nat → Int32) (n : Nat) (bk : List Nat) (th : Nat → Bool) (M : Nat → Nat) (ct : Nat → Nat → Int32) (pl : Nat) (p0 p1 : Int32) (hO : Ok (n, bk, th, M, ct, pl)) (hR : RepA (n, bk, th, M, ct, pl) (fb, pa, ps, pr, nx, la, fi, en, fr, n, tp) hd) : Met l y_A_copy w_A_copy (rmL 5) (va_Pc [.ref (a 0), .int p0, .int p1] (Wd D cB cI cZ (wA cB cI cZ a fb pa ps pr nx la fi en fr n tp (thI th) hd (n - bk.length) pl))) (Qmi D (fun (z : Int32) (u : UA) => z = coR (n, bk, th, M, ct, pl) p0 p1 ∧ u.1 = coS (n, bk, th, M, ct, pl) p0 p1 ∧ RepA u.1 u.2.1 u.2.2) (wAu cB cI cZ a) (wA cB cI cZ a fb pa ps pr nx la fi en fr n tp (thI th) hd (n - bk.length) pl)) 0 0 (inA (wA cB cI cZ a fb pa ps pr nx la fi en fr n tp (thI th) hd (n - bk.length) pl)) := by
  refine entry (by decide) (Nat.le_of_ble_eq_true rfl) ?_
  intro p e s m args below meth c S hr hlocks hin hPre ls hl
  have hx := S.1
  have hb := S.2.1
  have hl : lv_has ls 5 [(0, .ref (a 0)), (1, .int p0), (2, .int p1)] := hl
  obtain ⟨hP, hK, hD⟩ := hPre
  have hD := inA_self hD
  have hS : va_S (inA (wA cB cI cZ a fb pa ps pr nx la fi en fr n tp (thI th) hd (n - bk.length) pl)) s.heap s.heap [] := va_S.rf
  have hrw : ∀ k, th k = true → k < n ∧ k < 20000 ∧ M k ≤ 16384 ∧ rnd (M k) ≤ pl ∧ bk.length < n := fun k hk => Ok_row hO hk
  have hrr : ∀ h, th h = true → h < 32000 ∧ ps h = M h ∧ M h ≤ 16384 ∧ M h ≤ pr h ∧ pr h % 8 = 0 ∧ pa h + pr h ≤ 400000 ∧ (∀ i, i < M h → fb (pa h + i) = ct h i) ∧ bF fb := fun h hh => RepA_row hR hh
  have hMl : ∀ k, M k ≤ 16384 := hO.2.2.2.1
  have hpl : pl ≤ 400000 := hO.2.2.2.2.2.2.1
  have hn0 : n ≤ 20000 := hO.1
  have hln : bk.length ≤ n := Ok_len hO
  refine lv_aload_n hx hb d_A_copy_0 rfl (lv_at hl 0 rfl) ?_
  refine lv_iload_n hx hb d_A_copy_1 rfl (lv_at hl 1 rfl) ?_
  refine cpV (As := [.int p0]) (rest := []) S (c_A_isRow l D cB cI cZ a fb pa ps pr nx la fi en fr n tp hd (n - bk.length) th pl p0 (fun k hk => (hrw k hk).2.1)) (cw_A_43 S.2.2.2.2 ⟨by decide, by decide⟩) hK hP hD hS [0, 1, 2, 3, 4, 5, 6, 7, 8, 9] rfl rfl rfl rfl rfl hl.1 rfl (Nat.le_of_ble_eq_true rfl) d_A_copy_2 ⟨by decide, by decide⟩ (fun H locs hP hS => ?_)
  refine lv_if_eq (tgt := 16) hx hb d_A_copy_5 (by decide) (fun c1 => ?_) (fun c1 => ?_)
  · have hn := isN (zb_0 c1)
    refine lv_iconst (v := (-1)) hx hb d_A_copy_16 (by decide) ?_
    have hf := coR_none (x := (n, bk, th, M, ct, pl)) (p := p0) (q := p1) (Or.inl hn)
    exact rmI S hr hlocks ((n, bk, th, M, ct, pl), (fb, pa, ps, pr, nx, la, fi, en, fr, n, tp), hd) ⟨hf.1.symm, hf.2.symm, hR⟩ hP hS d_A_copy_17
  · obtain ⟨h, hh, rfl, ht, hn⟩ := rowN_some (zb_1 c1)
    have hw := hrw h ht
    obtain ⟨q1, q2, q3, q4, q5, q6, q8, q9⟩ := hrr h ht
    refine lv_aload_n hx hb d_A_copy_8 rfl (lv_at hl 0 rfl) ?_
    refine lv_iload_n hx hb d_A_copy_9 rfl (lv_at hl 2 rfl) ?_
    refine cpV (As := [.int p1]) (rest := []) S (c_A_isRow l D cB cI cZ a fb pa ps pr nx la fi en fr n tp hd (n - bk.length) th pl p1 (fun k hk => (hrw k hk).2.1)) (cw_A_43 S.2.2.2.2 ⟨by decide, by decide⟩) hK hP hD hS [0, 1, 2, 3, 4, 5, 6, 7, 8, 9] rfl rfl rfl rfl rfl hl.1 rfl (Nat.le_of_ble_eq_true rfl) d_A_copy_10 ⟨by decide, by decide⟩ (fun H locs hP hS => ?_)
    refine lv_if_ne (tgt := 18) hx hb d_A_copy_13 (by decide) (fun c2 => ?_) (fun c2 => ?_)
    · obtain ⟨o, hho, rfl, hto, hm⟩ := rowN_some (zb_1 c2)
      have hwo := hrw o hto
      obtain ⟨qo1, qo2, qo3, qo4, qo5, qo6, qo8, qo9⟩ := hrr o hto
      refine lv_aload_n hx hb d_A_copy_18 rfl (lv_at hl 0 rfl) ?_
      refine gf_A_shelf S hK hP 0 rfl rfl d_A_copy_19 ?_
      refine lv_iload_n hx hb d_A_copy_22 rfl (lv_at hl 2 rfl) ?_
      refine cpV (As := [.int (nI o)]) (rest := []) S (c_S_size l D cB cI cZ (fun k => a (k + 1)) fb pa ps pr nx la fi en fr n tp o qo1) (cw_A_46 S.2.2.2.2 ⟨by decide, by decide⟩) hK hP hD hS [1, 2, 3, 4, 5, 6, 7] rfl rfl rfl rfl rfl hl.1 rfl (Nat.le_of_ble_eq_true rfl) d_A_copy_23 ⟨by decide, by decide⟩ (fun H locs hP hS => ?_)
      refine tpE (y := nI (M o)) (by rw [qo2]) ?_
      refine lv_istore_n (lv' := [(3, .int (nI (M o))), (0, .ref (a 0)), (1, .int (nI h)), (2, .int (nI o))]) hx hb d_A_copy_26 rfl hl (by decide) rfl (fun ls hl => ?_)
      refine lv_iconst (v := (nI 0)) hx hb d_A_copy_27 (by decide) ?_
      refine lv_istore (lv' := [(4, .int (nI 0)), (3, .int (nI (M o))), (0, .ref (a 0)), (1, .int (nI h)), (2, .int (nI o))]) hx hb d_A_copy_28 hl (by decide) rfl (fun ls hl => ?_)
      refine lp_A_copy (bk := bk) (th := th) (M := M) (ct := ct) (pl := pl) (hd := hd) (pa := pa) (fb := fb) qo1 qo3 (by omega) qo8 (fun i hi => ct_bF (x := (n, bk, th, M, ct, pl)) hR hto hi) S hK (fun H locs hP hD hS ls hl => ?_) (M o) 0 (Nat.zero_add _) _ _ (by rw [cpy_0]; exact hP) (by rw [cpy_0]; exact hD) hS ls (lv_sub hl [2, 3, 4, 1, 0] rfl)
      refine lv_aload_n hx hb d_A_copy_60 rfl (lv_at hl 0 rfl) ?_
      refine lv_iload_n hx hb d_A_copy_61 rfl (lv_at hl 1 rfl) ?_
      refine lv_iload_n hx hb d_A_copy_62 rfl (lv_at hl 3 rfl) ?_
      have hbC : bF (va_cpy (ct o) hd 0 0 (M o)) := by
        intro t
        unfold va_cpy
        by_cases c : 0 ≤ t ∧ t < 0 + M o
        · rw [if_pos c]; exact ct_bF (x := (n, bk, th, M, ct, pl)) hR hto (show _ < M o by omega)
        · rw [if_neg c]; exact hR.1 t
      refine cmI (As := [.int (nI h), .int (nI (M o))]) (rest := []) (wr := []) S (c_A_resize l D cB cI cZ a fb pa ps pr nx la fi en fr tp (va_cpy (ct o) hd 0 0 (M o)) n bk th M ct pl (nI h) (nI (M o)) hO (RepA_hd hR hbC)) (cw_A_73 S.2.2.2.2 ⟨by decide, by decide⟩) hK hP hD hS [0, 1, 2, 3, 4, 5, 6, 7, 8, 9] [] rfl rfl rfl (by decide) rfl rfl rfl hl.1 rfl (Nat.le_of_ble_eq_true rfl) d_A_copy_63 ⟨by decide, by decide⟩ (fun r u H locs hu hP hS => ?_)
      obtain ⟨y1, ⟨fb1, pa1, ps1, pr1, nx1, la1, fi1, en1, fr1, mn1, tp1⟩, hd1⟩ := u
      obtain ⟨hu1, hu2, hu3, hu4⟩ := hu
      dsimp only at hu2 hu3 hu4
      have hP : va_P D classes (wA cB cI cZ a fb1 pa1 ps1 pr1 nx1 la1 fi1 en1 fr1 mn1 tp1 (thI y1.2.2.1) hd1 (y1.1 - y1.2.1.length) y1.2.2.2.2.2) H := hP.sub [0, 1, 2, 3, 4, 5, 6, 7, 8, 9] rfl
      have hD : va_D (inA (wA cB cI cZ a fb pa ps pr nx la fi en fr n tp (thI th) hd (n - bk.length) pl)) (wA cB cI cZ a fb1 pa1 ps1 pr1 nx1 la1 fi1 en1 fr1 mn1 tp1 (thI y1.2.2.1) hd1 (y1.1 - y1.2.1.length) y1.2.2.2.2.2) := dA hD rfl
      have hsz : sizeN (nI (M o)) = some (M o) := sizeN_nI qo3
      refine lv_if_ge (tgt := 72) hx hb d_A_copy_66 (by decide) (fun c3 => ?_) (fun c3 => ?_)
      · have hF : rsF (n, bk, th, M, ct, pl) h (M o) = false := by
          cases e : rsF (n, bk, th, M, ct, pl) h (M o) with
          | false => rfl
          | true => exact absurd c3 (by rw [hu1, (rsR_full (x := (n, bk, th, M, ct, pl)) hn hsz e).1]; decide)
        have hy : y1 = rsT (n, bk, th, M, ct, pl) h (M o) := hu2.trans (rsR_ok (x := (n, bk, th, M, ct, pl)) hn hsz hF).2
        have hty : y1.2.2.1 h = true := by rw [hy]; exact ht
        obtain ⟨g1, g2, g3, g4, g5, g6, g8, g9⟩ := RepA_row hu3 hty
        dsimp only at g1 g2 g3 g4 g5 g6 g8 g9
        have hMy : y1.2.2.2.1 h = M o := by rw [hy]; exact va_up_self M h (M o)
        refine lv_aload_n hx hb d_A_copy_72 rfl (lv_at hl 0 rfl) ?_
        refine gf_A_shelf S hK hP 0 rfl rfl d_A_copy_73 ?_
        refine lv_iload_n hx hb d_A_copy_76 rfl (lv_at hl 1 rfl) ?_
        refine lv_iconst (v := (nI 0)) hx hb d_A_copy_77 (by decide) ?_
        refine lv_aload_n hx hb d_A_copy_78 rfl (lv_at hl 0 rfl) ?_
        refine gf_A_hand S hK hP 0 rfl rfl d_A_copy_79 ?_
        refine lv_iconst (v := 0) hx hb d_A_copy_82 (by decide) ?_
        refine lv_iload_n hx hb d_A_copy_83 rfl (lv_at hl 3 rfl) ?_
        refine cmV (As := [.int (nI h), .int (nI 0), .ref (a 9), .int 0, .int (nI (M o))]) (rest := []) (wr := [(a 0, .inr (1, [.ref (a 1), .ref (a 8), .ref (a 9), .int (nI (y1.1 - y1.2.1.length)), .int (nI y1.2.2.2.2.2)])), (a 8, .inl (cZ, 20000, .inl (thI y1.2.2.1)))]) S (c_S_write l D cB cI cZ (fun k => a (k + 1)) fb1 pa1 ps1 pr1 nx1 la1 fi1 en1 fr1 mn1 tp1 hd1 h 0 (M o) g1 (by omega) qo3 hu3.1) (cw_A_65 S.2.2.2.2 ⟨by decide, by decide⟩) hK hP hD hS [1, 2, 3, 4, 5, 6, 7, 9] [0, 8] rfl rfl rfl (by decide) rfl rfl rfl hl.1 rfl (Nat.le_of_ble_eq_true rfl) d_A_copy_84 ⟨by decide, by decide⟩ (fun u H locs hu9 hP hS => ?_)
        have hP : va_P D classes (wA cB cI cZ a (va_cpy hd1 fb1 0 (pa1 h + 0) (M o)) pa1 ps1 pr1 nx1 la1 fi1 en1 fr1 mn1 tp1 (thI y1.2.2.1) hd1 (y1.1 - y1.2.1.length) y1.2.2.2.2.2) H := hP.sub [0, 2, 3, 4, 5, 6, 7, 8, 1, 9] rfl
        have hD : va_D (inA (wA cB cI cZ a fb pa ps pr nx la fi en fr n tp (thI th) hd (n - bk.length) pl)) (wA cB cI cZ a (va_cpy hd1 fb1 0 (pa1 h + 0) (M o)) pa1 ps1 pr1 nx1 la1 fi1 en1 fr1 mn1 tp1 (thI y1.2.2.1) hd1 (y1.1 - y1.2.1.length) y1.2.2.2.2.2) := dA hD rfl
        refine lv_iload_n hx hb d_A_copy_87 rfl (lv_at hl 3 rfl) ?_
        have hg := coR_ok (x := (n, bk, th, M, ct, pl)) hn hm hF
        have hA := RepA_ct (h := h) (fb' := va_cpy hd1 fb1 0 (pa1 h + 0) (M o)) (g := ct o) hu3 hty (fun t hq => pk_cpy_out (by have : t < pa1 h ∨ pa1 h + pr1 h ≤ t := hq; omega)) (bF_cpy hu3.1 g9) (fun j hj => by
          have hj : j < M o := by rw [← hMy]; exact hj
          show va_cpy hd1 fb1 0 (pa1 h + 0) (M o) (pa1 h + j) = ct o j
          rw [pk_cpy_in (by omega) (by omega), hu4, cpy_lt (by omega)]
          congr 1
          omega)
        exact rmI S hr hlocks (ctS y1 h (ct o), (va_cpy hd1 fb1 0 (pa1 h + 0) (M o), pa1, ps1, pr1, nx1, la1, fi1, en1, fr1, mn1, tp1), hd1) ⟨hg.1.symm, by rw [hy]; exact hg.2.symm, hA⟩ hP hS d_A_copy_88
      · have hF : rsF (n, bk, th, M, ct, pl) h (M o) = true := by
          cases e : rsF (n, bk, th, M, ct, pl) h (M o) with
          | true => rfl
          | false => exact absurd (by rw [hu1, (rsR_ok (x := (n, bk, th, M, ct, pl)) hn hsz e).1]; exact nI_pos' (by omega)) c3
        have hy : y1 = (n, bk, th, M, ct, pl) := hu2.trans (rsR_full (x := (n, bk, th, M, ct, pl)) hn hsz hF).2
        refine lv_bipush (v := (-2)) hx hb d_A_copy_69 (by decide) ?_
        have hf := coR_full (x := (n, bk, th, M, ct, pl)) hn hm hF
        exact rmI S hr hlocks (y1, (fb1, pa1, ps1, pr1, nx1, la1, fi1, en1, fr1, mn1, tp1), hd1) ⟨hf.1.symm, hy.trans hf.2.symm, hu3⟩ hP hS d_A_copy_71
    · have hm := isN (zb_0 c2)
      refine lv_iconst (v := (-1)) hx hb d_A_copy_16 (by decide) ?_
      have hf := coR_none (x := (n, bk, th, M, ct, pl)) (p := nI h) (q := p1) (Or.inr hm)
      exact rmI S hr hlocks ((n, bk, th, M, ct, pl), (fb, pa, ps, pr, nx, la, fi, en, fr, n, tp), hd) ⟨hf.1.symm, hf.2.symm, hR⟩ hP hS d_A_copy_17
end
section
/-! Pure: the model's picture: rows of bytes without a gap -/
def Iv (n : Nat) (M : Nat → Nat) (ct : Nat → Nat → Int32) (fb : Nat → Int32) (st : Nat → Nat) : Prop :=
  (∀ k, k < n → 0 < M k → st k + M k ≤ sm M n) ∧ (∀ j k, j < n → k < n → j ≠ k → 0 < M j → 0 < M k → st j + M j ≤ st k ∨ st k + M k ≤ st j) ∧ ∀ k, k < n → ∀ i, i < M k → fb (st k + i) = ct k i
/-- what shift has done to the first i rows -/
def sh (f : Nat → Nat) (M : Nat → Nat) (q : Nat) (st : Nat → Nat) (i : Nat) : Nat → Nat := fun k => if k < i ∧ 0 < M k ∧ q < st k then f (st k) else st k
theorem sh_0 (f M : Nat → Nat) (q : Nat) (st : Nat → Nat) : sh f M q st 0 = st := by
  funext k
  unfold sh
  rw [if_neg (by omega)]
theorem sh_at (f M : Nat → Nat) (q : Nat) (st : Nat → Nat) (i : Nat) : sh f M q st i i = st i := by
  unfold sh
  rw [if_neg (by omega)]
theorem sh_up {f M : Nat → Nat} {q : Nat} {st : Nat → Nat} {i : Nat} {x : Int32} (hx : x = nI (if 0 < M i ∧ q < st i then f (st i) else st i)) : upd (nF (sh f M q st i)) i x = nF (sh f M q st (i + 1)) := by
  funext k
  unfold upd nF sh
  by_cases h : k = i
  · subst h
    rw [if_pos rfl, hx]
    by_cases c : 0 < M k ∧ q < st k
    · rw [if_pos c, if_pos ⟨Nat.lt_succ_self k, c⟩]
    · rw [if_neg c, if_neg (fun z => c z.2)]
  · rw [if_neg h]
    by_cases c : k < i ∧ 0 < M k ∧ q < st k
    · rw [if_pos c, if_pos ⟨by omega, c.2⟩]
    · rw [if_neg c, if_neg (fun z => c ⟨by omega, z.2⟩)]
theorem sh_big {f M : Nat → Nat} {q n k : Nat} {st : Nat → Nat} (hk : k < n) (h1 : 0 < M k) (h2 : q < st k) : sh f M q st n k = f (st k) := if_pos ⟨hk, h1, h2⟩
theorem sh_low {f M : Nat → Nat} {q n k : Nat} {st : Nat → Nat} (h2 : ¬ q < st k) : sh f M q st n k = st k := if_neg (fun z => h2 z.2.2)
/-- bytes that move down by d, up by d -/
def mvD (f : Nat → Int32) (e d us : Nat) : Nat → Int32 := fun j => if e ≤ j + d ∧ j + d < us then f (j + d) else f j
def mvU (f : Nat → Int32) (e d us : Nat) : Nat → Int32 := fun j => if e + d ≤ j ∧ j < us + d then f (j - d) else f j
theorem mvD_0 (f : Nat → Int32) (e d : Nat) : mvD f e d e = f := by
  funext j
  unfold mvD
  rw [if_neg (by omega)]
theorem mvD_up {f : Nat → Int32} {e d k : Nat} (hd : d ≤ e) (hk : e ≤ k) : upd (mvD f e d k) (k - d) (f k) = mvD f e d (k + 1) := by
  funext j
  unfold upd mvD
  by_cases h : j = k - d
  · rw [if_pos h, if_pos (by omega), show j + d = k by omega]
  · rw [if_neg h]
    by_cases c : e ≤ j + d ∧ j + d < k
    · rw [if_pos c, if_pos (by omega)]
    · rw [if_neg c, if_neg (by omega)]
theorem mvD_at {f : Nat → Int32} {e d k : Nat} (hd : 0 < d) : mvD f e d k k = f k := by
  unfold mvD
  rw [if_neg (by omega)]
/-- the upper part has moved, down to place k -/
def mvV (f : Nat → Int32) (k d us : Nat) : Nat → Int32 := fun j => if k + d ≤ j ∧ j < us + d then f (j - d) else f j
theorem mvV_0 (f : Nat → Int32) (d us : Nat) : mvV f us d us = f := by
  funext j
  unfold mvV
  rw [if_neg (by omega)]
theorem mvV_up {f : Nat → Int32} {k d us : Nat} (hk : k < us) : upd (mvV f (k + 1) d us) (k + d) (f k) = mvV f k d us := by
  funext j
  unfold upd mvV
  by_cases h : j = k + d
  · rw [if_pos h, if_pos (by omega), show j - d = k by omega]
  · rw [if_neg h]
    by_cases c : k + 1 + d ≤ j ∧ j < us + d
    · rw [if_pos c, if_pos (by omega)]
    · rw [if_neg c, if_neg (by omega)]
theorem mvV_at {f : Nat → Int32} {k d us : Nat} (hd : 0 < d) : mvV f (k + 1) d us k = f k := by
  unfold mvV
  rw [if_neg (by omega)]
theorem mvD_bF {f : Nat → Int32} {e d us : Nat} (h : bF f) : bF (mvD f e d us) := by
  intro j
  unfold mvD
  by_cases c : e ≤ j + d ∧ j + d < us
  · rw [if_pos c]; exact h _
  · rw [if_neg c]; exact h _
theorem mvV_bF {f : Nat → Int32} {e d us : Nat} (h : bF f) : bF (mvV f e d us) := by
  intro j
  unfold mvV
  by_cases c : e + d ≤ j ∧ j < us + d
  · rw [if_pos c]; exact h _
  · rw [if_neg c]; exact h _
section
variable {n r z b0 : Nat} {M st : Nat → Nat} {ct : Nat → Nat → Int32} {fb fb' : Nat → Int32}
/-- the row r begins at b0; the others lie before it or behind it -/
def Bt (n r b0 : Nat) (M st : Nat → Nat) : Prop := st r = b0 ∧ r < n ∧ b0 + M r ≤ sm M n ∧ ∀ k, k < n → k ≠ r → 0 < M k → st k + M k ≤ b0 ∨ (b0 < st k ∧ b0 + M r ≤ st k)
theorem Iv_begin (h : Iv n M ct fb st) (hr : r < n) (hb : b0 = if M r = 0 then sm M n else st r) : Iv n M ct fb (va_up st r b0) ∧ Bt n r b0 M (va_up st r b0) := by
  obtain ⟨h1, h2, h3⟩ := h
  have hs := sm_mem (f := M) n r hr
  by_cases c : M r = 0
  · rw [if_pos c] at hb
    have hk : ∀ k, 0 < M k → k ≠ r := fun k q e => by rw [e, c] at q; omega
    refine ⟨⟨fun k q1 q2 => ?_, fun j k q1 q2 q3 q4 q5 => ?_, fun k q1 i q2 => ?_⟩, va_up_self _ _ _, hr, by omega, fun k q1 q2 q3 => ?_⟩
    · rw [va_up_ne _ _ (hk k q2)]; exact h1 k q1 q2
    · rw [va_up_ne _ _ (hk j q4), va_up_ne _ _ (hk k q5)]; exact h2 j k q1 q2 q3 q4 q5
    · rw [va_up_ne _ _ (hk k (by omega))]; exact h3 k q1 i q2
    · rw [va_up_ne _ _ q2]; left; rw [hb]; exact h1 k q1 q3
  · rw [if_neg c] at hb
    have e : va_up st r b0 = st := by rw [hb]; exact up_id st r
    rw [e]
    refine ⟨⟨h1, h2, h3⟩, hb.symm, hr, by rw [hb]; exact h1 r hr (by omega), fun k q1 q2 q3 => ?_⟩
    have := h2 k r q1 hr q2 q3 (by omega)
    omega
theorem sm_new (hr : r < n) : sm (va_up M r z) n + M r = sm M n + z := sm_up r z n hr
theorem up_M {k : Nat} (h : k ≠ r) : va_up M r z k = M k := va_up_ne _ _ h
theorem Iv_lt (h : Iv n M ct fb st) (hb : Bt n r b0 M st) (hz : z < M r) : Iv n (va_up M r z) (rsC ct r (M r)) (mvD fb (b0 + M r) (M r - z) (sm M n)) (sh (fun t => t - (M r - z)) M b0 st n) := by
  obtain ⟨h1, h2, h3⟩ := h
  obtain ⟨b1, b2, b3, b4⟩ := hb
  have hs := sm_new (M := M) (z := z) b2
  have hr : sh (fun t => t - (M r - z)) M b0 st n r = b0 := by rw [sh_low (by omega)]; exact b1
  have hlow : ∀ k, k < n → k ≠ r → 0 < M k → st k + M k ≤ b0 → sh (fun t => t - (M r - z)) M b0 st n k = st k := fun k q1 q2 q3 q4 => sh_low (by omega)
  have hbig : ∀ k, k < n → k ≠ r → 0 < M k → b0 < st k → sh (fun t => t - (M r - z)) M b0 st n k = st k - (M r - z) := fun k q1 q2 q3 q4 => sh_big q1 q3 q4
  refine ⟨fun k q1 q2 => ?_, fun j k q1 q2 q3 q4 q5 => ?_, fun k q1 i q2 => ?_⟩
  · by_cases c : k = r
    · subst c
      rw [va_up_self] at q2 ⊢
      rw [hr]; omega
    · rw [up_M c] at q2 ⊢
      have := h1 k q1 q2
      rcases b4 k q1 c q2 with q | q
      · rw [hlow k q1 c q2 q]; omega
      · rw [hbig k q1 c q2 q.1]; omega
  · by_cases c1 : j = r
    · subst c1
      have c2 : k ≠ j := fun e => q3 e.symm
      rw [va_up_self] at q4 ⊢
      rw [up_M c2] at q5 ⊢
      rw [hr]
      rcases b4 k q2 c2 q5 with q | q
      · rw [hlow k q2 c2 q5 q]; omega
      · rw [hbig k q2 c2 q5 q.1]; omega
    · rw [up_M c1] at q4 ⊢
      by_cases c2 : k = r
      · subst c2
        rw [va_up_self] at q5 ⊢
        rw [hr]
        rcases b4 j q1 c1 q4 with q | q
        · rw [hlow j q1 c1 q4 q]; omega
        · rw [hbig j q1 c1 q4 q.1]; omega
      · rw [up_M c2] at q5 ⊢
        have := h2 j k q1 q2 q3 q4 q5
        rcases b4 j q1 c1 q4 with q | q <;> rcases b4 k q2 c2 q5 with q' | q'
        · rw [hlow j q1 c1 q4 q, hlow k q2 c2 q5 q']; exact this
        · rw [hlow j q1 c1 q4 q, hbig k q2 c2 q5 q'.1]; omega
        · rw [hbig j q1 c1 q4 q.1, hlow k q2 c2 q5 q']; omega
        · rw [hbig j q1 c1 q4 q.1, hbig k q2 c2 q5 q'.1]; omega
  · unfold rsC mvD
    by_cases c : k = r
    · subst c
      rw [va_up_self] at q2 ⊢
      rw [hr, if_neg (by omega)]
      show _ = if i < M k then ct k i else 0
      rw [if_pos (by omega), ← b1]
      exact h3 k q1 i (by omega)
    · rw [up_M c] at q2
      rw [va_up_ne _ _ c]
      have hp := h1 k q1 (by omega)
      rcases b4 k q1 c (by omega) with q | q
      · rw [hlow k q1 c (by omega) q, if_neg (by omega)]
        exact h3 k q1 i q2
      · rw [hbig k q1 c (by omega) q.1, if_pos (by omega), show st k - (M r - z) + i + (M r - z) = st k + i by omega]
        exact h3 k q1 i q2
theorem Iv_eq (h : Iv n M ct fb st) (hb : Bt n r b0 M st) (hz : z = M r) : Iv n (va_up M r z) (rsC ct r (M r)) fb (sh (fun t => t) M b0 st n) := by
  have e1 : sh (fun t => t) M b0 st n = st := by
    funext k
    unfold sh
    by_cases c : k < n ∧ 0 < M k ∧ b0 < st k
    · rw [if_pos c]
    · rw [if_neg c]
  have e2 : va_up M r z = M := by rw [hz]; exact up_id M r
  rw [e1, e2]
  obtain ⟨h1, h2, h3⟩ := h
  refine ⟨h1, h2, fun k q1 i q2 => ?_⟩
  unfold rsC
  by_cases c : k = r
  · subst c
    rw [va_up_self]
    show _ = if i < M k then ct k i else 0
    rw [if_pos q2]
    exact h3 k q1 i q2
  · rw [va_up_ne _ _ c]
    exact h3 k q1 i q2
theorem Iv_gt (h : Iv n M ct fb st) (hb : Bt n r b0 M st) (hz : M r < z) : Iv n (va_up M r z) (rsC ct r (M r)) (zf (mvV fb (b0 + M r) (z - M r) (sm M n)) (b0 + M r) (z - M r)) (sh (fun t => t + (z - M r)) M b0 st n) := by
  obtain ⟨h1, h2, h3⟩ := h
  obtain ⟨b1, b2, b3, b4⟩ := hb
  have hs := sm_new (M := M) (z := z) b2
  have hr : sh (fun t => t + (z - M r)) M b0 st n r = b0 := by rw [sh_low (by omega)]; exact b1
  have hlow : ∀ k, k < n → k ≠ r → 0 < M k → st k + M k ≤ b0 → sh (fun t => t + (z - M r)) M b0 st n k = st k := fun k q1 q2 q3 q4 => sh_low (by omega)
  have hbig : ∀ k, k < n → k ≠ r → 0 < M k → b0 < st k → sh (fun t => t + (z - M r)) M b0 st n k = st k + (z - M r) := fun k q1 q2 q3 q4 => sh_big q1 q3 q4
  refine ⟨fun k q1 q2 => ?_, fun j k q1 q2 q3 q4 q5 => ?_, fun k q1 i q2 => ?_⟩
  · by_cases c : k = r
    · subst c
      rw [va_up_self] at q2 ⊢
      rw [hr]; omega
    · rw [up_M c] at q2 ⊢
      have := h1 k q1 q2
      rcases b4 k q1 c q2 with q | q
      · rw [hlow k q1 c q2 q]; omega
      · rw [hbig k q1 c q2 q.1]; omega
  · by_cases c1 : j = r
    · subst c1
      have c2 : k ≠ j := fun e => q3 e.symm
      rw [va_up_self] at q4 ⊢
      rw [up_M c2] at q5 ⊢
      rw [hr]
      rcases b4 k q2 c2 q5 with q | q
      · rw [hlow k q2 c2 q5 q]; omega
      · rw [hbig k q2 c2 q5 q.1]; omega
    · rw [up_M c1] at q4 ⊢
      by_cases c2 : k = r
      · subst c2
        rw [va_up_self] at q5 ⊢
        rw [hr]
        rcases b4 j q1 c1 q4 with q | q
        · rw [hlow j q1 c1 q4 q]; omega
        · rw [hbig j q1 c1 q4 q.1]; omega
      · rw [up_M c2] at q5 ⊢
        have := h2 j k q1 q2 q3 q4 q5
        rcases b4 j q1 c1 q4 with q | q <;> rcases b4 k q2 c2 q5 with q' | q'
        · rw [hlow j q1 c1 q4 q, hlow k q2 c2 q5 q']; exact this
        · rw [hlow j q1 c1 q4 q, hbig k q2 c2 q5 q'.1]; omega
        · rw [hbig j q1 c1 q4 q.1, hlow k q2 c2 q5 q']; omega
        · rw [hbig j q1 c1 q4 q.1, hbig k q2 c2 q5 q'.1]; omega
  · unfold rsC
    by_cases c : k = r
    · subst c
      rw [va_up_self] at q2 ⊢
      rw [hr]
      show _ = if i < M k then ct k i else 0
      by_cases c2 : i < M k
      · rw [if_pos c2, zf_out (by omega), ← h3 k q1 i c2, b1]
        unfold mvV
        rw [if_neg (by omega)]
      · rw [if_neg c2, zf_in (by omega) (by omega)]
    · rw [up_M c] at q2
      rw [va_up_ne _ _ c]
      have hp := h1 k q1 (by omega)
      rcases b4 k q1 c (by omega) with q | q
      · rw [hlow k q1 c (by omega) q, zf_out (by omega)]
        unfold mvV
        rw [if_neg (by omega)]
        exact h3 k q1 i q2
      · rw [hbig k q1 c (by omega) q.1, zf_out (by omega)]
        unfold mvV
        rw [if_pos (by omega), show st k + (z - M r) + i - (z - M r) = st k + i by omega]
        exact h3 k q1 i q2
/-- a row is handed new bytes -/
theorem Iv_ct {h : Nat} {g : Nat → Int32} (k : Iv n M ct fb st) (hh : h < n) (ho : ∀ j, (j < st h ∨ st h + M h ≤ j) → fb' j = fb j) (hg : ∀ i, i < M h → fb' (st h + i) = g i) : Iv n M (va_up ct h g) fb' st := by
  obtain ⟨h1, h2, h3⟩ := k
  refine ⟨h1, h2, fun k q1 i q2 => ?_⟩
  by_cases c : k = h
  · subst c
    rw [va_up_self]
    exact hg i q2
  · rw [va_up_ne _ _ c]
    by_cases c2 : M h = 0
    · rw [ho _ (by omega)]
      exact h3 k q1 i q2
    · have := h2 k h q1 hh c (by omega) (by omega)
      rw [ho _ (by omega)]
      exact h3 k q1 i q2
theorem Iv_succ (k : Iv n M ct fb st) (h0 : M n = 0) : Iv (n + 1) M ct fb st := by
  obtain ⟨h1, h2, h3⟩ := k
  have e : sm M (n + 1) = sm M n := by show sm M n + M n = sm M n; omega
  have hk : ∀ k, k < n + 1 → 0 < M k → k < n := fun k q1 q2 => by
    by_cases c : k = n
    · rw [c, h0] at q2; omega
    · omega
  refine ⟨fun k q1 q2 => by rw [e]; exact h1 k (hk k q1 q2) q2, fun j k q1 q2 q3 q4 q5 => h2 j k (hk j q1 q4) (hk k q2 q5) q3 q4 q5, fun k q1 i q2 => h3 k (hk k q1 (by omega)) i q2⟩
end
/-- the numbers given back: the last one on top -/
def Bk (bs : Nat → Int32) : List Nat → Prop
  | [] => True
  | h :: t => bs t.length = nI h ∧ Bk bs t
theorem Bk_upd {bs : Nat → Int32} {v : Int32} {k : Nat} : ∀ (l : List Nat), l.length ≤ k → Bk bs l → Bk (upd bs k v) l
  | [], _, _ => trivial
  | h :: t, hl, ⟨h1, h2⟩ => ⟨by rw [pk_un (by simp at hl; omega)]; exact h1, Bk_upd t (by simp at hl; omega) h2⟩
def szI (th : Nat → Bool) (M : Nat → Nat) (k : Nat) : Int32 := if th k = true then nI (M k) else -1
/-- the model's picture -/
def RepB (x : Ab) (fb : Nat → Int32) (st : Nat → Nat) (sz bs : Nat → Int32) : Prop := bF fb ∧ (∀ k, k < x.1 → sz k = szI x.2.2.1 x.2.2.2.1 k) ∧ Bk bs x.2.1 ∧ Iv x.1 x.2.2.2.1 x.2.2.2.2.1 fb st
abbrev UB : Type := Ab × (Nat → Int32) × (Nat → Nat) × (Nat → Int32) × (Nat → Int32)
abbrev wMu (cB cI : ClassId) (a : Nat → Nat) (u : UB) : va_W := wM cB cI a u.2.1 u.2.2.1 u.2.2.2.1 u.2.2.2.2 (sm u.1.2.2.2.1 u.1.1) u.1.1 u.1.2.1.length u.1.2.2.2.2.2
theorem sm_le_pl {x : Ab} (h : Ok x) : sm x.2.2.2.1 x.1 ≤ x.2.2.2.2.2 := by
  rw [h.2.2.2.2.2.1]
  exact sm_le x.1 (fun k _ => rnd_le _)
end
section
theorem dec_lt {k : Nat} (h : k ≤ 400000) : nI k - 1 < nI k := by
  rcases Nat.eq_zero_or_pos k with e | e
  · subst e; decide
  · obtain ⟨j, rfl⟩ : ∃ j, k = j + 1 := ⟨k - 1, by omega⟩
    rw [nI_pred]
    exact nI_lt (Nat.lt_succ_self j) (by omega)
theorem dec_eq (x : Int32) : x + Int32.ofInt (-1) = x - 1 := by
  rw [Int32.sub_eq_add_neg]
  rfl
set_option maxHeartbeats 4000000 in
theorem lp_M_shift {p : Program} {l : Launch} {e : Env} {s : State} {m : MethodId} {args : Array Value} {below : List Frame} {meth : Method} {c : Code} {D : va_G} {cB cI cZ : ClassId} {a : Nat → Nat} {Q : State → Prop} {A : Nat → Prop} {fb : Nat → Int32} {st : Nat → Nat} {sz bs : Nat → Int32} {us nn bm tk : Nat} {M f : Nat → Nat} {q : Nat} {b : Int32} (hn : nn ≤ 20000) (hq : q ≤ 400000) (hsz : ∀ k, k < nn → sz k = nI (M k) ∨ (sz k = -1 ∧ M k = 0)) (hM : ∀ k, M k ≤ 16384) (hst : ∀ k, k < nn → 0 < M k → st k ≤ 400000) (hf : ∀ k, k < nn → 0 < M k → q < st k → nI (st k) + b = nI (f (st k))) (S : CallFix p m c b_M_shift 4 s args aw R_M) (hK : va_K D classes (TY cB cI cZ) s) (kx : ∀ (H : Heap) (locs : List Loc), va_P D classes (wM cB cI a fb (sh f M q st nn) sz bs us nn bm tk) H → va_D A (wM cB cI a fb (sh f M q st nn) sz bs us nn bm tk) → va_S A s.heap H locs → ∀ (ls : Array Slot), lv_has ls 4 [(0, .ref (a 0)), (1, .int (nI q)), (2, .int b), (3, .int (nI nn))] → W p l e (rmL 0) s m args below meth c H locs 0 0 Q (F0 m 49 ls [])) :
    ∀ (d i : Nat), i + d = nn → ∀ (H : Heap) (locs : List Loc), va_P D classes (wM cB cI a fb (sh f M q st i) sz bs us nn bm tk) H → va_D A (wM cB cI a fb (sh f M q st i) sz bs us nn bm tk) → va_S A s.heap H locs → ∀ (ls : Array Slot), lv_has ls 4 [(0, .ref (a 0)), (1, .int (nI q)), (2, .int b), (3, .int (nI i))] → W p l e (rmL 0) s m args below meth c H locs 0 0 Q (F0 m 2 ls []) := by
  have hx := S.1
  have hb := S.2.1
  intro d
  induction d with
  | zero =>
    intro i hi H locs hP hD hS ls hl
    have e0 : i = nn := by omega
    subst e0
    refine lv_iload_n hx hb d_M_shift_2 rfl (lv_at hl 3 rfl) ?_
    refine lv_aload_n hx hb d_M_shift_3 rfl (lv_at hl 0 rfl) ?_
    refine gf_M_numbers S hK hP 0 rfl rfl d_M_shift_4 ?_
    refine lv_icmp_ge (tgt := 49) hx hb d_M_shift_7 (by decide) (fun c1 => ?_) (fun c1 => ?_)
    · exact kx H locs hP hD hS ls hl
    · exact absurd (nI_le (Nat.le_refl i) (by omega)) c1
  | succ d ih =>
    intro i hi H locs hP hD hS ls hl
    have hi2 : i < nn := by omega
    have hat := sh_at f M q st i
    have hMi := hM i
    refine lv_iload_n hx hb d_M_shift_2 rfl (lv_at hl 3 rfl) ?_
    refine lv_aload_n hx hb d_M_shift_3 rfl (lv_at hl 0 rfl) ?_
    refine gf_M_numbers S hK hP 0 rfl rfl d_M_shift_4 ?_
    refine lv_icmp_ge (tgt := 49) hx hb d_M_shift_7 (by decide) (fun c1 => ?_) (fun c1 => ?_)
    · exact absurd c1 (nI_ge (by omega) (by omega))
    · refine lv_aload_n hx hb d_M_shift_10 rfl (lv_at hl 0 rfl) ?_
      refine gf_M_starts S hK hP 0 rfl rfl d_M_shift_11 ?_
      refine lv_iload_n hx hb d_M_shift_14 rfl (lv_at hl 3 rfl) ?_
      refine lv_dup2_11 hx hb d_M_shift_15 rfl rfl ?_
      refine ldI S hK hP 2 rfl i rfl (by omega) (v := nI (st i)) (by show nI (sh f M q st i i) = _; rw [hat]) d_M_shift_16 ?_
      refine lv_aload_n hx hb d_M_shift_17 rfl (lv_at hl 0 rfl) ?_
      refine gf_M_sizes S hK hP 0 rfl rfl d_M_shift_18 ?_
      refine lv_iload_n hx hb d_M_shift_21 rfl (lv_at hl 3 rfl) ?_
      refine ldI S hK hP 3 rfl i rfl (by omega) (v := sz i) rfl d_M_shift_22 ?_
      refine lv_if_le (tgt := 40) hx hb d_M_shift_23 (by decide) (fun c2 => ?_) (fun c2 => ?_)
      · have h0 : ¬ 0 < M i := fun z => by
          rcases hsz i hi2 with e | e
          · rw [e] at c2; exact nI_nle z (by omega) c2
          · omega
        refine lv_iconst (v := 0) hx hb d_M_shift_40 (by decide) ?_
        refine lv_iadd hx hb d_M_shift_41 ?_
        refine tpE (y := nI (st i)) (by simp) ?_
        refine stI S hK hP hD hS 2 rfl i rfl (by omega) (g := nF (sh f M q st (i + 1))) (sh_up (by rw [if_neg (fun z => h0 z.1)])) d_M_shift_42 (fun H locs hP hD hS => ?_)
        have hP : va_P D classes (wM cB cI a fb (sh f M q st (i + 1)) sz bs us nn bm tk) H := hP
        have hD : va_D A (wM cB cI a fb (sh f M q st (i + 1)) sz bs us nn bm tk) := hD
        refine lv_iinc (v := nI (i + 1)) (lv' := [(3, .int (nI (i + 1))), (0, .ref (a 0)), (1, .int (nI q)), (2, .int b)]) hx hb d_M_shift_43 hl (k := 3) rfl (nI_1 i) (by decide) rfl (fun ls hl => ?_)
        refine lv_goto (tgt := 2) hx hb d_M_shift_46 (by decide) ?_
        exact ih (i + 1) (by omega) H locs hP hD hS ls (lv_sub hl [1, 2, 3, 0] rfl)
      · have h0 : 0 < M i := by
          rcases hsz i hi2 with e | e
          · rcases Nat.eq_zero_or_pos (M i) with z | z
            · exact absurd (by rw [e, z]; decide) c2
            · exact z
          · exact absurd (by rw [e.1]; decide) c2
        refine lv_aload_n hx hb d_M_shift_26 rfl (lv_at hl 0 rfl) ?_
        refine gf_M_starts S hK hP 0 rfl rfl d_M_shift_27 ?_
        refine lv_iload_n hx hb d_M_shift_30 rfl (lv_at hl 3 rfl) ?_
        refine ldI S hK hP 2 rfl i rfl (by omega) (v := nI (st i)) (by show nI (sh f M q st i i) = _; rw [hat]) d_M_shift_31 ?_
        refine lv_iload_n hx hb d_M_shift_32 rfl (lv_at hl 1 rfl) ?_
        refine lv_icmp_le (tgt := 40) hx hb d_M_shift_33 (by decide) (fun c3 => ?_) (fun c3 => ?_)
        · have h1 : st i ≤ q := (nI_leI (by have := hst i hi2 h0; omega) (by omega)).mp c3
          refine lv_iconst (v := 0) hx hb d_M_shift_40 (by decide) ?_
          refine lv_iadd hx hb d_M_shift_41 ?_
          refine tpE (y := nI (st i)) (by simp) ?_
          refine stI S hK hP hD hS 2 rfl i rfl (by omega) (g := nF (sh f M q st (i + 1))) (sh_up (by rw [if_neg (fun z => by omega)])) d_M_shift_42 (fun H locs hP hD hS => ?_)
          have hP : va_P D classes (wM cB cI a fb (sh f M q st (i + 1)) sz bs us nn bm tk) H := hP
          have hD : va_D A (wM cB cI a fb (sh f M q st (i + 1)) sz bs us nn bm tk) := hD
          refine lv_iinc (v := nI (i + 1)) (lv' := [(3, .int (nI (i + 1))), (0, .ref (a 0)), (1, .int (nI q)), (2, .int b)]) hx hb d_M_shift_43 hl (k := 3) rfl (nI_1 i) (by decide) rfl (fun ls hl => ?_)
          refine lv_goto (tgt := 2) hx hb d_M_shift_46 (by decide) ?_
          exact ih (i + 1) (by omega) H locs hP hD hS ls (lv_sub hl [1, 2, 3, 0] rfl)
        · have h1 : q < st i := Nat.lt_of_not_le (fun z => c3 (nI_le z (by omega)))
          refine lv_iload_n hx hb d_M_shift_36 rfl (lv_at hl 2 rfl) ?_
          refine lv_goto (tgt := 41) hx hb d_M_shift_37 (by decide) ?_
          refine lv_iadd hx hb d_M_shift_41 ?_
          refine tpE (y := nI (f (st i))) (hf i hi2 h0 h1) ?_
          refine stI S hK hP hD hS 2 rfl i rfl (by omega) (g := nF (sh f M q st (i + 1))) (sh_up (by rw [if_pos ⟨h0, h1⟩])) d_M_shift_42 (fun H locs hP hD hS => ?_)
          have hP : va_P D classes (wM cB cI a fb (sh f M q st (i + 1)) sz bs us nn bm tk) H := hP
          have hD : va_D A (wM cB cI a fb (sh f M q st (i + 1)) sz bs us nn bm tk) := hD
          refine lv_iinc (v := nI (i + 1)) (lv' := [(3, .int (nI (i + 1))), (0, .ref (a 0)), (1, .int (nI q)), (2, .int b)]) hx hb d_M_shift_43 hl (k := 3) rfl (nI_1 i) (by decide) rfl (fun ls hl => ?_)
          refine lv_goto (tgt := 2) hx hb d_M_shift_46 (by decide) ?_
          exact ih (i + 1) (by omega) H locs hP hD hS ls (lv_sub hl [1, 2, 3, 0] rfl)
set_option maxHeartbeats 4000000 in
/-- ByteShelfModel.shift -/
theorem c_M_shift (l : Launch) (D : va_G) (cB cI cZ : ClassId) (a : Nat → Nat) (fb : Nat → Int32) (st : Nat → Nat) (sz bs : Nat → Int32) (us nn bm tk : Nat) (M f : Nat → Nat) (q : Nat) (b : Int32) (hn : nn ≤ 20000) (hq : q ≤ 400000) (hsz : ∀ k, k < nn → sz k = nI (M k) ∨ (sz k = -1 ∧ M k = 0)) (hM : ∀ k, M k ≤ 16384) (hst : ∀ k, k < nn → 0 < M k → st k ≤ 400000) (hf : ∀ k, k < nn → 0 < M k → q < st k → nI (st k) + b = nI (f (st k))) : Met l y_M_shift w_M_shift (rmL 0) (va_Pc [.ref (a 0), .int (nI q), .int b] (Wd D cB cI cZ (wM cB cI a fb st sz bs us nn bm tk))) (Qmv D (fun _ : Unit => True) (fun _ => wM cB cI a fb (sh f M q st nn) sz bs us nn bm tk) (wM cB cI a fb st sz bs us nn bm tk)) 0 0 (inA (wM cB cI a fb st sz bs us nn bm tk)) := by
  refine entry (by decide) (Nat.le_of_ble_eq_true rfl) ?_
  intro p e s m args below meth c S hr hlocks hin hPre ls hl
  have hx := S.1
  have hb := S.2.1
  have hl : lv_has ls 4 [(0, .ref (a 0)), (1, .int (nI q)), (2, .int b)] := hl
  obtain ⟨hP, hK, hD⟩ := hPre
  have hD := inA_self hD
  have hS : va_S (inA (wM cB cI a fb st sz bs us nn bm tk)) s.heap s.heap [] := va_S.rf
  refine lv_iconst (v := (nI 0)) hx hb d_M_shift_0 (by decide) ?_
  refine lv_istore_n (lv' := [(3, .int (nI 0)), (0, .ref (a 0)), (1, .int (nI q)), (2, .int b)]) hx hb d_M_shift_1 rfl hl (by decide) rfl (fun ls hl => ?_)
  refine lp_M_shift hn hq hsz hM hst hf S hK (fun H locs hP hD hS ls hl => ?_) nn 0 (Nat.zero_add nn) _ _ (by rw [sh_0]; exact hP) (by rw [sh_0]; exact hD) hS ls (lv_sub hl [1, 2, 3, 0] rfl)
  exact rmV S hr hlocks () trivial hP hS d_M_shift_49
set_option maxHeartbeats 4000000 in
theorem sk1_M {p : Program} {l : Launch} {e : Env} {s : State} {m : MethodId} {args : Array Value} {below : List Frame} {meth : Method} {c : Code} {D : va_G} {cB cI cZ : ClassId} {a : Nat → Nat} {Q : State → Prop} {A : Nat → Prop} {fb : Nat → Int32} {st : Nat → Nat} {sz bs : Nat → Int32} {us nn bm tk : Nat} {M : Nat → Nat} {r z b0 : Nat} (hz : z ≤ 16384) (hMr : M r ≤ 16384) (hb0 : b0 + M r ≤ us) (hus : us ≤ 400000) (hz2 : M r ≤ z) (S : CallFix p m c b_M_change 7 s args aw R_M) (hK : va_K D classes (TY cB cI cZ) s) (kx : ∀ (H : Heap) (locs : List Loc), va_P D classes (wM cB cI a fb st sz bs us nn bm tk) H → va_D A (wM cB cI a fb st sz bs us nn bm tk) → va_S A s.heap H locs → ∀ (ls : Array Slot), lv_has ls 7 [(0, .ref (a 0)), (1, .int (nI r)), (2, .int (nI z)), (3, .int (nI (M r))), (4, .int (nI (b0 + M r))), (5, .int (nI z - nI (M r)))] → W p l e (rmL 1) s m args below meth c H locs 0 0 Q (F0 m 86 ls [])) :
    ∀ (H : Heap) (locs : List Loc), va_P D classes (wM cB cI a fb st sz bs us nn bm tk) H → va_D A (wM cB cI a fb st sz bs us nn bm tk) → va_S A s.heap H locs → ∀ (ls : Array Slot), lv_has ls 7 [(0, .ref (a 0)), (1, .int (nI r)), (2, .int (nI z)), (3, .int (nI (M r))), (4, .int (nI (b0 + M r))), (5, .int (nI z - nI (M r))), (6, .int (nI (b0 + M r)))] → W p l e (rmL 1) s m args below meth c H locs 0 0 Q (F0 m 49 ls []) := by
  have hx := S.1
  have hb := S.2.1
  have hby : ¬ (nI z - nI (M r)) < 0 := by rw [pk_sub hz2]; exact nI_pos (by omega)
  intro H locs hP hD hS ls hl
  refine lv_iload hx hb d_M_change_49 (lv_at hl 6 rfl) ?_
  refine lv_aload_n hx hb d_M_change_51 rfl (lv_at hl 0 rfl) ?_
  refine gf_M_used S hK hP 0 rfl rfl d_M_change_52 ?_
  refine lv_icmp_ge (tgt := 86) hx hb d_M_change_55 (by decide) (fun c1 => ?_) (fun c1 => ?_)
  · exact kx H locs hP hD hS ls (lv_sub hl [0, 1, 2, 3, 4, 5] rfl)
  · refine lv_iload hx hb d_M_change_58 (lv_at hl 5 rfl) ?_
    refine lv_if_ge (tgt := 86) hx hb d_M_change_60 (by decide) (fun c2 => ?_) (fun c2 => ?_)
    · exact kx H locs hP hD hS ls (lv_sub hl [0, 1, 2, 3, 4, 5] rfl)
    · exact absurd (Int32.not_lt.mp hby) c2
set_option maxHeartbeats 4000000 in
theorem lp1_M {p : Program} {l : Launch} {e : Env} {s : State} {m : MethodId} {args : Array Value} {below : List Frame} {meth : Method} {c : Code} {D : va_G} {cB cI cZ : ClassId} {a : Nat → Nat} {Q : State → Prop} {A : Nat → Prop} {fb : Nat → Int32} {st : Nat → Nat} {sz bs : Nat → Int32} {us nn bm tk : Nat} {M : Nat → Nat} {r z b0 : Nat} (hz : z ≤ 16384) (hMr : M r ≤ 16384) (hb0 : b0 + M r ≤ us) (hus : us ≤ 400000) (hz2 : z < M r) (hbF : bF fb) (S : CallFix p m c b_M_change 7 s args aw R_M) (hK : va_K D classes (TY cB cI cZ) s) (kx : ∀ (H : Heap) (locs : List Loc), va_P D classes (wM cB cI a (mvD fb (b0 + M r) (M r - z) us) st sz bs us nn bm tk) H → va_D A (wM cB cI a (mvD fb (b0 + M r) (M r - z) us) st sz bs us nn bm tk) → va_S A s.heap H locs → ∀ (ls : Array Slot), lv_has ls 7 [(0, .ref (a 0)), (1, .int (nI r)), (2, .int (nI z)), (3, .int (nI (M r))), (4, .int (nI (b0 + M r))), (5, .int (nI z - nI (M r)))] → W p l e (rmL 1) s m args below meth c H locs 0 0 Q (F0 m 86 ls [])) :
    ∀ (d k : Nat), k + d = us → b0 + M r ≤ k → ∀ (H : Heap) (locs : List Loc), va_P D classes (wM cB cI a (mvD fb (b0 + M r) (M r - z) k) st sz bs us nn bm tk) H → va_D A (wM cB cI a (mvD fb (b0 + M r) (M r - z) k) st sz bs us nn bm tk) → va_S A s.heap H locs → ∀ (ls : Array Slot), lv_has ls 7 [(0, .ref (a 0)), (1, .int (nI r)), (2, .int (nI z)), (3, .int (nI (M r))), (4, .int (nI (b0 + M r))), (5, .int (nI z - nI (M r))), (6, .int (nI k))] → W p l e (rmL 1) s m args below meth c H locs 0 0 Q (F0 m 49 ls []) := by
  have hx := S.1
  have hb := S.2.1
  have hby : (nI z - nI (M r)) < 0 := pk_sneg (by omega) hz2
  intro d
  induction d with
  | zero =>
    intro k hk hk2 H locs hP hD hS ls hl
    have e0 : k = us := by omega
    subst e0
    refine lv_iload hx hb d_M_change_49 (lv_at hl 6 rfl) ?_
    refine lv_aload_n hx hb d_M_change_51 rfl (lv_at hl 0 rfl) ?_
    refine gf_M_used S hK hP 0 rfl rfl d_M_change_52 ?_
    refine lv_icmp_ge (tgt := 86) hx hb d_M_change_55 (by decide) (fun c1 => ?_) (fun c1 => ?_)
    · exact kx H locs hP hD hS ls (lv_sub hl [0, 1, 2, 3, 4, 5] rfl)
    · exact absurd (nI_le (Nat.le_refl k) (by omega)) c1
  | succ d ih =>
    intro k hk hk2 H locs hP hD hS ls hl
    refine lv_iload hx hb d_M_change_49 (lv_at hl 6 rfl) ?_
    refine lv_aload_n hx hb d_M_change_51 rfl (lv_at hl 0 rfl) ?_
    refine gf_M_used S hK hP 0 rfl rfl d_M_change_52 ?_
    refine lv_icmp_ge (tgt := 86) hx hb d_M_change_55 (by decide) (fun c1 => ?_) (fun c1 => ?_)
    · exact absurd c1 (nI_ge (by omega) (by omega))
    · refine lv_iload hx hb d_M_change_58 (lv_at hl 5 rfl) ?_
      refine lv_if_ge (tgt := 86) hx hb d_M_change_60 (by decide) (fun c2 => ?_) (fun c2 => ?_)
      · exact absurd (Int32.not_lt.mpr c2) (fun q => q hby)
      · refine lv_aload_n hx hb d_M_change_63 rfl (lv_at hl 0 rfl) ?_
        refine gf_M_bytes S hK hP 0 rfl rfl d_M_change_64 ?_
        refine lv_iload hx hb d_M_change_67 (lv_at hl 6 rfl) ?_
        refine lv_iload hx hb d_M_change_69 (lv_at hl 5 rfl) ?_
        refine lv_iadd hx hb d_M_change_71 ?_
        refine tpE (y := nI (k - (M r - z))) (by rw [adsub (by omega), show k + z - M r = k - (M r - z) by omega]) ?_
        refine lv_aload_n hx hb d_M_change_72 rfl (lv_at hl 0 rfl) ?_
        refine gf_M_bytes S hK hP 0 rfl rfl d_M_change_73 ?_
        refine lv_iload hx hb d_M_change_76 (lv_at hl 6 rfl) ?_
        refine ldB S hK hP 1 rfl k rfl (by omega) (v := fb k) (mvD_at (by omega)) d_M_change_78 ?_
        refine stB S hK hP hD hS 1 rfl (k - (M r - z)) rfl (by omega) (g := mvD fb (b0 + M r) (M r - z) (k + 1)) (by rw [hbF k]; exact mvD_up (by omega) hk2) d_M_change_79 (fun H locs hP hD hS => ?_)
        have hP : va_P D classes (wM cB cI a (mvD fb (b0 + M r) (M r - z) (k + 1)) st sz bs us nn bm tk) H := hP
        have hD : va_D A (wM cB cI a (mvD fb (b0 + M r) (M r - z) (k + 1)) st sz bs us nn bm tk) := hD
        refine lv_iinc (v := nI (k + 1)) (lv' := [(6, .int (nI (k + 1))), (0, .ref (a 0)), (1, .int (nI r)), (2, .int (nI z)), (3, .int (nI (M r))), (4, .int (nI (b0 + M r))), (5, .int (nI z - nI (M r)))]) hx hb d_M_change_80 hl (k := 6) rfl (nI_1 k) (by decide) rfl (fun ls hl => ?_)
        refine lv_goto (tgt := 49) hx hb d_M_change_83 (by decide) ?_
        exact ih (k + 1) (by omega) (by omega) H locs hP hD hS ls (lv_sub hl [1, 2, 3, 4, 5, 6, 0] rfl)
set_option maxHeartbeats 4000000 in
theorem sk2_M {p : Program} {l : Launch} {e : Env} {s : State} {m : MethodId} {args : Array Value} {below : List Frame} {meth : Method} {c : Code} {D : va_G} {cB cI cZ : ClassId} {a : Nat → Nat} {Q : State → Prop} {A : Nat → Prop} {fb : Nat → Int32} {st : Nat → Nat} {sz bs : Nat → Int32} {us nn bm tk : Nat} {M : Nat → Nat} {r z b0 : Nat} (hz : z ≤ 16384) (hMr : M r ≤ 16384) (hb0 : b0 + M r ≤ us) (hus : us ≤ 400000) (hz2 : z ≤ M r) (v6 : Int32) (S : CallFix p m c b_M_change 7 s args aw R_M) (hK : va_K D classes (TY cB cI cZ) s) (kx : ∀ (H : Heap) (locs : List Loc), va_P D classes (wM cB cI a fb st sz bs us nn bm tk) H → va_D A (wM cB cI a fb st sz bs us nn bm tk) → va_S A s.heap H locs → ∀ (ls : Array Slot), lv_has ls 7 [(0, .ref (a 0)), (1, .int (nI r)), (2, .int (nI z)), (3, .int (nI (M r))), (4, .int (nI (b0 + M r))), (5, .int (nI z - nI (M r)))] → W p l e (rmL 1) s m args below meth c H locs 0 0 Q (F0 m 129 ls [])) :
    ∀ (H : Heap) (locs : List Loc), va_P D classes (wM cB cI a fb st sz bs us nn bm tk) H → va_D A (wM cB cI a fb st sz bs us nn bm tk) → va_S A s.heap H locs → ∀ (ls : Array Slot), lv_has ls 7 [(0, .ref (a 0)), (1, .int (nI r)), (2, .int (nI z)), (3, .int (nI (M r))), (4, .int (nI (b0 + M r))), (5, .int (nI z - nI (M r))), (6, .int v6)] → W p l e (rmL 1) s m args below meth c H locs 0 0 Q (F0 m 94 ls []) := by
  have hx := S.1
  have hb := S.2.1
  have hby : (nI z - nI (M r)) ≤ 0 := by
    rcases Nat.lt_or_ge z (M r) with h | h
    · exact Int32.le_of_lt (pk_sneg (by omega) h)
    · rw [show z = M r by omega, pk_sub (Nat.le_refl _), Nat.sub_self]; decide
  intro H locs hP hD hS ls hl
  refine lv_iload hx hb d_M_change_94 (lv_at hl 6 rfl) ?_
  refine lv_iload hx hb d_M_change_96 (lv_at hl 4 rfl) ?_
  refine lv_icmp_lt (tgt := 129) hx hb d_M_change_98 (by decide) (fun c1 => ?_) (fun c1 => ?_)
  · exact kx H locs hP hD hS ls (lv_sub hl [0, 1, 2, 3, 4, 5] rfl)
  · refine lv_iload hx hb d_M_change_101 (lv_at hl 5 rfl) ?_
    refine lv_if_le (tgt := 129) hx hb d_M_change_103 (by decide) (fun c2 => ?_) (fun c2 => ?_)
    · exact kx H locs hP hD hS ls (lv_sub hl [0, 1, 2, 3, 4, 5] rfl)
    · exact absurd hby c2
set_option maxHeartbeats 4000000 in
theorem lp2_M {p : Program} {l : Launch} {e : Env} {s : State} {m : MethodId} {args : Array Value} {below : List Frame} {meth : Method} {c : Code} {D : va_G} {cB cI cZ : ClassId} {a : Nat → Nat} {Q : State → Prop} {A : Nat → Prop} {fb : Nat → Int32} {st : Nat → Nat} {sz bs : Nat → Int32} {us nn bm tk : Nat} {M : Nat → Nat} {r z b0 : Nat} (hz : z ≤ 16384) (hMr : M r ≤ 16384) (hb0 : b0 + M r ≤ us) (hus : us ≤ 400000) (hz2 : M r < z) (hbF : bF fb) (hu2 : us + z ≤ 400000 + M r) (S : CallFix p m c b_M_change 7 s args aw R_M) (hK : va_K D classes (TY cB cI cZ) s) (kx : ∀ (H : Heap) (locs : List Loc), va_P D classes (wM cB cI a (mvV fb (b0 + M r) (z - M r) us) st sz bs us nn bm tk) H → va_D A (wM cB cI a (mvV fb (b0 + M r) (z - M r) us) st sz bs us nn bm tk) → va_S A s.heap H locs → ∀ (ls : Array Slot), lv_has ls 7 [(0, .ref (a 0)), (1, .int (nI r)), (2, .int (nI z)), (3, .int (nI (M r))), (4, .int (nI (b0 + M r))), (5, .int (nI z - nI (M r)))] → W p l e (rmL 1) s m args below meth c H locs 0 0 Q (F0 m 129 ls [])) :
    ∀ (d k : Nat), b0 + M r + d = k → k ≤ us → ∀ (H : Heap) (locs : List Loc), va_P D classes (wM cB cI a (mvV fb k (z - M r) us) st sz bs us nn bm tk) H → va_D A (wM cB cI a (mvV fb k (z - M r) us) st sz bs us nn bm tk) → va_S A s.heap H locs → ∀ (ls : Array Slot), lv_has ls 7 [(0, .ref (a 0)), (1, .int (nI r)), (2, .int (nI z)), (3, .int (nI (M r))), (4, .int (nI (b0 + M r))), (5, .int (nI z - nI (M r))), (6, .int (nI k - 1))] → W p l e (rmL 1) s m args below meth c H locs 0 0 Q (F0 m 94 ls []) := by
  have hx := S.1
  have hb := S.2.1
  have hby : ¬ (nI z - nI (M r)) ≤ 0 := by rw [pk_sub (by omega)]; exact nI_nle (by omega) (by omega)
  intro d
  induction d with
  | zero =>
    intro k hk hk2 H locs hP hD hS ls hl
    have e0 : k = b0 + M r := by omega
    subst e0
    refine lv_iload hx hb d_M_change_94 (lv_at hl 6 rfl) ?_
    refine lv_iload hx hb d_M_change_96 (lv_at hl 4 rfl) ?_
    refine lv_icmp_lt (tgt := 129) hx hb d_M_change_98 (by decide) (fun c1 => ?_) (fun c1 => ?_)
    · exact kx H locs hP hD hS ls (lv_sub hl [0, 1, 2, 3, 4, 5] rfl)
    · exact absurd (dec_lt (by omega)) c1
  | succ d ih =>
    intro k hk hk2 H locs hP hD hS ls hl
    obtain ⟨k, rfl⟩ : ∃ j, k = j + 1 := ⟨k - 1, by omega⟩
    have hl : lv_has ls 7 [(0, .ref (a 0)), (1, .int (nI r)), (2, .int (nI z)), (3, .int (nI (M r))), (4, .int (nI (b0 + M r))), (5, .int (nI z - nI (M r))), (6, .int (nI k))] := by rw [← nI_pred k]; exact hl
    refine lv_iload hx hb d_M_change_94 (lv_at hl 6 rfl) ?_
    refine lv_iload hx hb d_M_change_96 (lv_at hl 4 rfl) ?_
    refine lv_icmp_lt (tgt := 129) hx hb d_M_change_98 (by decide) (fun c1 => ?_) (fun c1 => ?_)
    · exact absurd c1 (nI_nlt (by omega) (by omega))
    · refine lv_iload hx hb d_M_change_101 (lv_at hl 5 rfl) ?_
      refine lv_if_le (tgt := 129) hx hb d_M_change_103 (by decide) (fun c2 => ?_) (fun c2 => ?_)
      · exact absurd c2 hby
      · refine lv_aload_n hx hb d_M_change_106 rfl (lv_at hl 0 rfl) ?_
        refine gf_M_bytes S hK hP 0 rfl rfl d_M_change_107 ?_
        refine lv_iload hx hb d_M_change_110 (lv_at hl 6 rfl) ?_
        refine lv_iload hx hb d_M_change_112 (lv_at hl 5 rfl) ?_
        refine lv_iadd hx hb d_M_change_114 ?_
        refine tpE (y := nI (k + (z - M r))) (by rw [pk_sub (by omega), nI_add]) ?_
        refine lv_aload_n hx hb d_M_change_115 rfl (lv_at hl 0 rfl) ?_
        refine gf_M_bytes S hK hP 0 rfl rfl d_M_change_116 ?_
        refine lv_iload hx hb d_M_change_119 (lv_at hl 6 rfl) ?_
        refine ldB S hK hP 1 rfl k rfl (by omega) (v := fb k) (mvV_at (by omega)) d_M_change_121 ?_
        refine stB S hK hP hD hS 1 rfl (k + (z - M r)) rfl (by omega) (g := mvV fb k (z - M r) us) (by rw [hbF k]; exact mvV_up (by omega)) d_M_change_122 (fun H locs hP hD hS => ?_)
        have hP : va_P D classes (wM cB cI a (mvV fb k (z - M r) us) st sz bs us nn bm tk) H := hP
        have hD : va_D A (wM cB cI a (mvV fb k (z - M r) us) st sz bs us nn bm tk) := hD
        refine lv_iinc (v := nI k - 1) (lv' := [(6, .int (nI k - 1)), (0, .ref (a 0)), (1, .int (nI r)), (2, .int (nI z)), (3, .int (nI (M r))), (4, .int (nI (b0 + M r))), (5, .int (nI z - nI (M r)))]) hx hb d_M_change_123 hl (k := 6) rfl (dec_eq _) (by decide) rfl (fun ls hl => ?_)
        refine lv_goto (tgt := 94) hx hb d_M_change_126 (by decide) ?_
        exact ih k (by omega) (by omega) H locs hP hD hS ls (lv_sub hl [1, 2, 3, 4, 5, 6, 0] rfl)
set_option maxHeartbeats 4000000 in
theorem lp3_M {p : Program} {l : Launch} {e : Env} {s : State} {m : MethodId} {args : Array Value} {below : List Frame} {meth : Method} {c : Code} {D : va_G} {cB cI cZ : ClassId} {a : Nat → Nat} {Q : State → Prop} {A : Nat → Prop} {fb : Nat → Int32} {st : Nat → Nat} {sz bs : Nat → Int32} {us nn bm tk : Nat} {M : Nat → Nat} {r z b0 : Nat} (hz : z ≤ 16384) (hMr : M r ≤ 16384) (hb0 : b0 + M r ≤ us) (hus : us ≤ 400000) (hz2 : M r < z) (hu2 : us + z ≤ 400000 + M r) (S : CallFix p m c b_M_change 7 s args aw R_M) (hK : va_K D classes (TY cB cI cZ) s) (kx : ∀ (H : Heap) (locs : List Loc), va_P D classes (wM cB cI a (zf fb (b0 + M r) (z - M r)) st sz bs us nn bm tk) H → va_D A (wM cB cI a (zf fb (b0 + M r) (z - M r)) st sz bs us nn bm tk) → va_S A s.heap H locs → ∀ (ls : Array Slot), lv_has ls 7 [(0, .ref (a 0)), (1, .int (nI r)), (2, .int (nI z)), (3, .int (nI (M r))), (4, .int (nI (b0 + M r))), (5, .int (nI z - nI (M r)))] → W p l e (rmL 1) s m args below meth c H locs 0 0 Q (F0 m 157 ls [])) :
    ∀ (d j : Nat), j + d = z - M r → ∀ (H : Heap) (locs : List Loc), va_P D classes (wM cB cI a (zf fb (b0 + M r) j) st sz bs us nn bm tk) H → va_D A (wM cB cI a (zf fb (b0 + M r) j) st sz bs us nn bm tk) → va_S A s.heap H locs → ∀ (ls : Array Slot), lv_has ls 7 [(0, .ref (a 0)), (1, .int (nI r)), (2, .int (nI z)), (3, .int (nI (M r))), (4, .int (nI (b0 + M r))), (5, .int (nI z - nI (M r))), (6, .int (nI (b0 + M r + j)))] → W p l e (rmL 1) s m args below meth c H locs 0 0 Q (F0 m 133 ls []) := by
  have hx := S.1
  have hb := S.2.1
  have hsum : nI (b0 + M r) + (nI z - nI (M r)) = nI (b0 + z) := by rw [adsub (by omega), show b0 + M r + z - M r = b0 + z by omega]
  intro d
  induction d with
  | zero =>
    intro j hj H locs hP hD hS ls hl
    have e0 : j = z - M r := by omega
    subst e0
    refine lv_iload hx hb d_M_change_133 (lv_at hl 6 rfl) ?_
    refine lv_iload hx hb d_M_change_135 (lv_at hl 4 rfl) ?_
    refine lv_iload hx hb d_M_change_137 (lv_at hl 5 rfl) ?_
    refine lv_iadd hx hb d_M_change_139 ?_
    refine tpE (y := nI (b0 + z)) (hsum) ?_
    refine lv_icmp_ge (tgt := 157) hx hb d_M_change_140 (by decide) (fun c1 => ?_) (fun c1 => ?_)
    · exact kx H locs hP hD hS ls (lv_sub hl [0, 1, 2, 3, 4, 5] rfl)
    · exact absurd (nI_le (by omega) (by omega)) c1
  | succ d ih =>
    intro j hj H locs hP hD hS ls hl
    refine lv_iload hx hb d_M_change_133 (lv_at hl 6 rfl) ?_
    refine lv_iload hx hb d_M_change_135 (lv_at hl 4 rfl) ?_
    refine lv_iload hx hb d_M_change_137 (lv_at hl 5 rfl) ?_
    refine lv_iadd hx hb d_M_change_139 ?_
    refine tpE (y := nI (b0 + z)) (hsum) ?_
    refine lv_icmp_ge (tgt := 157) hx hb d_M_change_140 (by decide) (fun c1 => ?_) (fun c1 => ?_)
    · exact absurd c1 (nI_ge (by omega) (by omega))
    · refine lv_aload_n hx hb d_M_change_143 rfl (lv_at hl 0 rfl) ?_
      refine gf_M_bytes S hK hP 0 rfl rfl d_M_change_144 ?_
      refine lv_iload hx hb d_M_change_147 (lv_at hl 6 rfl) ?_
      refine lv_iconst (v := 0) hx hb d_M_change_149 (by decide) ?_
      refine stB S hK hP hD hS 1 rfl (b0 + M r + j) rfl (by omega) (g := zf fb (b0 + M r) (j + 1)) (zf_up fb _ j) d_M_change_150 (fun H locs hP hD hS => ?_)
      have hP : va_P D classes (wM cB cI a (zf fb (b0 + M r) (j + 1)) st sz bs us nn bm tk) H := hP
      have hD : va_D A (wM cB cI a (zf fb (b0 + M r) (j + 1)) st sz bs us nn bm tk) := hD
      refine lv_iinc (v := nI (b0 + M r + (j + 1))) (lv' := [(6, .int (nI (b0 + M r + (j + 1)))), (0, .ref (a 0)), (1, .int (nI r)), (2, .int (nI z)), (3, .int (nI (M r))), (4, .int (nI (b0 + M r))), (5, .int (nI z - nI (M r)))]) hx hb d_M_change_151 hl (k := 6) rfl (nI_1 _) (by decide) rfl (fun ls hl => ?_)
      refine lv_goto (tgt := 133) hx hb d_M_change_154 (by decide) ?_
      exact ih (j + 1) (by omega) H locs hP hD hS ls (lv_sub hl [1, 2, 3, 4, 5, 6, 0] rfl)
set_option maxHeartbeats 4000000 in
theorem tl_M_change {p : Program} {l : Launch} {e : Env} {s : State} {m : MethodId} {args : Array Value} {below : List Frame} {meth : Method} {c : Code} {D : va_G} {cB cI cZ : ClassId} {a : Nat → Nat} {wc : va_W} {fb : Nat → Int32} {st : Nat → Nat} {sz bs : Nat → Int32} {us nn bm tk : Nat} {M : Nat → Nat} {r z b0 : Nat} (hz : z ≤ 16384) (hMr : M r ≤ 16384) (hb0 : b0 + M r ≤ us) (hus : us ≤ 400000) {ct : Nat → Nat → Int32} {f : Nat → Nat} (eus : us = sm M nn) (hn : nn ≤ 20000) (hr0 : r < nn) (hu2 : us + z ≤ 400000 + M r) (htk : rnd (M r) ≤ tk) (htk2 : tk ≤ 400000) (hsz : ∀ k, k < nn → sz k = nI (M k) ∨ (sz k = -1 ∧ M k = 0)) (hM : ∀ k, M k ≤ 16384) (hst : ∀ k, k < nn → 0 < M k → st k ≤ 400000) (hstr : st r = b0) (hf : ∀ k, k < nn → 0 < M k → b0 < st k → nI (st k) + (nI z - nI (M r)) = nI (f (st k))) (hbF : bF fb) (hI : Iv nn (va_up M r z) (rsC ct r (M r)) fb (sh f M b0 st nn)) (S : CallFix p m c b_M_change 7 s args aw R_M) (hK : va_K D classes (TY cB cI cZ) s) (hr : meth.sig.returnType = none) (hlocks : meth.locks = false) :
    ∀ (H : Heap) (locs : List Loc), va_P D classes (wM cB cI a fb st sz bs us nn bm tk) H → va_D (inA wc) (wM cB cI a fb st sz bs us nn bm tk) → va_S (inA wc) s.heap H locs → ∀ (ls : Array Slot), lv_has ls 7 [(0, .ref (a 0)), (1, .int (nI r)), (2, .int (nI z)), (3, .int (nI (M r))), (4, .int (nI (b0 + M r))), (5, .int (nI z - nI (M r)))] → W p l e (rmL 1) s m args below meth c H locs 0 0 (MQ below (Qmv D (fun (u : (Nat → Int32) × (Nat → Nat)) => bF u.1 ∧ Iv nn (va_up M r z) (rsC ct r (M r)) u.1 u.2) (fun u => wM cB cI a u.1 u.2 (upd sz r (nI z)) bs (sm (va_up M r z) nn) nn bm (tk + rnd z - rnd (M r))) wc) args s 0 0 (inA wc)) (F0 m 157 ls []) := by
  have hx := S.1
  have hb := S.2.1
  have hsn := sm_new (M := M) (z := z) hr0
  have hrz := rnd_lt z
  have hrm := rnd_lt (M r)
  intro H locs hP hD hS ls hl
  refine lv_aload_n hx hb d_M_change_157 rfl (lv_at hl 0 rfl) ?_
  refine lv_aload_n hx hb d_M_change_158 rfl (lv_at hl 0 rfl) ?_
  refine gf_M_starts S hK hP 0 rfl rfl d_M_change_159 ?_
  refine lv_iload_n hx hb d_M_change_162 rfl (lv_at hl 1 rfl) ?_
  refine ldI S hK hP 2 rfl r rfl (by omega) (v := nI b0) (by show nI (st r) = _; rw [hstr]) d_M_change_163 ?_
  refine lv_iload hx hb d_M_change_164 (lv_at hl 5 rfl) ?_
  refine cmV (As := [.int (nI b0), .int (nI z - nI (M r))]) (rest := []) (wr := []) S (c_M_shift l D cB cI cZ a fb st sz bs us nn bm tk M f b0 (nI z - nI (M r)) hn (by omega) hsz hM hst hf) (cw_M_49 S.2.2.2.2 ⟨by decide, by decide⟩) hK hP hD hS [0, 1, 2, 3, 4] [] rfl rfl rfl (by decide) rfl rfl rfl hl.1 rfl (Nat.le_of_ble_eq_true rfl) d_M_change_166 ⟨by decide, by decide⟩ (fun u H locs hu hP hS => ?_)
  have hP : va_P D classes (wM cB cI a fb (sh f M b0 st nn) sz bs us nn bm tk) H := hP.sub [0, 1, 2, 3, 4] rfl
  have hD : va_D (inA wc) (wM cB cI a fb (sh f M b0 st nn) sz bs us nn bm tk) := dA hD rfl
  refine lv_aload_n hx hb d_M_change_169 rfl (lv_at hl 0 rfl) ?_
  refine lv_dup hx hb d_M_change_170 rfl ?_
  refine gf_M_used S hK hP 0 rfl rfl d_M_change_171 ?_
  refine lv_iload hx hb d_M_change_174 (lv_at hl 5 rfl) ?_
  refine lv_iadd hx hb d_M_change_176 ?_
  refine tpE (y := nI (sm (va_up M r z) nn)) (by rw [adsub (by omega), show us + z - M r = sm (va_up M r z) nn by omega]) ?_
  refine pf_M_used S hK hP hD hS 0 rfl (Nat.le_of_ble_eq_true rfl) d_M_change_177 (fun H locs hP hD hS => ?_)
  have hP : va_P D classes (wM cB cI a fb (sh f M b0 st nn) sz bs (sm (va_up M r z) nn) nn bm tk) H := hP
  have hD : va_D (inA wc) (wM cB cI a fb (sh f M b0 st nn) sz bs (sm (va_up M r z) nn) nn bm tk) := hD
  refine lv_aload_n hx hb d_M_change_180 rfl (lv_at hl 0 rfl) ?_
  refine lv_dup hx hb d_M_change_181 rfl ?_
  refine gf_M_taken S hK hP 0 rfl rfl d_M_change_182 ?_
  refine lv_iload_n hx hb d_M_change_185 rfl (lv_at hl 2 rfl) ?_
  refine cpS (As := [.int (nI z)]) (rest := [.int (nI tk), .ref (a 0)]) S (c_M_placesOf l z (by omega)) (cw_M_38 S.2.2.2.2 ⟨by decide, by decide⟩) hP hS rfl hl.1 rfl (Nat.le_of_ble_eq_true rfl) d_M_change_186 ⟨by decide, by decide⟩ (fun H locs hP hS => ?_)
  refine lv_iload_n hx hb d_M_change_189 rfl (lv_at hl 3 rfl) ?_
  refine cpS (As := [.int (nI (M r))]) (rest := [.int (nI (rnd z)), .int (nI tk), .ref (a 0)]) S (c_M_placesOf l (M r) (by omega)) (cw_M_38 S.2.2.2.2 ⟨by decide, by decide⟩) hP hS rfl hl.1 rfl (Nat.le_of_ble_eq_true rfl) d_M_change_190 ⟨by decide, by decide⟩ (fun H locs hP hS => ?_)
  refine lv_isub hx hb d_M_change_193 ?_
  refine lv_iadd hx hb d_M_change_194 ?_
  refine tpE (y := nI (tk + rnd z - rnd (M r))) (adsub (by omega)) ?_
  refine pf_M_taken S hK hP hD hS 0 rfl (Nat.le_of_ble_eq_true rfl) d_M_change_195 (fun H locs hP hD hS => ?_)
  have hP : va_P D classes (wM cB cI a fb (sh f M b0 st nn) sz bs (sm (va_up M r z) nn) nn bm (tk + rnd z - rnd (M r))) H := hP
  have hD : va_D (inA wc) (wM cB cI a fb (sh f M b0 st nn) sz bs (sm (va_up M r z) nn) nn bm (tk + rnd z - rnd (M r))) := hD
  refine lv_aload_n hx hb d_M_change_198 rfl (lv_at hl 0 rfl) ?_
  refine gf_M_sizes S hK hP 0 rfl rfl d_M_change_199 ?_
  refine lv_iload_n hx hb d_M_change_202 rfl (lv_at hl 1 rfl) ?_
  refine lv_iload_n hx hb d_M_change_203 rfl (lv_at hl 2 rfl) ?_
  refine stI S hK hP hD hS 3 rfl r rfl (by omega) (g := upd sz r (nI z)) rfl d_M_change_204 (fun H locs hP hD hS => ?_)
  have hP : va_P D classes (wM cB cI a fb (sh f M b0 st nn) (upd sz r (nI z)) bs (sm (va_up M r z) nn) nn bm (tk + rnd z - rnd (M r))) H := hP
  have hD : va_D (inA wc) (wM cB cI a fb (sh f M b0 st nn) (upd sz r (nI z)) bs (sm (va_up M r z) nn) nn bm (tk + rnd z - rnd (M r))) := hD
  exact rmV S hr hlocks (fb, sh f M b0 st nn) ⟨hbF, hI⟩ hP hS d_M_change_205
set_option maxHeartbeats 4000000 in
theorem tl29_M {p : Program} {l : Launch} {e : Env} {s : State} {m : MethodId} {args : Array Value} {below : List Frame} {meth : Method} {c : Code} {D : va_G} {cB cI cZ : ClassId} {a : Nat → Nat} {wc : va_W} {fb : Nat → Int32} {st : Nat → Nat} {sz bs : Nat → Int32} {us nn bm tk : Nat} {M : Nat → Nat} {r z b0 : Nat} (hz : z ≤ 16384) (hMr : M r ≤ 16384) (hb0 : b0 + M r ≤ us) (hus : us ≤ 400000) {ct : Nat → Nat → Int32} (eus : us = sm M nn) (hn : nn ≤ 20000) (hu2 : us + z ≤ 400000 + M r) (htk : rnd (M r) ≤ tk) (htk2 : tk ≤ 400000) (hsz : ∀ k, k < nn → sz k = nI (M k) ∨ (sz k = -1 ∧ M k = 0)) (hM : ∀ k, M k ≤ 16384) (hbF : bF fb) (hI : Iv nn M ct fb (va_up st r b0)) (hB : Bt nn r b0 M (va_up st r b0)) (S : CallFix p m c b_M_change 7 s args aw R_M) (hK : va_K D classes (TY cB cI cZ) s) (hr : meth.sig.returnType = none) (hlocks : meth.locks = false) :
    ∀ (H : Heap) (locs : List Loc), va_P D classes (wM cB cI a fb st sz bs us nn bm tk) H → va_D (inA wc) (wM cB cI a fb st sz bs us nn bm tk) → va_S (inA wc) s.heap H locs → ∀ (ls : Array Slot), lv_has ls 7 [(0, .ref (a 0)), (1, .int (nI r)), (2, .int (nI z)), (3, .int (nI (M r)))] → W p l e (rmL 1) s m args below meth c H locs 0 0 (MQ below (Qmv D (fun (u : (Nat → Int32) × (Nat → Nat)) => bF u.1 ∧ Iv nn (va_up M r z) (rsC ct r (M r)) u.1 u.2) (fun u => wM cB cI a u.1 u.2 (upd sz r (nI z)) bs (sm (va_up M r z) nn) nn bm (tk + rnd z - rnd (M r))) wc) args s 0 0 (inA wc)) (F0 m 29 ls [.int (nI b0), .int (nI r), .ref (a 2)]) := by
  have hx := S.1
  have hb := S.2.1
  have hr0 := hB.2.1
  have hstr := hB.1
  have hst : ∀ k, k < nn → 0 < M k → va_up st r b0 k ≤ 400000 := fun k q1 q2 => by have := hI.1 k q1 q2; omega
  intro H locs hP hD hS ls hl
  refine stI S hK hP hD hS 2 rfl r rfl (by omega) (g := nF (va_up st r b0)) (nF_up _ _ _) d_M_change_29 (fun H locs hP hD hS => ?_)
  have hP : va_P D classes (wM cB cI a fb (va_up st r b0) sz bs us nn bm tk) H := hP
  have hD : va_D (inA wc) (wM cB cI a fb (va_up st r b0) sz bs us nn bm tk) := hD
  refine lv_aload_n hx hb d_M_change_30 rfl (lv_at hl 0 rfl) ?_
  refine gf_M_starts S hK hP 0 rfl rfl d_M_change_31 ?_
  refine lv_iload_n hx hb d_M_change_34 rfl (lv_at hl 1 rfl) ?_
  refine ldI S hK hP 2 rfl r rfl (by omega) (v := nI b0) (by show nI (va_up st r b0 r) = _; rw [hstr]) d_M_change_35 ?_
  refine lv_iload_n hx hb d_M_change_36 rfl (lv_at hl 3 rfl) ?_
  refine lv_iadd hx hb d_M_change_37 ?_
  refine tpE (y := nI (b0 + M r)) (nI_add _ _) ?_
  refine lv_istore (lv' := [(4, .int (nI (b0 + M r))), (0, .ref (a 0)), (1, .int (nI r)), (2, .int (nI z)), (3, .int (nI (M r)))]) hx hb d_M_change_38 hl (by decide) rfl (fun ls hl => ?_)
  refine lv_iload_n hx hb d_M_change_40 rfl (lv_at hl 3 rfl) ?_
  refine lv_iload_n hx hb d_M_change_41 rfl (lv_at hl 4 rfl) ?_
  refine lv_isub hx hb d_M_change_42 ?_
  refine lv_istore (lv' := [(5, .int ((nI z) - (nI (M r)))), (4, .int (nI (b0 + M r))), (0, .ref (a 0)), (1, .int (nI r)), (2, .int (nI z)), (3, .int (nI (M r)))]) hx hb d_M_change_43 hl (by decide) rfl (fun ls hl => ?_)
  refine lv_iload hx hb d_M_change_45 (lv_at hl 1 rfl) ?_
  refine lv_istore (lv' := [(6, .int (nI (b0 + M r))), (5, .int ((nI z) - (nI (M r)))), (4, .int (nI (b0 + M r))), (0, .ref (a 0)), (1, .int (nI r)), (2, .int (nI z)), (3, .int (nI (M r)))]) hx hb d_M_change_47 hl (by decide) rfl (fun ls hl => ?_)
  rcases Nat.lt_trichotomy z (M r) with hlt | heq | hgt
  · refine lp1_M hz hMr hb0 hus hlt hbF S hK (fun H locs hP hD hS ls hl => ?_) (us - (b0 + M r)) (b0 + M r) (by omega) (Nat.le_refl _) H locs (by rw [mvD_0]; exact hP) (by rw [mvD_0]; exact hD) hS ls (lv_sub hl [3, 4, 5, 6, 2, 1, 0] rfl)
    refine lv_aload_n hx hb d_M_change_86 rfl (lv_at hl 0 rfl) ?_
    refine gf_M_used S hK hP 0 rfl rfl d_M_change_87 ?_
    refine lv_iconst (v := 1) hx hb d_M_change_90 (by decide) ?_
    refine lv_isub hx hb d_M_change_91 ?_
    refine lv_istore (lv' := [(6, .int ((nI us) - 1)), (0, .ref (a 0)), (1, .int (nI r)), (2, .int (nI z)), (3, .int (nI (M r))), (4, .int (nI (b0 + M r))), (5, .int (nI z - nI (M r)))]) hx hb d_M_change_92 hl (by decide) rfl (fun ls hl => ?_)
    refine sk2_M hz hMr hb0 hus (by omega) _ S hK (fun H locs hP hD hS ls hl => ?_) H locs hP hD hS ls (lv_sub hl [1, 2, 3, 4, 5, 6, 0] rfl)
    refine lv_iload hx hb d_M_change_129 (lv_at hl 4 rfl) ?_
    refine lv_istore (lv' := [(6, .int (nI (b0 + M r))), (0, .ref (a 0)), (1, .int (nI r)), (2, .int (nI z)), (3, .int (nI (M r))), (4, .int (nI (b0 + M r))), (5, .int (nI z - nI (M r)))]) hx hb d_M_change_131 hl (by decide) rfl (fun ls hl => ?_)
    refine lv_iload hx hb d_M_change_133 (lv_at hl 0 rfl) ?_
    refine lv_iload hx hb d_M_change_135 (lv_at hl 5 rfl) ?_
    refine lv_iload hx hb d_M_change_137 (lv_at hl 6 rfl) ?_
    refine lv_iadd hx hb d_M_change_139 ?_
    refine tpE (y := nI (b0 + z)) (by rw [adsub (by omega), show b0 + M r + z - M r = b0 + z by omega]) ?_
    refine lv_icmp_ge (tgt := 157) hx hb d_M_change_140 (by decide) (fun c1 => ?_) (fun c1 => ?_)
    · exact tl_M_change (f := fun t => t - (M r - z)) hz hMr hb0 hus eus hn hr0 hu2 htk htk2 hsz hM hst hstr (fun k q1 q2 q3 => by have := hI.1 k q1 q2; have := hB.2.2.2 k q1 (fun e => by rw [e, hstr] at q3; omega) q2; rw [adsub (by omega)]; congr 1; omega) (mvD_bF hbF) (by rw [eus]; exact Iv_lt hI hB hlt) S hK hr hlocks H locs hP hD hS ls (lv_sub hl [1, 2, 3, 4, 5, 6] rfl)
    · exact absurd (nI_le (by omega) (by omega)) c1
  · refine sk1_M hz hMr hb0 hus (by omega) S hK (fun H locs hP hD hS ls hl => ?_) H locs hP hD hS ls (lv_sub hl [3, 4, 5, 6, 2, 1, 0] rfl)
    refine lv_aload_n hx hb d_M_change_86 rfl (lv_at hl 0 rfl) ?_
    refine gf_M_used S hK hP 0 rfl rfl d_M_change_87 ?_
    refine lv_iconst (v := 1) hx hb d_M_change_90 (by decide) ?_
    refine lv_isub hx hb d_M_change_91 ?_
    refine lv_istore (lv' := [(6, .int ((nI us) - 1)), (0, .ref (a 0)), (1, .int (nI r)), (2, .int (nI z)), (3, .int (nI (M r))), (4, .int (nI (b0 + M r))), (5, .int (nI z - nI (M r)))]) hx hb d_M_change_92 hl (by decide) rfl (fun ls hl => ?_)
    refine sk2_M hz hMr hb0 hus (by omega) _ S hK (fun H locs hP hD hS ls hl => ?_) H locs hP hD hS ls (lv_sub hl [1, 2, 3, 4, 5, 6, 0] rfl)
    refine lv_iload hx hb d_M_change_129 (lv_at hl 4 rfl) ?_
    refine lv_istore (lv' := [(6, .int (nI (b0 + M r))), (0, .ref (a 0)), (1, .int (nI r)), (2, .int (nI z)), (3, .int (nI (M r))), (4, .int (nI (b0 + M r))), (5, .int (nI z - nI (M r)))]) hx hb d_M_change_131 hl (by decide) rfl (fun ls hl => ?_)
    refine lv_iload hx hb d_M_change_133 (lv_at hl 0 rfl) ?_
    refine lv_iload hx hb d_M_change_135 (lv_at hl 5 rfl) ?_
    refine lv_iload hx hb d_M_change_137 (lv_at hl 6 rfl) ?_
    refine lv_iadd hx hb d_M_change_139 ?_
    refine tpE (y := nI (b0 + z)) (by rw [adsub (by omega), show b0 + M r + z - M r = b0 + z by omega]) ?_
    refine lv_icmp_ge (tgt := 157) hx hb d_M_change_140 (by decide) (fun c1 => ?_) (fun c1 => ?_)
    · exact tl_M_change (f := fun t => t) hz hMr hb0 hus eus hn hr0 hu2 htk htk2 hsz hM hst hstr (fun k q1 q2 q3 => by have := hI.1 k q1 q2; have := hB.2.2.2 k q1 (fun e => by rw [e, hstr] at q3; omega) q2; rw [adsub (by omega)]; congr 1; omega) (hbF) (Iv_eq hI hB heq) S hK hr hlocks H locs hP hD hS ls (lv_sub hl [1, 2, 3, 4, 5, 6] rfl)
    · exact absurd (nI_le (by omega) (by omega)) c1
  · refine sk1_M hz hMr hb0 hus (by omega) S hK (fun H locs hP hD hS ls hl => ?_) H locs hP hD hS ls (lv_sub hl [3, 4, 5, 6, 2, 1, 0] rfl)
    refine lv_aload_n hx hb d_M_change_86 rfl (lv_at hl 0 rfl) ?_
    refine gf_M_used S hK hP 0 rfl rfl d_M_change_87 ?_
    refine lv_iconst (v := 1) hx hb d_M_change_90 (by decide) ?_
    refine lv_isub hx hb d_M_change_91 ?_
    refine lv_istore (lv' := [(6, .int ((nI us) - 1)), (0, .ref (a 0)), (1, .int (nI r)), (2, .int (nI z)), (3, .int (nI (M r))), (4, .int (nI (b0 + M r))), (5, .int (nI z - nI (M r)))]) hx hb d_M_change_92 hl (by decide) rfl (fun ls hl => ?_)
    refine lp2_M hz hMr hb0 hus hgt hbF hu2 S hK (fun H locs hP hD hS ls hl => ?_) (us - (b0 + M r)) us (by omega) (Nat.le_refl _) H locs (by rw [mvV_0]; exact hP) (by rw [mvV_0]; exact hD) hS ls (lv_sub hl [1, 2, 3, 4, 5, 6, 0] rfl)
    refine lv_iload hx hb d_M_change_129 (lv_at hl 4 rfl) ?_
    refine lv_istore (lv' := [(6, .int (nI (b0 + M r))), (0, .ref (a 0)), (1, .int (nI r)), (2, .int (nI z)), (3, .int (nI (M r))), (4, .int (nI (b0 + M r))), (5, .int (nI z - nI (M r)))]) hx hb d_M_change_131 hl (by decide) rfl (fun ls hl => ?_)
    refine lp3_M (fb := mvV fb (b0 + M r) (z - M r) us) hz hMr hb0 hus hgt hu2 S hK (fun H locs hP hD hS ls hl => ?_) (z - M r) 0 (by omega) H locs (by rw [zf_0]; exact hP) (by rw [zf_0]; exact hD) hS ls (lv_sub hl [1, 2, 3, 4, 5, 6, 0] rfl)
    exact tl_M_change (f := fun t => t + (z - M r)) hz hMr hb0 hus eus hn hr0 hu2 htk htk2 hsz hM hst hstr (fun k q1 q2 q3 => by have := hI.1 k q1 q2; have := hB.2.2.2 k q1 (fun e => by rw [e, hstr] at q3; omega) q2; rw [adsub (by omega)]; congr 1; omega) (zf_bF (mvV_bF hbF)) (by rw [eus]; exact Iv_gt hI hB hgt) S hK hr hlocks H locs hP hD hS ls (lv_sub hl [0, 1, 2, 3, 4, 5] rfl)
set_option maxHeartbeats 4000000 in
/-- ByteShelfModel.change -/
theorem c_M_change (l : Launch) (D : va_G) (cB cI cZ : ClassId) (a : Nat → Nat) (fb : Nat → Int32) (st : Nat → Nat) (sz bs : Nat → Int32) (us nn bm tk : Nat) (M : Nat → Nat) (ct : Nat → Nat → Int32) (r z : Nat) (hr0 : r < nn) (hz : z ≤ 16384) (eus : us = sm M nn) (hus : us ≤ 400000) (hn : nn ≤ 20000) (hu2 : us + z ≤ 400000 + M r) (htk : rnd (M r) ≤ tk) (htk2 : tk ≤ 400000) (hsz : ∀ k, k < nn → sz k = nI (M k) ∨ (sz k = -1 ∧ M k = 0)) (hM : ∀ k, M k ≤ 16384) (hrow : sz r = nI (M r)) (hbF : bF fb) (hI : Iv nn M ct fb st) : Met l y_M_change w_M_change (rmL 1) (va_Pc [.ref (a 0), .int (nI r), .int (nI z)] (Wd D cB cI cZ (wM cB cI a fb st sz bs us nn bm tk))) (Qmv D (fun (u : (Nat → Int32) × (Nat → Nat)) => bF u.1 ∧ Iv nn (va_up M r z) (rsC ct r (M r)) u.1 u.2) (fun u => wM cB cI a u.1 u.2 (upd sz r (nI z)) bs (sm (va_up M r z) nn) nn bm (tk + rnd z - rnd (M r))) (wM cB cI a fb st sz bs us nn bm tk)) 0 0 (inA (wM cB cI a fb st sz bs us nn bm tk)) := by
  refine entry (by decide) (Nat.le_of_ble_eq_true rfl) ?_
  intro p e s m args below meth c S hr hlocks hin hPre ls hl
  have hx := S.1
  have hb := S.2.1
  have hl : lv_has ls 7 [(0, .ref (a 0)), (1, .int (nI r)), (2, .int (nI z))] := hl
  obtain ⟨hP, hK, hD⟩ := hPre
  have hD := inA_self hD
  have hS : va_S (inA (wM cB cI a fb st sz bs us nn bm tk)) s.heap s.heap [] := va_S.rf
  have hMr := hM r
  refine lv_aload_n hx hb d_M_change_0 rfl (lv_at hl 0 rfl) ?_
  refine gf_M_sizes S hK hP 0 rfl rfl d_M_change_1 ?_
  refine lv_iload_n hx hb d_M_change_4 rfl (lv_at hl 1 rfl) ?_
  refine ldI S hK hP 3 rfl r rfl (by omega) (v := nI (M r)) hrow d_M_change_5 ?_
  refine lv_istore_n (lv' := [(3, .int (nI (M r))), (0, .ref (a 0)), (1, .int (nI r)), (2, .int (nI z))]) hx hb d_M_change_6 rfl hl (by decide) rfl (fun ls hl => ?_)
  refine lv_aload_n hx hb d_M_change_7 rfl (lv_at hl 1 rfl) ?_
  refine gf_M_starts S hK hP 0 rfl rfl d_M_change_8 ?_
  refine lv_iload_n hx hb d_M_change_11 rfl (lv_at hl 2 rfl) ?_
  refine lv_iload_n hx hb d_M_change_12 rfl (lv_at hl 0 rfl) ?_
  refine lv_if_ne (tgt := 23) hx hb d_M_change_13 (by decide) (fun c1 => ?_) (fun c1 => ?_)
  · have h0 : ¬ M r = 0 := fun q => c1 (by rw [q]; rfl)
    obtain ⟨hI2, hB⟩ := Iv_begin (b0 := st r) hI hr0 (by rw [if_neg h0])
    refine lv_aload_n hx hb d_M_change_23 rfl (lv_at hl 1 rfl) ?_
    refine gf_M_starts S hK hP 0 rfl rfl d_M_change_24 ?_
    refine lv_iload_n hx hb d_M_change_27 rfl (lv_at hl 2 rfl) ?_
    refine ldI S hK hP 2 rfl r rfl (by omega) (v := nI (st r)) rfl d_M_change_28 ?_
    exact tl29_M (ct := ct) hz hMr (by have := hB.2.2.1; omega) hus eus hn hu2 htk htk2 hsz hM hbF hI2 hB S hK hr hlocks _ _ hP hD hS ls (lv_sub hl [1, 2, 3, 0] rfl)
  · have h0 : M r = 0 := (nI_eq (by omega) (by decide)).mp c1
    obtain ⟨hI2, hB⟩ := Iv_begin (b0 := us) hI hr0 (by rw [if_pos h0]; exact eus)
    refine lv_aload_n hx hb d_M_change_16 rfl (lv_at hl 1 rfl) ?_
    refine gf_M_used S hK hP 0 rfl rfl d_M_change_17 ?_
    refine lv_goto (tgt := 29) hx hb d_M_change_20 (by decide) ?_
    exact tl29_M (ct := ct) hz hMr (by have := hB.2.2.1; omega) hus eus hn hu2 htk htk2 hsz hM hbF hI2 hB S hK hr hlocks _ _ hP hD hS ls (lv_sub hl [1, 2, 3, 0] rfl)
end
section
/-! Pure: the model's picture under its calls -/
theorem szI_t {th : Nat → Bool} {M : Nat → Nat} {k : Nat} (h : th k = true) : szI th M k = nI (M k) := if_pos h
theorem szI_f {th : Nat → Bool} {M : Nat → Nat} {k : Nat} (h : th k = false) : szI th M k = -1 := if_neg (by rw [h]; decide)
theorem szI_neg {th : Nat → Bool} {M : Nat → Nat} {k : Nat} (hM : M k ≤ 16384) (h : szI th M k < 0) : th k = false := by
  cases e : th k with
  | false => rfl
  | true => rw [szI_t e] at h; exact absurd h (nI_pos (by omega))
theorem szI_pos {th : Nat → Bool} {M : Nat → Nat} {k : Nat} (h : ¬ szI th M k < 0) : th k = true := by
  cases e : th k with
  | true => rfl
  | false => rw [szI_f e] at h; exact absurd (by decide) h
theorem szI_or {x : Ab} (hO : Ok x) (k : Nat) : szI x.2.2.1 x.2.2.2.1 k = nI (x.2.2.2.1 k) ∨ (szI x.2.2.1 x.2.2.2.1 k = -1 ∧ x.2.2.2.1 k = 0) := by
  cases e : x.2.2.1 k with
  | true => exact Or.inl (szI_t e)
  | false => exact Or.inr ⟨szI_f e, hO.2.2.2.2.1 k e⟩
theorem Iv_ctx {n : Nat} {M st : Nat → Nat} {ct ct' : Nat → Nat → Int32} {fb : Nat → Int32} (k : Iv n M ct fb st) (h : ∀ j, j < n → ∀ i, i < M j → ct' j i = ct j i) : Iv n M ct' fb st :=
  ⟨k.1, k.2.1, fun j q1 i q2 => by rw [h j q1 i q2]; exact k.2.2 j q1 i q2⟩
/-- a call that hands row h other bytes -/
theorem RepB_ct {x : Ab} {fb fb' : Nat → Int32} {st : Nat → Nat} {sz bs g : Nat → Int32} {h : Nat} (hR : RepB x fb st sz bs) (hh : h < x.1) (ho : ∀ j, (j < st h ∨ st h + x.2.2.2.1 h ≤ j) → fb' j = fb j) (hb : bF fb') (hg : ∀ i, i < x.2.2.2.1 h → fb' (st h + i) = g i) : RepB (ctS x h g) fb' st sz bs :=
  ⟨hb, hR.2.1, hR.2.2.1, Iv_ct hR.2.2.2 hh ho hg⟩
theorem RepB_rs {x : Ab} {fb fb' : Nat → Int32} {st st' : Nat → Nat} {sz bs : Nat → Int32} {h z : Nat} (hR : RepB x fb st sz bs) (ht : x.2.2.1 h = true) (hb : bF fb') (hI : Iv x.1 (va_up x.2.2.2.1 h z) (rsC x.2.2.2.2.1 h (x.2.2.2.1 h)) fb' st') : RepB (rsT x h z) fb' st' (upd sz h (nI z)) bs := by
  refine ⟨hb, fun k hk => ?_, hR.2.2.1, hI⟩
  show upd sz h (nI z) k = szI x.2.2.1 (va_up x.2.2.2.1 h z) k
  by_cases c : k = h
  · subst c
    rw [pk_us, szI_t ht, va_up_self]
  · rw [pk_un c, hR.2.1 k hk]
    unfold szI
    rw [va_up_ne _ _ c]
theorem RepB_gv {x : Ab} {fb fb' : Nat → Int32} {st st' : Nat → Nat} {sz bs : Nat → Int32} {h : Nat} (hR : RepB x fb st sz bs) (hb : bF fb') (hI : Iv x.1 (va_up x.2.2.2.1 h 0) (rsC x.2.2.2.2.1 h (x.2.2.2.1 h)) fb' st') : RepB (x.1, h :: x.2.1, va_up x.2.2.1 h false, va_up x.2.2.2.1 h 0, x.2.2.2.2.1, x.2.2.2.2.2 - rnd (x.2.2.2.1 h)) fb' st' (upd (upd sz h (nI 0)) h (-1)) (upd bs x.2.1.length (nI h)) := by
  refine ⟨hb, fun k hk => ?_, ⟨pk_us, Bk_upd x.2.1 (Nat.le_refl _) hR.2.2.1⟩, Iv_ctx hI (fun j q1 i q2 => ?_)⟩
  · show upd (upd sz h (nI 0)) h (-1) k = szI (va_up x.2.2.1 h false) (va_up x.2.2.2.1 h 0) k
    by_cases c : k = h
    · subst c
      rw [pk_us, szI_f (va_up_self _ _ _)]
    · rw [pk_un c, pk_un c, hR.2.1 k hk]
      unfold szI
      rw [va_up_ne _ _ c, va_up_ne _ _ c]
  · have q2 : i < va_up x.2.2.2.1 h 0 j := q2
    show x.2.2.2.2.1 j i = _
    by_cases c : j = h
    · subst c
      rw [va_up_self] at q2
      omega
    · unfold rsC
      rw [va_up_ne _ _ c]
theorem RepB_tk {x : Ab} {fb fb' : Nat → Int32} {st st' : Nat → Nat} {sz bs : Nat → Int32} {h z n' : Nat} {bk' : List Nat} (hR : RepB x fb st sz bs) (hn : n' = x.1 ∨ (n' = x.1 + 1 ∧ h = x.1)) (hB : Bk bs bk') (hb : bF fb') (h0 : x.2.2.2.1 h = 0) (hI : Iv n' (va_up x.2.2.2.1 h z) (rsC x.2.2.2.2.1 h (x.2.2.2.1 h)) fb' st') : RepB (n', bk', va_up x.2.2.1 h true, va_up x.2.2.2.1 h z, va_up x.2.2.2.2.1 h (fun _ => 0), x.2.2.2.2.2 + rnd z) fb' st' (upd (upd sz h 0) h (nI z)) bs := by
  refine ⟨hb, fun k hk => ?_, hB, Iv_ctx hI (fun j q1 i q2 => ?_)⟩
  · have hk : k < n' := hk
    show upd (upd sz h 0) h (nI z) k = szI (va_up x.2.2.1 h true) (va_up x.2.2.2.1 h z) k
    by_cases c : k = h
    · subst c
      rw [pk_us, szI_t (va_up_self _ _ _), va_up_self]
    · rw [pk_un c, pk_un c, hR.2.1 k (by omega)]
      unfold szI
      rw [va_up_ne _ _ c, va_up_ne _ _ c]
  · show va_up x.2.2.2.2.1 h (fun _ => 0) j i = _
    unfold rsC
    by_cases c : j = h
    · subst c
      rw [va_up_self, va_up_self, h0]
      rfl
    · rw [va_up_ne _ _ c, va_up_ne _ _ c]
/-- sizes with one row at 0 -/
theorem sz_0 {x : Ab} {sz : Nat → Int32} {h n' : Nat} (hO : Ok x) (hz : ∀ k, k < x.1 → sz k = szI x.2.2.1 x.2.2.2.1 k) (h0 : x.2.2.2.1 h = 0) (hn : n' = x.1 ∨ (n' = x.1 + 1 ∧ h = x.1)) : (∀ k, k < n' → upd sz h 0 k = nI (x.2.2.2.1 k) ∨ (upd sz h 0 k = -1 ∧ x.2.2.2.1 k = 0)) ∧ upd sz h 0 h = nI (x.2.2.2.1 h) := by
  refine ⟨fun k hk => ?_, by rw [pk_us, h0]; rfl⟩
  by_cases c : k = h
  · subst c
    rw [pk_us, h0]
    exact Or.inl rfl
  · rw [pk_un c, hz k (by omega)]
    exact szI_or hO k
theorem rsF_no {x : Ab} {h z : Nat} (hf : rsF x h z = false) : rnd z ≤ rnd (x.2.2.2.1 h) ∨ x.2.2.2.2.2 + rnd z ≤ 400000 := by
  have := of_decide_eq_false hf
  omega
/-- where the bytes have room, the bytes used have -/
theorem us_room {x : Ab} {h z : Nat} (hO : Ok x) (ht : x.2.2.1 h = true) (hf : rsF x h z = false) : sm x.2.2.2.1 x.1 + z ≤ 400000 + x.2.2.2.1 h := by
  have h1 := (Ok_row hO ht).1
  have h2 := sm_new (M := x.2.2.2.1) (z := z) h1
  have h3 : sm (va_up x.2.2.2.1 h z) x.1 ≤ sm (fun k => rnd (va_up x.2.2.2.1 h z k)) x.1 := sm_le x.1 (fun k _ => rnd_le _)
  have h4 : sm (fun k => rnd (va_up x.2.2.2.1 h z k)) x.1 = sm (va_up (fun k => rnd (x.2.2.2.1 k)) h (rnd z)) x.1 := sm_congr x.1 (fun k _ => by
    unfold va_up
    by_cases c : k = h
    · simp [c]
    · simp [c])
  have h5 := sm_up (f := fun k => rnd (x.2.2.2.1 k)) h (rnd z) x.1 h1
  have h6 := hO.2.2.2.2.2.1
  have h7 := hO.2.2.2.2.2.2.1
  have h8 := rsF_no hf
  omega
theorem sub0 {x y : Int32} : x - y = 0 ↔ x = y := by
  constructor
  · intro h
    have := congrArg (· + y) h
    simpa using this
  · intro h
    rw [h]
    simp
theorem sgn_lt {x : Int32} (h : x < 0) : sgn x = -1 := if_pos h
theorem sgn_gt {x : Int32} (h1 : ¬ x = 0) (h2 : ¬ x < 0) : sgn x = 1 := by unfold sgn; rw [if_neg h2, if_neg h1]
theorem cp_read {n : Nat} {M st : Nat → Nat} {ct : Nat → Nat → Int32} {fb g : Nat → Int32} {h o z j : Nat} (hI : Iv n M ct fb st) (hh : h < n) (ho : o < n) (h1 : M h = z) (h2 : M o = z) (hj : j < z) : va_cpy g fb 0 (st h) j (st o + j) = ct o j := by
  rw [← hI.2.2 o ho j (by omega)]
  refine pk_cpy_out ?_
  by_cases c : h = o
  · subst c; right; omega
  · have := hI.2.1 h o hh ho c (by omega) (by omega)
    omega
theorem cpy_up2 (f g : Nat → Int32) (q j : Nat) : upd (va_cpy f g 0 q j) (q + j) (f j) = va_cpy f g 0 q (j + 1) := by
  funext t
  unfold upd va_cpy
  by_cases h : t = q + j
  · subst h
    rw [if_pos rfl, if_pos (by omega), show 0 + (q + j - q) = j by omega]
  · rw [if_neg h]
    by_cases h2 : q ≤ t ∧ t < q + j
    · rw [if_pos h2, if_pos (by omega)]
    · rw [if_neg h2, if_neg (by omega)]
end
section
set_option maxHeartbeats 4000000 in
/-- ByteShelfModel.isRow -/
theorem c_M_isRow (l : Launch) (D : va_G) (cB cI cZ : ClassId) (a : Nat → Nat) (fb : Nat → Int32) (st : Nat → Nat) (sz bs : Nat → Int32) (us n bm tk : Nat) (th : Nat → Bool) (M : Nat → Nat) (p0 : Int32) (hn0 : n ≤ 20000) (ht : ∀ k, th k = true → k < n) (hsz : ∀ k, k < n → sz k = szI th M k) (hM : ∀ k, M k ≤ 16384) : Met l y_M_isRow w_M_isRow (rmL 0) (va_Pc [.ref (a 0), .int p0] (Wd D cB cI cZ (wM cB cI a fb st sz bs us n bm tk))) (Qi (zb (rowN th p0).isSome)) 0 0 NoA := by
  refine entry (by decide) (Nat.le_of_ble_eq_true rfl) ?_
  intro p e s m args below meth c S hr hlocks hin hPre ls hl
  have hx := S.1
  have hb := S.2.1
  have hl : lv_has ls 2 [(0, .ref (a 0)), (1, .int p0)] := hl
  obtain ⟨hP, hK, hD⟩ := hPre
  have hS : va_S NoA s.heap s.heap [] := va_S.rf
  refine lv_iload_n hx hb d_M_isRow_0 rfl (lv_at hl 1 rfl) ?_
  refine lv_if_lt (tgt := 25) hx hb d_M_isRow_1 (by decide) (fun c1 => ?_) (fun c1 => ?_)
  · have hn : rowN th p0 = none := rowN_neg c1
    refine lv_iconst (v := 0) hx hb d_M_isRow_25 (by decide) ?_
    exact rtZ S hr hlocks hS (by rw [hn]; rfl) rfl d_M_isRow_26
  · obtain ⟨h, hh, rfl⟩ := nI_of c1
    refine lv_iload_n hx hb d_M_isRow_4 rfl (lv_at hl 1 rfl) ?_
    refine lv_aload_n hx hb d_M_isRow_5 rfl (lv_at hl 0 rfl) ?_
    refine gf_M_numbers S hK hP 0 rfl rfl d_M_isRow_6 ?_
    refine lv_icmp_ge (tgt := 25) hx hb d_M_isRow_9 (by decide) (fun c2 => ?_) (fun c2 => ?_)
    · have hn : rowN th (nI h) = none := rowN_f hh (by
        cases e : th h with
        | false => rfl
        | true => exact absurd (ht h e) (by have := (nI_leI (by omega) hh).mp c2; omega))
      refine lv_iconst (v := 0) hx hb d_M_isRow_25 (by decide) ?_
      exact rtZ S hr hlocks hS (by rw [hn]; rfl) rfl d_M_isRow_26
    · have hlt : h < n := Nat.lt_of_not_le (fun q => c2 (nI_le q hh))
      refine lv_aload_n hx hb d_M_isRow_12 rfl (lv_at hl 0 rfl) ?_
      refine gf_M_sizes S hK hP 0 rfl rfl d_M_isRow_13 ?_
      refine lv_iload_n hx hb d_M_isRow_16 rfl (lv_at hl 1 rfl) ?_
      refine ldI S hK hP 3 rfl h rfl (by omega) (v := szI th M h) (hsz h hlt) d_M_isRow_17 ?_
      refine lv_if_lt (tgt := 25) hx hb d_M_isRow_18 (by decide) (fun c3 => ?_) (fun c3 => ?_)
      · have hn : rowN th (nI h) = none := rowN_f hh (szI_neg (hM h) c3)
        refine lv_iconst (v := 0) hx hb d_M_isRow_25 (by decide) ?_
        exact rtZ S hr hlocks hS (by rw [hn]; rfl) rfl d_M_isRow_26
      · have hn : rowN th (nI h) = some h := rowN_t hh (szI_pos c3)
        refine lv_iconst (v := 1) hx hb d_M_isRow_21 (by decide) ?_
        refine lv_goto (tgt := 26) hx hb d_M_isRow_22 (by decide) ?_
        exact rtZ S hr hlocks hS (by rw [hn]; rfl) rfl d_M_isRow_26
set_option maxHeartbeats 4000000 in
/-- ByteShelfModel.many -/
theorem c_M_many (l : Launch) (D : va_G) (cB cI cZ : ClassId) (a : Nat → Nat) (fb : Nat → Int32) (st : Nat → Nat) (sz bs : Nat → Int32) (n : Nat) (bk : List Nat) (th : Nat → Bool) (M : Nat → Nat) (ct : Nat → Nat → Int32) (pl : Nat) (hO : Ok (n, bk, th, M, ct, pl)) (hR : RepB (n, bk, th, M, ct, pl) fb st sz bs) : Met l y_M_many w_M_many (rmL 0) (va_Pc [.ref (a 0)] (Wd D cB cI cZ (wM cB cI a fb st sz bs (sm M n) n bk.length pl))) (Qi (nI (n - bk.length))) 0 0 NoA := by
  refine entry (by decide) (Nat.le_of_ble_eq_true rfl) ?_
  intro p e s m args below meth c S hr hlocks hin hPre ls hl
  have hx := S.1
  have hb := S.2.1
  have hl : lv_has ls 1 [(0, .ref (a 0))] := hl
  obtain ⟨hP, hK, hD⟩ := hPre
  have hS : va_S NoA s.heap s.heap [] := va_S.rf
  have hrw : ∀ k, th k = true → k < n ∧ k < 20000 ∧ M k ≤ 16384 ∧ rnd (M k) ≤ pl ∧ bk.length < n := fun k hk => Ok_row hO hk
  obtain ⟨hbF, hsz, hBk, hI⟩ := id hR
  have hsz : ∀ k, k < n → sz k = szI th M k := hsz
  have hI : Iv n M ct fb st := hI
  have hMl : ∀ k, M k ≤ 16384 := hO.2.2.2.1
  have hpl : pl ≤ 400000 := hO.2.2.2.2.2.2.1
  have hn0 : n ≤ 20000 := hO.1
  have hln : bk.length ≤ n := Ok_len hO
  have hus : sm M n ≤ pl := sm_le_pl hO
  have hst : ∀ k, th k = true → 0 < M k → st k + M k ≤ 400000 := fun k q1 q2 => by have := hI.1 k (hrw k q1).1 q2; omega
  refine lv_aload_n hx hb d_M_many_0 rfl (lv_at hl 0 rfl) ?_
  refine gf_M_numbers S hK hP 0 rfl rfl d_M_many_1 ?_
  refine lv_aload_n hx hb d_M_many_4 rfl (lv_at hl 0 rfl) ?_
  refine gf_M_backMany S hK hP 0 rfl rfl d_M_many_5 ?_
  refine lv_isub hx hb d_M_many_8 ?_
  refine tpE (y := nI (n - bk.length)) (pk_sub hln) ?_
  exact rtI S hr hlocks hS rfl d_M_many_9
set_option maxHeartbeats 4000000 in
/-- ByteShelfModel.rows -/
theorem c_M_rows (l : Launch) (D : va_G) (cB cI cZ : ClassId) (a : Nat → Nat) (fb : Nat → Int32) (st : Nat → Nat) (sz bs : Nat → Int32) (n : Nat) (bk : List Nat) (th : Nat → Bool) (M : Nat → Nat) (ct : Nat → Nat → Int32) (pl : Nat) (hO : Ok (n, bk, th, M, ct, pl)) (hR : RepB (n, bk, th, M, ct, pl) fb st sz bs) : Met l y_M_rows w_M_rows (rmL 1) (va_Pc [.ref (a 0)] (Wd D cB cI cZ (wM cB cI a fb st sz bs (sm M n) n bk.length pl))) (Qi (nI (n - bk.length))) 0 0 NoA := by
  refine entry (by decide) (Nat.le_of_ble_eq_true rfl) ?_
  intro p e s m args below meth c S hr hlocks hin hPre ls hl
  have hx := S.1
  have hb := S.2.1
  have hl : lv_has ls 1 [(0, .ref (a 0))] := hl
  obtain ⟨hP, hK, hD⟩ := hPre
  have hS : va_S NoA s.heap s.heap [] := va_S.rf
  refine lv_aload_n hx hb d_M_rows_0 rfl (lv_at hl 0 rfl) ?_
  refine cpV (As := []) (rest := []) S (c_M_many l D cB cI cZ a fb st sz bs n bk th M ct pl hO hR) (cw_M_31 S.2.2.2.2 ⟨by decide, by decide⟩) hK hP hD hS [0, 1, 2, 3, 4] rfl rfl rfl rfl rfl hl.1 rfl (Nat.le_of_ble_eq_true rfl) d_M_rows_1 ⟨by decide, by decide⟩ (fun H locs hP hS => ?_)
  exact rtI S hr hlocks hS rfl d_M_rows_4
set_option maxHeartbeats 4000000 in
/-- ByteShelfModel.places -/
theorem c_M_places (l : Launch) (D : va_G) (cB cI cZ : ClassId) (a : Nat → Nat) (fb : Nat → Int32) (st : Nat → Nat) (sz bs : Nat → Int32) (n : Nat) (bk : List Nat) (th : Nat → Bool) (M : Nat → Nat) (ct : Nat → Nat → Int32) (pl : Nat) : Met l y_M_places w_M_places (rmL 0) (va_Pc [.ref (a 0)] (Wd D cB cI cZ (wM cB cI a fb st sz bs (sm M n) n bk.length pl))) (Qi (nI pl)) 0 0 NoA := by
  refine entry (by decide) (Nat.le_of_ble_eq_true rfl) ?_
  intro p e s m args below meth c S hr hlocks hin hPre ls hl
  have hx := S.1
  have hb := S.2.1
  have hl : lv_has ls 1 [(0, .ref (a 0))] := hl
  obtain ⟨hP, hK, hD⟩ := hPre
  have hS : va_S NoA s.heap s.heap [] := va_S.rf
  refine lv_aload_n hx hb d_M_places_0 rfl (lv_at hl 0 rfl) ?_
  refine gf_M_taken S hK hP 0 rfl rfl d_M_places_1 ?_
  exact rtI S hr hlocks hS rfl d_M_places_4
set_option maxHeartbeats 4000000 in
/-- ByteShelfModel.hasRoom -/
theorem c_M_hasRoom (l : Launch) (D : va_G) (cB cI cZ : ClassId) (a : Nat → Nat) (fb : Nat → Int32) (st : Nat → Nat) (sz bs : Nat → Int32) (n : Nat) (bk : List Nat) (th : Nat → Bool) (M : Nat → Nat) (ct : Nat → Nat → Int32) (pl : Nat) (h z : Nat) (hO : Ok (n, bk, th, M, ct, pl)) (hR : RepB (n, bk, th, M, ct, pl) fb st sz bs) (ht : th h = true) (hz : z ≤ 16384) : Met l y_M_hasRoom w_M_hasRoom (rmL 1) (va_Pc [.ref (a 0), .int (nI h), .int (nI z)] (Wd D cB cI cZ (wM cB cI a fb st sz bs (sm M n) n bk.length pl))) (Qi (zb (!rsF (n, bk, th, M, ct, pl) h z))) 0 0 NoA := by
  refine entry (by decide) (Nat.le_of_ble_eq_true rfl) ?_
  intro p e s m args below meth c S hr hlocks hin hPre ls hl
  have hx := S.1
  have hb := S.2.1
  have hl : lv_has ls 3 [(0, .ref (a 0)), (1, .int (nI h)), (2, .int (nI z))] := hl
  obtain ⟨hP, hK, hD⟩ := hPre
  have hS : va_S NoA s.heap s.heap [] := va_S.rf
  have hrw : ∀ k, th k = true → k < n ∧ k < 20000 ∧ M k ≤ 16384 ∧ rnd (M k) ≤ pl ∧ bk.length < n := fun k hk => Ok_row hO hk
  obtain ⟨hbF, hsz, hBk, hI⟩ := id hR
  have hsz : ∀ k, k < n → sz k = szI th M k := hsz
  have hI : Iv n M ct fb st := hI
  have hMl : ∀ k, M k ≤ 16384 := hO.2.2.2.1
  have hpl : pl ≤ 400000 := hO.2.2.2.2.2.2.1
  have hn0 : n ≤ 20000 := hO.1
  have hln : bk.length ≤ n := Ok_len hO
  have hus : sm M n ≤ pl := sm_le_pl hO
  have hst : ∀ k, th k = true → 0 < M k → st k + M k ≤ 400000 := fun k q1 q2 => by have := hI.1 k (hrw k q1).1 q2; omega
  have hw := hrw h ht
  have hs : sz h = nI (M h) := by rw [hsz h hw.1]; exact szI_t ht
  have hrz := rnd_lt z
  have hrm := rnd_lt (M h)
  refine lv_iload_n hx hb d_M_hasRoom_0 rfl (lv_at hl 2 rfl) ?_
  refine cpS (As := [.int (nI z)]) (rest := []) S (c_M_placesOf l (z) (by omega)) (cw_M_38 S.2.2.2.2 ⟨by decide, by decide⟩) hP hS rfl hl.1 rfl (Nat.le_of_ble_eq_true rfl) d_M_hasRoom_1 ⟨by decide, by decide⟩ (fun H locs hP hS => ?_)
  refine lv_aload_n hx hb d_M_hasRoom_4 rfl (lv_at hl 0 rfl) ?_
  refine gf_M_sizes S hK hP 0 rfl rfl d_M_hasRoom_5 ?_
  refine lv_iload_n hx hb d_M_hasRoom_8 rfl (lv_at hl 1 rfl) ?_
  refine ldI S hK hP 3 rfl h rfl (by omega) (v := nI (M h)) hs d_M_hasRoom_9 ?_
  refine cpS (As := [.int (nI (M h))]) (rest := [.int (nI (rnd z))]) S (c_M_placesOf l (M h) (by omega)) (cw_M_38 S.2.2.2.2 ⟨by decide, by decide⟩) hP hS rfl hl.1 rfl (Nat.le_of_ble_eq_true rfl) d_M_hasRoom_10 ⟨by decide, by decide⟩ (fun H locs hP hS => ?_)
  refine lv_icmp_le (tgt := 30) hx hb d_M_hasRoom_13 (by decide) (fun c1 => ?_) (fun c1 => ?_)
  · have hle : rnd z ≤ rnd (M h) := (nI_leI (by omega) (by omega)).mp c1
    have hf : rsF (n, bk, th, M, ct, pl) h z = false := decide_eq_false (fun q => by have q1 : rnd (M h) < rnd z := q.1; omega)
    refine lv_iconst (v := 1) hx hb d_M_hasRoom_30 (by decide) ?_
    refine lv_goto (tgt := 35) hx hb d_M_hasRoom_31 (by decide) ?_
    exact rtZ S hr hlocks hS (by rw [hf]; rfl) rfl d_M_hasRoom_35
  · have hlt : rnd (M h) < rnd z := Nat.lt_of_not_le (fun q => c1 (nI_le q (by omega)))
    refine lv_aload_n hx hb d_M_hasRoom_16 rfl (lv_at hl 0 rfl) ?_
    refine gf_M_taken S hK hP 0 rfl rfl d_M_hasRoom_17 ?_
    refine lv_iload_n hx hb d_M_hasRoom_20 rfl (lv_at hl 2 rfl) ?_
    refine cpS (As := [.int (nI z)]) (rest := [.int (nI pl)]) S (c_M_placesOf l (z) (by omega)) (cw_M_38 S.2.2.2.2 ⟨by decide, by decide⟩) hP hS rfl hl.1 rfl (Nat.le_of_ble_eq_true rfl) d_M_hasRoom_21 ⟨by decide, by decide⟩ (fun H locs hP hS => ?_)
    refine lv_iadd hx hb d_M_hasRoom_24 ?_
    refine tpE (y := nI (pl + rnd z)) (nI_add _ _) ?_
    refine lv_ldc (v := 400000) hx hb S.2.2.2.1 (S.2.2.2.2 _ k_k_M_7) d_M_hasRoom_25 ?_
    refine lv_icmp_gt (tgt := 34) hx hb d_M_hasRoom_27 (by decide) (fun c2 => ?_) (fun c2 => ?_)
    · have hq : 400000 < pl + rnd z := (nI_ltI (by decide) (by omega)).mp c2
      have hf : rsF (n, bk, th, M, ct, pl) h z = true := decide_eq_true ⟨hlt, hq⟩
      refine lv_iconst (v := 0) hx hb d_M_hasRoom_34 (by decide) ?_
      exact rtZ S hr hlocks hS (by rw [hf]; rfl) rfl d_M_hasRoom_35
    · have hq : pl + rnd z ≤ 400000 := Nat.le_of_not_lt (fun q => c2 (nI_lt (a := 400000) q (by omega)))
      have hf : rsF (n, bk, th, M, ct, pl) h z = false := decide_eq_false (fun q => by have q2 : 400000 < pl + rnd z := q.2; omega)
      refine lv_iconst (v := 1) hx hb d_M_hasRoom_30 (by decide) ?_
      refine lv_goto (tgt := 35) hx hb d_M_hasRoom_31 (by decide) ?_
      exact rtZ S hr hlocks hS (by rw [hf]; rfl) rfl d_M_hasRoom_35
set_option maxHeartbeats 4000000 in
/-- ByteShelfModel.size -/
theorem c_M_size (l : Launch) (D : va_G) (cB cI cZ : ClassId) (a : Nat → Nat) (fb : Nat → Int32) (st : Nat → Nat) (sz bs : Nat → Int32) (n : Nat) (bk : List Nat) (th : Nat → Bool) (M : Nat → Nat) (ct : Nat → Nat → Int32) (pl : Nat) (p0 : Int32) (hO : Ok (n, bk, th, M, ct, pl)) (hR : RepB (n, bk, th, M, ct, pl) fb st sz bs) : Met l y_M_size w_M_size (rmL 1) (va_Pc [.ref (a 0), .int p0] (Wd D cB cI cZ (wM cB cI a fb st sz bs (sm M n) n bk.length pl))) (Qi (szR (n, bk, th, M, ct, pl) p0)) 0 0 NoA := by
  refine entry (by decide) (Nat.le_of_ble_eq_true rfl) ?_
  intro p e s m args below meth c S hr hlocks hin hPre ls hl
  have hx := S.1
  have hb := S.2.1
  have hl : lv_has ls 2 [(0, .ref (a 0)), (1, .int p0)] := hl
  obtain ⟨hP, hK, hD⟩ := hPre
  have hS : va_S NoA s.heap s.heap [] := va_S.rf
  have hrw : ∀ k, th k = true → k < n ∧ k < 20000 ∧ M k ≤ 16384 ∧ rnd (M k) ≤ pl ∧ bk.length < n := fun k hk => Ok_row hO hk
  obtain ⟨hbF, hsz, hBk, hI⟩ := id hR
  have hsz : ∀ k, k < n → sz k = szI th M k := hsz
  have hI : Iv n M ct fb st := hI
  have hMl : ∀ k, M k ≤ 16384 := hO.2.2.2.1
  have hpl : pl ≤ 400000 := hO.2.2.2.2.2.2.1
  have hn0 : n ≤ 20000 := hO.1
  have hln : bk.length ≤ n := Ok_len hO
  have hus : sm M n ≤ pl := sm_le_pl hO
  have hst : ∀ k, th k = true → 0 < M k → st k + M k ≤ 400000 := fun k q1 q2 => by have := hI.1 k (hrw k q1).1 q2; omega
  refine lv_aload_n hx hb d_M_size_0 rfl (lv_at hl 0 rfl) ?_
  refine lv_iload_n hx hb d_M_size_1 rfl (lv_at hl 1 rfl) ?_
  refine cpV (As := [.int p0]) (rest := []) S (c_M_isRow l D cB cI cZ a fb st sz bs (sm M n) n bk.length pl th M p0 hn0 (fun k hk => (hrw k hk).1) hsz hMl) (cw_M_52 S.2.2.2.2 ⟨by decide, by decide⟩) hK hP hD hS [0, 1, 2, 3, 4] rfl rfl rfl rfl rfl hl.1 rfl (Nat.le_of_ble_eq_true rfl) d_M_size_2 ⟨by decide, by decide⟩ (fun H locs hP hS => ?_)
  refine lv_if_eq (tgt := 17) hx hb d_M_size_5 (by decide) (fun c1 => ?_) (fun c1 => ?_)
  · have hn := isN (zb_0 c1)
    refine lv_iconst (v := (-1)) hx hb d_M_size_17 (by decide) ?_
    exact rtI S hr hlocks hS (by unfold szR; rw [show rowN ((n, bk, th, M, ct, pl) : Ab).2.2.1 p0 = none from hn]) d_M_size_18
  · obtain ⟨h, hh, rfl, ht, hn⟩ := rowN_some (zb_1 c1)
    have hw := hrw h ht
    have hs : sz h = nI (M h) := by rw [hsz h hw.1]; exact szI_t ht
    have hm := hMl h
    refine lv_aload_n hx hb d_M_size_8 rfl (lv_at hl 0 rfl) ?_
    refine gf_M_sizes S hK hP 0 rfl rfl d_M_size_9 ?_
    refine lv_iload_n hx hb d_M_size_12 rfl (lv_at hl 1 rfl) ?_
    refine ldI S hK hP 3 rfl h rfl (by omega) (v := nI (M h)) hs d_M_size_13 ?_
    refine lv_goto (tgt := 18) hx hb d_M_size_14 (by decide) ?_
    exact rtI S hr hlocks hS (by unfold szR; rw [show rowN ((n, bk, th, M, ct, pl) : Ab).2.2.1 (nI h) = some h from hn]) d_M_size_18
set_option maxHeartbeats 4000000 in
/-- ByteShelfModel.get -/
theorem c_M_get (l : Launch) (D : va_G) (cB cI cZ : ClassId) (a : Nat → Nat) (fb : Nat → Int32) (st : Nat → Nat) (sz bs : Nat → Int32) (n : Nat) (bk : List Nat) (th : Nat → Bool) (M : Nat → Nat) (ct : Nat → Nat → Int32) (pl : Nat) (p0 p1 : Int32) (hO : Ok (n, bk, th, M, ct, pl)) (hR : RepB (n, bk, th, M, ct, pl) fb st sz bs) : Met l y_M_get w_M_get (rmL 1) (va_Pc [.ref (a 0), .int p0, .int p1] (Wd D cB cI cZ (wM cB cI a fb st sz bs (sm M n) n bk.length pl))) (Qi (gtR (n, bk, th, M, ct, pl) p0 p1)) 0 0 NoA := by
  refine entry (by decide) (Nat.le_of_ble_eq_true rfl) ?_
  intro p e s m args below meth c S hr hlocks hin hPre ls hl
  have hx := S.1
  have hb := S.2.1
  have hl : lv_has ls 3 [(0, .ref (a 0)), (1, .int p0), (2, .int p1)] := hl
  obtain ⟨hP, hK, hD⟩ := hPre
  have hS : va_S NoA s.heap s.heap [] := va_S.rf
  have hrw : ∀ k, th k = true → k < n ∧ k < 20000 ∧ M k ≤ 16384 ∧ rnd (M k) ≤ pl ∧ bk.length < n := fun k hk => Ok_row hO hk
  obtain ⟨hbF, hsz, hBk, hI⟩ := id hR
  have hsz : ∀ k, k < n → sz k = szI th M k := hsz
  have hI : Iv n M ct fb st := hI
  have hMl : ∀ k, M k ≤ 16384 := hO.2.2.2.1
  have hpl : pl ≤ 400000 := hO.2.2.2.2.2.2.1
  have hn0 : n ≤ 20000 := hO.1
  have hln : bk.length ≤ n := Ok_len hO
  have hus : sm M n ≤ pl := sm_le_pl hO
  have hst : ∀ k, th k = true → 0 < M k → st k + M k ≤ 400000 := fun k q1 q2 => by have := hI.1 k (hrw k q1).1 q2; omega
  refine lv_aload_n hx hb d_M_get_0 rfl (lv_at hl 0 rfl) ?_
  refine lv_iload_n hx hb d_M_get_1 rfl (lv_at hl 1 rfl) ?_
  refine cpV (As := [.int p0]) (rest := []) S (c_M_isRow l D cB cI cZ a fb st sz bs (sm M n) n bk.length pl th M p0 hn0 (fun k hk => (hrw k hk).1) hsz hMl) (cw_M_52 S.2.2.2.2 ⟨by decide, by decide⟩) hK hP hD hS [0, 1, 2, 3, 4] rfl rfl rfl rfl rfl hl.1 rfl (Nat.le_of_ble_eq_true rfl) d_M_get_2 ⟨by decide, by decide⟩ (fun H locs hP hS => ?_)
  refine lv_if_eq (tgt := 42) hx hb d_M_get_5 (by decide) (fun c1 => ?_) (fun c1 => ?_)
  · have hn := isN (zb_0 c1)
    have hib := ibB_none (x := (n, bk, th, M, ct, pl)) p1 hn
    refine lv_iconst (v := (-1)) hx hb d_M_get_42 (by decide) ?_
    exact rtI S hr hlocks hS ((ibB_f 0 hib).2.2.symm) d_M_get_43
  · obtain ⟨h, hh, rfl, ht, hn⟩ := rowN_some (zb_1 c1)
    have hw := hrw h ht
    have hs : sz h = nI (M h) := by rw [hsz h hw.1]; exact szI_t ht
    have hm := hMl h
    refine lv_iload_n hx hb d_M_get_8 rfl (lv_at hl 2 rfl) ?_
    refine lv_if_lt (tgt := 42) hx hb d_M_get_9 (by decide) (fun c2 => ?_) (fun c2 => ?_)
    · have hib := (ibB_some (x := (n, bk, th, M, ct, pl)) p1 hn).trans (inR_neg c2)
      refine lv_iconst (v := (-1)) hx hb d_M_get_42 (by decide) ?_
      exact rtI S hr hlocks hS ((ibB_f 0 hib).2.2.symm) d_M_get_43
    · obtain ⟨j, hj, rfl⟩ := nI_of c2
      refine lv_iload_n hx hb d_M_get_12 rfl (lv_at hl 2 rfl) ?_
      refine lv_aload_n hx hb d_M_get_13 rfl (lv_at hl 0 rfl) ?_
      refine gf_M_sizes S hK hP 0 rfl rfl d_M_get_14 ?_
      refine lv_iload_n hx hb d_M_get_17 rfl (lv_at hl 1 rfl) ?_
      refine ldI S hK hP 3 rfl h rfl (by omega) (v := nI (M h)) hs d_M_get_18 ?_
      refine lv_icmp_ge (tgt := 42) hx hb d_M_get_19 (by decide) (fun c3 => ?_) (fun c3 => ?_)
      · have hib := (ibB_some (x := (n, bk, th, M, ct, pl)) (nI j) hn).trans ((inR_nI hj (by show M h < _; omega)).trans (decide_eq_false (by show ¬ j < M h; have := (nI_leI (by omega) hj).mp c3; omega)))
        refine lv_iconst (v := (-1)) hx hb d_M_get_42 (by decide) ?_
        exact rtI S hr hlocks hS ((ibB_f 0 hib).2.2.symm) d_M_get_43
      · have hjm : j < M h := Nat.lt_of_not_le (fun q => c3 (nI_le q (by omega)))
        have hin : inR (n, bk, th, M, ct, pl) h (nI j) = true := (inR_nI hj (by show M h < _; omega)).trans (decide_eq_true hjm)
        have hg := (ibB_ok (x := (n, bk, th, M, ct, pl)) 0 hn hin).2.2
        have hsb := hst h ht (by omega)
        refine lv_aload_n hx hb d_M_get_22 rfl (lv_at hl 0 rfl) ?_
        refine gf_M_bytes S hK hP 0 rfl rfl d_M_get_23 ?_
        refine lv_aload_n hx hb d_M_get_26 rfl (lv_at hl 0 rfl) ?_
        refine gf_M_starts S hK hP 0 rfl rfl d_M_get_27 ?_
        refine lv_iload_n hx hb d_M_get_30 rfl (lv_at hl 1 rfl) ?_
        refine ldI S hK hP 2 rfl h rfl (by omega) (v := nI (st h)) rfl d_M_get_31 ?_
        refine lv_iload_n hx hb d_M_get_32 rfl (lv_at hl 2 rfl) ?_
        refine lv_iadd hx hb d_M_get_33 ?_
        refine tpE (y := nI (st h + j)) (nI_add _ _) ?_
        refine ldB S hK hP 1 rfl (st h + j) rfl (by omega) (v := ct h j) (hI.2.2 h hw.1 j hjm) d_M_get_34 ?_
        refine lv_sipush (v := 255) hx hb d_M_get_35 (by decide) ?_
        refine lv_iand hx hb d_M_get_38 ?_
        refine lv_goto (tgt := 43) hx hb d_M_get_39 (by decide) ?_
        exact rtI S hr hlocks hS (by rw [hg, nI_clamp (by omega)]) d_M_get_43
set_option maxHeartbeats 4000000 in
/-- ByteShelfModel.put -/
theorem c_M_put (l : Launch) (D : va_G) (cB cI cZ : ClassId) (a : Nat → Nat) (fb : Nat → Int32) (st : Nat → Nat) (sz bs : Nat → Int32) (n : Nat) (bk : List Nat) (th : Nat → Bool) (M : Nat → Nat) (ct : Nat → Nat → Int32) (pl : Nat) (p0 p1 p2 : Int32) (hO : Ok (n, bk, th, M, ct, pl)) (hR : RepB (n, bk, th, M, ct, pl) fb st sz bs) : Met l y_M_put w_M_put (rmL 1) (va_Pc [.ref (a 0), .int p0, .int p1, .int p2] (Wd D cB cI cZ (wM cB cI a fb st sz bs (sm M n) n bk.length pl))) (Qmi D (fun (z : Int32) (u : UB) => z = ptR (n, bk, th, M, ct, pl) p0 p1 ∧ u.1 = ptS (n, bk, th, M, ct, pl) p0 p1 p2 ∧ RepB u.1 u.2.1 u.2.2.1 u.2.2.2.1 u.2.2.2.2) (wMu cB cI a) (wM cB cI a fb st sz bs (sm M n) n bk.length pl)) 0 0 (inA (wM cB cI a fb st sz bs (sm M n) n bk.length pl)) := by
  refine entry (by decide) (Nat.le_of_ble_eq_true rfl) ?_
  intro p e s m args below meth c S hr hlocks hin hPre ls hl
  have hx := S.1
  have hb := S.2.1
  have hl : lv_has ls 4 [(0, .ref (a 0)), (1, .int p0), (2, .int p1), (3, .int p2)] := hl
  obtain ⟨hP, hK, hD⟩ := hPre
  have hD := inA_self hD
  have hS : va_S (inA (wM cB cI a fb st sz bs (sm M n) n bk.length pl)) s.heap s.heap [] := va_S.rf
  have hrw : ∀ k, th k = true → k < n ∧ k < 20000 ∧ M k ≤ 16384 ∧ rnd (M k) ≤ pl ∧ bk.length < n := fun k hk => Ok_row hO hk
  obtain ⟨hbF, hsz, hBk, hI⟩ := id hR
  have hsz : ∀ k, k < n → sz k = szI th M k := hsz
  have hI : Iv n M ct fb st := hI
  have hMl : ∀ k, M k ≤ 16384 := hO.2.2.2.1
  have hpl : pl ≤ 400000 := hO.2.2.2.2.2.2.1
  have hn0 : n ≤ 20000 := hO.1
  have hln : bk.length ≤ n := Ok_len hO
  have hus : sm M n ≤ pl := sm_le_pl hO
  have hst : ∀ k, th k = true → 0 < M k → st k + M k ≤ 400000 := fun k q1 q2 => by have := hI.1 k (hrw k q1).1 q2; omega
  refine lv_aload_n hx hb d_M_put_0 rfl (lv_at hl 0 rfl) ?_
  refine lv_iload_n hx hb d_M_put_1 rfl (lv_at hl 1 rfl) ?_
  refine cpV (As := [.int p0]) (rest := []) S (c_M_isRow l D cB cI cZ a fb st sz bs (sm M n) n bk.length pl th M p0 hn0 (fun k hk => (hrw k hk).1) hsz hMl) (cw_M_52 S.2.2.2.2 ⟨by decide, by decide⟩) hK hP hD hS [0, 1, 2, 3, 4] rfl rfl rfl rfl rfl hl.1 rfl (Nat.le_of_ble_eq_true rfl) d_M_put_2 ⟨by decide, by decide⟩ (fun H locs hP hS => ?_)
  refine lv_if_eq (tgt := 22) hx hb d_M_put_5 (by decide) (fun c1 => ?_) (fun c1 => ?_)
  · have hn := isN (zb_0 c1)
    have hib := ibB_none (x := (n, bk, th, M, ct, pl)) p1 hn
    refine lv_iconst (v := 0) hx hb d_M_put_22 (by decide) ?_
    have hf := ibB_f p2 hib
    exact rmZ S hr hlocks rfl ((n, bk, th, M, ct, pl), fb, st, sz, bs) ⟨hf.1.symm, hf.2.1.symm, hR⟩ hP hS d_M_put_23
  · obtain ⟨h, hh, rfl, ht, hn⟩ := rowN_some (zb_1 c1)
    have hw := hrw h ht
    have hs : sz h = nI (M h) := by rw [hsz h hw.1]; exact szI_t ht
    have hm := hMl h
    refine lv_iload_n hx hb d_M_put_8 rfl (lv_at hl 2 rfl) ?_
    refine lv_if_lt (tgt := 22) hx hb d_M_put_9 (by decide) (fun c2 => ?_) (fun c2 => ?_)
    · have hib := (ibB_some (x := (n, bk, th, M, ct, pl)) p1 hn).trans (inR_neg c2)
      refine lv_iconst (v := 0) hx hb d_M_put_22 (by decide) ?_
      have hf := ibB_f p2 hib
      exact rmZ S hr hlocks rfl ((n, bk, th, M, ct, pl), fb, st, sz, bs) ⟨hf.1.symm, hf.2.1.symm, hR⟩ hP hS d_M_put_23
    · obtain ⟨j, hj, rfl⟩ := nI_of c2
      refine lv_iload_n hx hb d_M_put_12 rfl (lv_at hl 2 rfl) ?_
      refine lv_aload_n hx hb d_M_put_13 rfl (lv_at hl 0 rfl) ?_
      refine gf_M_sizes S hK hP 0 rfl rfl d_M_put_14 ?_
      refine lv_iload_n hx hb d_M_put_17 rfl (lv_at hl 1 rfl) ?_
      refine ldI S hK hP 3 rfl h rfl (by omega) (v := nI (M h)) hs d_M_put_18 ?_
      refine lv_icmp_lt (tgt := 24) hx hb d_M_put_19 (by decide) (fun c3 => ?_) (fun c3 => ?_)
      · have hjm : j < M h := (nI_ltI hj (by omega)).mp c3
        have hin : inR (n, bk, th, M, ct, pl) h (nI j) = true := (inR_nI hj (by show M h < _; omega)).trans (decide_eq_true hjm)
        have hg := ibB_ok (x := (n, bk, th, M, ct, pl)) p2 hn hin
        rw [nI_clamp (by omega)] at hg
        have hsb := hst h ht (by omega)
        refine lv_aload_n hx hb d_M_put_24 rfl (lv_at hl 0 rfl) ?_
        refine gf_M_bytes S hK hP 0 rfl rfl d_M_put_25 ?_
        refine lv_aload_n hx hb d_M_put_28 rfl (lv_at hl 0 rfl) ?_
        refine gf_M_starts S hK hP 0 rfl rfl d_M_put_29 ?_
        refine lv_iload_n hx hb d_M_put_32 rfl (lv_at hl 1 rfl) ?_
        refine ldI S hK hP 2 rfl h rfl (by omega) (v := nI (st h)) rfl d_M_put_33 ?_
        refine lv_iload_n hx hb d_M_put_34 rfl (lv_at hl 2 rfl) ?_
        refine lv_iadd hx hb d_M_put_35 ?_
        refine tpE (y := nI (st h + j)) (nI_add _ _) ?_
        refine lv_iload_n hx hb d_M_put_36 rfl (lv_at hl 3 rfl) ?_
        refine lv_i2b (v := p2.toInt8.toInt32) hx hb d_M_put_37 (rfl) ?_
        refine stB S hK hP hD hS 1 rfl (st h + j) rfl (by omega) (g := upd fb (st h + j) p2.toInt8.toInt32) (by rw [tb_tb]) d_M_put_38 (fun H locs hP hD hS => ?_)
        have hP : va_P D classes (wM cB cI a (upd fb (st h + j) p2.toInt8.toInt32) st sz bs (sm M n) n bk.length pl) H := hP
        have hD : va_D (inA (wM cB cI a fb st sz bs (sm M n) n bk.length pl)) (wM cB cI a (upd fb (st h + j) p2.toInt8.toInt32) st sz bs (sm M n) n bk.length pl) := hD
        refine lv_iconst (v := 1) hx hb d_M_put_39 (by decide) ?_
        have hA := RepB_ct (x := (n, bk, th, M, ct, pl)) (h := h) (fb' := upd fb (st h + j) p2.toInt8.toInt32) (g := upd (ct h) j p2.toInt8.toInt32) hR hw.1 (fun t hq => pk_un (by have : t < st h ∨ st h + M h ≤ t := hq; omega)) (bF_upd hbF _ _) (fun i hi => by
          show upd fb (st h + j) _ (st h + i) = upd (ct h) j _ i
          unfold upd
          by_cases e : i = j
          · rw [if_pos e, if_pos (by omega)]
          · rw [if_neg e, if_neg (by omega)]; exact hI.2.2 h hw.1 i hi)
        exact rmZ S hr hlocks rfl (ctS (n, bk, th, M, ct, pl) h (upd (ct h) j p2.toInt8.toInt32), upd fb (st h + j) p2.toInt8.toInt32, st, sz, bs) ⟨hg.1.symm, hg.2.1.symm, hA⟩ hP hS d_M_put_40
      · have hib := (ibB_some (x := (n, bk, th, M, ct, pl)) (nI j) hn).trans ((inR_nI hj (by show M h < _; omega)).trans (decide_eq_false (by show ¬ j < M h; exact fun q => c3 (nI_lt q (by omega)))))
        refine lv_iconst (v := 0) hx hb d_M_put_22 (by decide) ?_
        have hf := ibB_f p2 hib
        exact rmZ S hr hlocks rfl ((n, bk, th, M, ct, pl), fb, st, sz, bs) ⟨hf.1.symm, hf.2.1.symm, hR⟩ hP hS d_M_put_23
end
section
theorem bF_cpyR {f g : Nat → Int32} {sp dp n : Nat} (hf : ∀ k, k < n → (f (sp + k)).toInt8.toInt32 = f (sp + k)) (hg : bF g) : bF (va_cpy f g sp dp n) := by
  intro j
  unfold va_cpy
  by_cases h : dp ≤ j ∧ j < dp + n
  · rw [if_pos h]; exact hf _ (by omega)
  · rw [if_neg h]; exact hg _
set_option maxHeartbeats 4000000 in
theorem lp_M_fill {p : Program} {l : Launch} {e : Env} {s : State} {m : MethodId} {args : Array Value} {below : List Frame} {meth : Method} {c : Code} {D : va_G} {cB cI cZ : ClassId} {a : Nat → Nat} {Q : State → Prop} {A : Nat → Prop} {fb : Nat → Int32} {st : Nat → Nat} {sz bs : Nat → Int32} {us nn bm tk : Nat} {h i k : Nat} {p3 : Int32} (hh : h < 20000) (hk : k ≤ 16384) (hb0 : 0 < k → st h + i + k ≤ 400000) (S : CallFix p m c b_M_fill 6 s args aw R_M) (hK : va_K D classes (TY cB cI cZ) s) (kx : ∀ (H : Heap) (locs : List Loc), va_P D classes (wM cB cI a (va_cpy (fv p3) fb 0 (st h + i) k) st sz bs us nn bm tk) H → va_D A (wM cB cI a (va_cpy (fv p3) fb 0 (st h + i) k) st sz bs us nn bm tk) → va_S A s.heap H locs → ∀ (ls : Array Slot), lv_has ls 6 [(0, .ref (a 0)), (1, .int (nI h)), (2, .int (nI i)), (3, .int (nI k)), (4, .int p3), (5, .int (nI k))] → W p l e (rmL 1) s m args below meth c H locs 0 0 Q (F0 m 87 ls [])) :
    ∀ (d j : Nat), j + d = k → ∀ (H : Heap) (locs : List Loc), va_P D classes (wM cB cI a (va_cpy (fv p3) fb 0 (st h + i) j) st sz bs us nn bm tk) H → va_D A (wM cB cI a (va_cpy (fv p3) fb 0 (st h + i) j) st sz bs us nn bm tk) → va_S A s.heap H locs → ∀ (ls : Array Slot), lv_has ls 6 [(0, .ref (a 0)), (1, .int (nI h)), (2, .int (nI i)), (3, .int (nI k)), (4, .int p3), (5, .int (nI j))] → W p l e (rmL 1) s m args below meth c H locs 0 0 Q (F0 m 43 ls []) := by
  have hx := S.1
  have hb := S.2.1
  intro d
  induction d with
  | zero =>
    intro j hj H locs hP hD hS ls hl
    have e0 : j = k := by omega
    subst e0
    refine lv_iload hx hb d_M_fill_43 (lv_at hl 5 rfl) ?_
    refine lv_iload_n hx hb d_M_fill_45 rfl (lv_at hl 3 rfl) ?_
    refine lv_icmp_ge (tgt := 87) hx hb d_M_fill_46 (by decide) (fun c1 => ?_) (fun c1 => ?_)
    · exact kx H locs hP hD hS ls hl
    · exact absurd (nI_le (Nat.le_refl j) (by omega)) c1
  | succ d ih =>
    intro j hj H locs hP hD hS ls hl
    have hb1 := hb0 (by omega)
    refine lv_iload hx hb d_M_fill_43 (lv_at hl 5 rfl) ?_
    refine lv_iload_n hx hb d_M_fill_45 rfl (lv_at hl 3 rfl) ?_
    refine lv_icmp_ge (tgt := 87) hx hb d_M_fill_46 (by decide) (fun c1 => ?_) (fun c1 => ?_)
    · exact absurd c1 (nI_ge (by omega) (by omega))
    · refine lv_aload_n hx hb d_M_fill_49 rfl (lv_at hl 0 rfl) ?_
      refine gf_M_bytes S hK hP 0 rfl rfl d_M_fill_50 ?_
      refine lv_aload_n hx hb d_M_fill_53 rfl (lv_at hl 0 rfl) ?_
      refine gf_M_starts S hK hP 0 rfl rfl d_M_fill_54 ?_
      refine lv_iload_n hx hb d_M_fill_57 rfl (lv_at hl 1 rfl) ?_
      refine ldI S hK hP 2 rfl h rfl (by omega) (v := nI (st h)) rfl d_M_fill_58 ?_
      refine lv_iload_n hx hb d_M_fill_59 rfl (lv_at hl 2 rfl) ?_
      refine lv_iadd hx hb d_M_fill_60 ?_
      refine tpE (y := nI (st h + i)) (nI_add _ _) ?_
      refine lv_iload hx hb d_M_fill_61 (lv_at hl 5 rfl) ?_
      refine lv_iadd hx hb d_M_fill_63 ?_
      refine tpE (y := nI (st h + i + j)) (nI_add _ _) ?_
      refine lv_iload hx hb d_M_fill_64 (lv_at hl 4 rfl) ?_
      refine lv_bipush (v := (nI 7)) hx hb d_M_fill_66 (by decide) ?_
      refine lv_iload hx hb d_M_fill_68 (lv_at hl 5 rfl) ?_
      refine lv_imul hx hb d_M_fill_70 ?_
      refine lv_iadd hx hb d_M_fill_71 ?_
      refine lv_iload hx hb d_M_fill_72 (lv_at hl 5 rfl) ?_
      refine lv_sipush (v := (nI 250)) hx hb d_M_fill_74 (by decide) ?_
      refine lv_idiv hx hb d_M_fill_77 (by decide) ?_
      refine lv_iadd hx hb d_M_fill_78 ?_
      refine lv_i2b (v := fv p3 j) hx hb d_M_fill_79 (rfl) ?_
      refine stB S hK hP hD hS 1 rfl (st h + i + j) rfl (by omega) (g := va_cpy (fv p3) fb 0 (st h + i) (j + 1)) (by rw [fv_bF p3 j]; exact cpy_up2 (fv p3) fb _ j) d_M_fill_80 (fun H locs hP hD hS => ?_)
      have hP : va_P D classes (wM cB cI a (va_cpy (fv p3) fb 0 (st h + i) (j + 1)) st sz bs us nn bm tk) H := hP
      have hD : va_D A (wM cB cI a (va_cpy (fv p3) fb 0 (st h + i) (j + 1)) st sz bs us nn bm tk) := hD
      refine lv_iinc (v := nI (j + 1)) (lv' := [(5, .int (nI (j + 1))), (0, .ref (a 0)), (1, .int (nI h)), (2, .int (nI i)), (3, .int (nI k)), (4, .int p3)]) hx hb d_M_fill_81 hl (k := 5) rfl (nI_1 j) (by decide) rfl (fun ls hl => ?_)
      refine lv_goto (tgt := 43) hx hb d_M_fill_84 (by decide) ?_
      exact ih (j + 1) (by omega) H locs hP hD hS ls (lv_sub hl [1, 2, 3, 4, 5, 0] rfl)
set_option maxHeartbeats 4000000 in
/-- ByteShelfModel.fill -/
theorem c_M_fill (l : Launch) (D : va_G) (cB cI cZ : ClassId) (a : Nat → Nat) (fb : Nat → Int32) (st : Nat → Nat) (sz bs : Nat → Int32) (n : Nat) (bk : List Nat) (th : Nat → Bool) (M : Nat → Nat) (ct : Nat → Nat → Int32) (pl : Nat) (p0 p1 p2 p3 : Int32) (hO : Ok (n, bk, th, M, ct, pl)) (hR : RepB (n, bk, th, M, ct, pl) fb st sz bs) : Met l y_M_fill w_M_fill (rmL 1) (va_Pc [.ref (a 0), .int p0, .int p1, .int p2, .int p3] (Wd D cB cI cZ (wM cB cI a fb st sz bs (sm M n) n bk.length pl))) (Qmi D (fun (z : Int32) (u : UB) => z = flR (n, bk, th, M, ct, pl) p0 p1 p2 ∧ u.1 = flS (n, bk, th, M, ct, pl) p0 p1 p2 p3 ∧ RepB u.1 u.2.1 u.2.2.1 u.2.2.2.1 u.2.2.2.2) (wMu cB cI a) (wM cB cI a fb st sz bs (sm M n) n bk.length pl)) 0 0 (inA (wM cB cI a fb st sz bs (sm M n) n bk.length pl)) := by
  refine entry (by decide) (Nat.le_of_ble_eq_true rfl) ?_
  intro p e s m args below meth c S hr hlocks hin hPre ls hl
  have hx := S.1
  have hb := S.2.1
  have hl : lv_has ls 6 [(0, .ref (a 0)), (1, .int p0), (2, .int p1), (3, .int p2), (4, .int p3)] := hl
  obtain ⟨hP, hK, hD⟩ := hPre
  have hD := inA_self hD
  have hS : va_S (inA (wM cB cI a fb st sz bs (sm M n) n bk.length pl)) s.heap s.heap [] := va_S.rf
  have hrw : ∀ k, th k = true → k < n ∧ k < 20000 ∧ M k ≤ 16384 ∧ rnd (M k) ≤ pl ∧ bk.length < n := fun k hk => Ok_row hO hk
  obtain ⟨hbF, hsz, hBk, hI⟩ := id hR
  have hsz : ∀ k, k < n → sz k = szI th M k := hsz
  have hI : Iv n M ct fb st := hI
  have hMl : ∀ k, M k ≤ 16384 := hO.2.2.2.1
  have hpl : pl ≤ 400000 := hO.2.2.2.2.2.2.1
  have hn0 : n ≤ 20000 := hO.1
  have hln : bk.length ≤ n := Ok_len hO
  have hus : sm M n ≤ pl := sm_le_pl hO
  have hst : ∀ k, th k = true → 0 < M k → st k + M k ≤ 400000 := fun k q1 q2 => by have := hI.1 k (hrw k q1).1 q2; omega
  refine lv_aload_n hx hb d_M_fill_0 rfl (lv_at hl 0 rfl) ?_
  refine lv_iload_n hx hb d_M_fill_1 rfl (lv_at hl 1 rfl) ?_
  refine cpV (As := [.int p0]) (rest := []) S (c_M_isRow l D cB cI cZ a fb st sz bs (sm M n) n bk.length pl th M p0 hn0 (fun k hk => (hrw k hk).1) hsz hMl) (cw_M_52 S.2.2.2.2 ⟨by decide, by decide⟩) hK hP hD hS [0, 1, 2, 3, 4] rfl rfl rfl rfl rfl hl.1 rfl (Nat.le_of_ble_eq_true rfl) d_M_fill_2 ⟨by decide, by decide⟩ (fun H locs hP hS => ?_)
  refine lv_if_eq (tgt := 38) hx hb d_M_fill_5 (by decide) (fun c1 => ?_) (fun c1 => ?_)
  · have hn := isN (zb_0 c1)
    refine lv_iconst (v := 0) hx hb d_M_fill_38 (by decide) ?_
    have hf := flR_none (x := (n, bk, th, M, ct, pl)) (i := p1) (n := p2) p3 hn
    exact rmZ S hr hlocks rfl ((n, bk, th, M, ct, pl), fb, st, sz, bs) ⟨hf.1.symm, hf.2.symm, hR⟩ hP hS d_M_fill_39
  · obtain ⟨h, hh, rfl, ht, hn⟩ := rowN_some (zb_1 c1)
    have hw := hrw h ht
    have hs : sz h = nI (M h) := by rw [hsz h hw.1]; exact szI_t ht
    have hm := hMl h
    refine lv_iload_n hx hb d_M_fill_8 rfl (lv_at hl 2 rfl) ?_
    refine lv_if_lt (tgt := 38) hx hb d_M_fill_9 (by decide) (fun c2 => ?_) (fun c2 => ?_)
    · refine lv_iconst (v := 0) hx hb d_M_fill_38 (by decide) ?_
      have hf := flR_out (x := (n, bk, th, M, ct, pl)) (n := p2) p3 hn (flF_i c2)
      exact rmZ S hr hlocks rfl ((n, bk, th, M, ct, pl), fb, st, sz, bs) ⟨hf.1.symm, hf.2.symm, hR⟩ hP hS d_M_fill_39
    · obtain ⟨i, hi, rfl⟩ := nI_of c2
      refine lv_iload_n hx hb d_M_fill_12 rfl (lv_at hl 3 rfl) ?_
      refine lv_if_lt (tgt := 38) hx hb d_M_fill_13 (by decide) (fun c3 => ?_) (fun c3 => ?_)
      · refine lv_iconst (v := 0) hx hb d_M_fill_38 (by decide) ?_
        have hf := flR_out (x := (n, bk, th, M, ct, pl)) (i := nI i) p3 hn (flF_n c3)
        exact rmZ S hr hlocks rfl ((n, bk, th, M, ct, pl), fb, st, sz, bs) ⟨hf.1.symm, hf.2.symm, hR⟩ hP hS d_M_fill_39
      · obtain ⟨k, hk, rfl⟩ := nI_of c3
        refine lv_iload_n hx hb d_M_fill_16 rfl (lv_at hl 2 rfl) ?_
        refine lv_aload_n hx hb d_M_fill_17 rfl (lv_at hl 0 rfl) ?_
        refine gf_M_sizes S hK hP 0 rfl rfl d_M_fill_18 ?_
        refine lv_iload_n hx hb d_M_fill_21 rfl (lv_at hl 1 rfl) ?_
        refine ldI S hK hP 3 rfl h rfl (by omega) (v := nI (M h)) hs d_M_fill_22 ?_
        refine lv_icmp_gt (tgt := 38) hx hb d_M_fill_23 (by decide) (fun c4 => ?_) (fun c4 => ?_)
        · have hlt : M h < i := (nI_ltI (by omega) hi).mp c4
          refine lv_iconst (v := 0) hx hb d_M_fill_38 (by decide) ?_
          have hf := flR_out (x := (n, bk, th, M, ct, pl)) p3 hn (flF_b hi hk (by show M h < i + k; omega))
          exact rmZ S hr hlocks rfl ((n, bk, th, M, ct, pl), fb, st, sz, bs) ⟨hf.1.symm, hf.2.symm, hR⟩ hP hS d_M_fill_39
        · have hle : i ≤ M h := Nat.le_of_not_lt (fun q => c4 (nI_lt q hi))
          refine lv_iload_n hx hb d_M_fill_26 rfl (lv_at hl 3 rfl) ?_
          refine lv_aload_n hx hb d_M_fill_27 rfl (lv_at hl 0 rfl) ?_
          refine gf_M_sizes S hK hP 0 rfl rfl d_M_fill_28 ?_
          refine lv_iload_n hx hb d_M_fill_31 rfl (lv_at hl 1 rfl) ?_
          refine ldI S hK hP 3 rfl h rfl (by omega) (v := nI (M h)) hs d_M_fill_32 ?_
          refine lv_iload_n hx hb d_M_fill_33 rfl (lv_at hl 2 rfl) ?_
          refine lv_isub hx hb d_M_fill_34 ?_
          refine tpE (y := nI (M h - i)) (pk_sub hle) ?_
          refine lv_icmp_le (tgt := 40) hx hb d_M_fill_35 (by decide) (fun c5 => ?_) (fun c5 => ?_)
          · have hil : k ≤ M h - i := (nI_leI hk (by omega)).mp c5
            refine lv_iconst (v := (nI 0)) hx hb d_M_fill_40 (by decide) ?_
            refine lv_istore (lv' := [(5, .int (nI 0)), (0, .ref (a 0)), (1, .int (nI h)), (2, .int (nI i)), (3, .int (nI k)), (4, .int p3)]) hx hb d_M_fill_41 hl (by decide) rfl (fun ls hl => ?_)
            refine lp_M_fill (p3 := p3) (fb := fb) (st := st) (h := h) (i := i) (k := k) (by omega) (by omega) (fun q => by have := hst h ht (by omega); omega) S hK (fun H locs hP hD hS ls hl => ?_) k 0 (Nat.zero_add k) _ _ (by rw [cpy_0]; exact hP) (by rw [cpy_0]; exact hD) hS ls (lv_sub hl [1, 2, 3, 4, 5, 0] rfl)
            refine lv_iconst (v := 1) hx hb d_M_fill_87 (by decide) ?_
            have hg := flR_ok (x := (n, bk, th, M, ct, pl)) (i := i) (n := k) p3 hn (by show M h ≤ 16384; omega) (by show i + k ≤ M h; omega)
            have hA := RepB_ct (x := (n, bk, th, M, ct, pl)) (h := h) (fb' := va_cpy (fv p3) fb 0 (st h + i) k) (g := va_cpy (fv p3) (ct h) 0 i k) hR hw.1 (fun t hq => pk_cpy_out (by have : t < st h ∨ st h + M h ≤ t := hq; omega)) (bF_cpy (fv_bF p3) hbF) (fun j hj => wr_row (m := M h) (fun j hj => hI.2.2 h hw.1 j hj) hj)
            exact rmZ S hr hlocks rfl (ctS (n, bk, th, M, ct, pl) h (va_cpy (fv p3) (ct h) 0 i k), va_cpy (fv p3) fb 0 (st h + i) k, st, sz, bs) ⟨hg.1.symm, hg.2.symm, hA⟩ hP hS d_M_fill_88
          · have hil : M h - i < k := Nat.lt_of_not_le (fun q => c5 (nI_le q (by omega)))
            refine lv_iconst (v := 0) hx hb d_M_fill_38 (by decide) ?_
            have hf := flR_out (x := (n, bk, th, M, ct, pl)) p3 hn (flF_b hi hk (by show M h < i + k; omega))
            exact rmZ S hr hlocks rfl ((n, bk, th, M, ct, pl), fb, st, sz, bs) ⟨hf.1.symm, hf.2.symm, hR⟩ hP hS d_M_fill_39
set_option maxHeartbeats 4000000 in
/-- ByteShelfModel.resize -/
theorem c_M_resize (l : Launch) (D : va_G) (cB cI cZ : ClassId) (a : Nat → Nat) (fb : Nat → Int32) (st : Nat → Nat) (sz bs : Nat → Int32) (n : Nat) (bk : List Nat) (th : Nat → Bool) (M : Nat → Nat) (ct : Nat → Nat → Int32) (pl : Nat) (p0 p1 : Int32) (hO : Ok (n, bk, th, M, ct, pl)) (hR : RepB (n, bk, th, M, ct, pl) fb st sz bs) : Met l y_M_resize w_M_resize (rmL 2) (va_Pc [.ref (a 0), .int p0, .int p1] (Wd D cB cI cZ (wM cB cI a fb st sz bs (sm M n) n bk.length pl))) (Qmi D (fun (z : Int32) (u : UB) => z = rsR (n, bk, th, M, ct, pl) p0 p1 ∧ u.1 = rsS (n, bk, th, M, ct, pl) p0 p1 ∧ RepB u.1 u.2.1 u.2.2.1 u.2.2.2.1 u.2.2.2.2) (wMu cB cI a) (wM cB cI a fb st sz bs (sm M n) n bk.length pl)) 0 0 (inA (wM cB cI a fb st sz bs (sm M n) n bk.length pl)) := by
  refine entry (by decide) (Nat.le_of_ble_eq_true rfl) ?_
  intro p e s m args below meth c S hr hlocks hin hPre ls hl
  have hx := S.1
  have hb := S.2.1
  have hl : lv_has ls 3 [(0, .ref (a 0)), (1, .int p0), (2, .int p1)] := hl
  obtain ⟨hP, hK, hD⟩ := hPre
  have hD := inA_self hD
  have hS : va_S (inA (wM cB cI a fb st sz bs (sm M n) n bk.length pl)) s.heap s.heap [] := va_S.rf
  have hrw : ∀ k, th k = true → k < n ∧ k < 20000 ∧ M k ≤ 16384 ∧ rnd (M k) ≤ pl ∧ bk.length < n := fun k hk => Ok_row hO hk
  obtain ⟨hbF, hsz, hBk, hI⟩ := id hR
  have hsz : ∀ k, k < n → sz k = szI th M k := hsz
  have hI : Iv n M ct fb st := hI
  have hMl : ∀ k, M k ≤ 16384 := hO.2.2.2.1
  have hpl : pl ≤ 400000 := hO.2.2.2.2.2.2.1
  have hn0 : n ≤ 20000 := hO.1
  have hln : bk.length ≤ n := Ok_len hO
  have hus : sm M n ≤ pl := sm_le_pl hO
  have hst : ∀ k, th k = true → 0 < M k → st k + M k ≤ 400000 := fun k q1 q2 => by have := hI.1 k (hrw k q1).1 q2; omega
  refine lv_aload_n hx hb d_M_resize_0 rfl (lv_at hl 0 rfl) ?_
  refine lv_iload_n hx hb d_M_resize_1 rfl (lv_at hl 1 rfl) ?_
  refine cpV (As := [.int p0]) (rest := []) S (c_M_isRow l D cB cI cZ a fb st sz bs (sm M n) n bk.length pl th M p0 hn0 (fun k hk => (hrw k hk).1) hsz hMl) (cw_M_52 S.2.2.2.2 ⟨by decide, by decide⟩) hK hP hD hS [0, 1, 2, 3, 4] rfl rfl rfl rfl rfl hl.1 rfl (Nat.le_of_ble_eq_true rfl) d_M_resize_2 ⟨by decide, by decide⟩ (fun H locs hP hS => ?_)
  refine lv_if_eq (tgt := 19) hx hb d_M_resize_5 (by decide) (fun c1 => ?_) (fun c1 => ?_)
  · have hn := isN (zb_0 c1)
    refine lv_iconst (v := (-1)) hx hb d_M_resize_19 (by decide) ?_
    have hf := rsR_none (x := (n, bk, th, M, ct, pl)) (p := p0) (q := p1) (Or.inl hn)
    exact rmI S hr hlocks ((n, bk, th, M, ct, pl), fb, st, sz, bs) ⟨hf.1.symm, hf.2.symm, hR⟩ hP hS d_M_resize_20
  · obtain ⟨h, hh, rfl, ht, hn⟩ := rowN_some (zb_1 c1)
    have hw := hrw h ht
    have hs : sz h = nI (M h) := by rw [hsz h hw.1]; exact szI_t ht
    have hm := hMl h
    refine lv_iload_n hx hb d_M_resize_8 rfl (lv_at hl 2 rfl) ?_
    refine lv_if_lt (tgt := 19) hx hb d_M_resize_9 (by decide) (fun c2 => ?_) (fun c2 => ?_)
    · have hsn := sizeN_neg c2
      refine lv_iconst (v := (-1)) hx hb d_M_resize_19 (by decide) ?_
      have hf := rsR_none (x := (n, bk, th, M, ct, pl)) (p := nI h) (q := p1) (Or.inr hsn)
      exact rmI S hr hlocks ((n, bk, th, M, ct, pl), fb, st, sz, bs) ⟨hf.1.symm, hf.2.symm, hR⟩ hP hS d_M_resize_20
    · refine lv_iload_n hx hb d_M_resize_12 rfl (lv_at hl 2 rfl) ?_
      refine lv_sipush (v := (nI 16384)) hx hb d_M_resize_13 (by decide) ?_
      refine lv_icmp_le (tgt := 21) hx hb d_M_resize_16 (by decide) (fun c3 => ?_) (fun c3 => ?_)
      · obtain ⟨z, hz, rfl⟩ := sizeN_in c2 (Int32.not_lt.mpr c3)
        have hsn := sizeN_nI hz
        refine lv_aload_n hx hb d_M_resize_21 rfl (lv_at hl 0 rfl) ?_
        refine lv_iload_n hx hb d_M_resize_22 rfl (lv_at hl 1 rfl) ?_
        refine lv_iload_n hx hb d_M_resize_23 rfl (lv_at hl 2 rfl) ?_
        refine cpV (As := [.int (nI h), .int (nI z)]) (rest := []) S (c_M_hasRoom l D cB cI cZ a fb st sz bs n bk th M ct pl h z hO hR ht hz) (cw_M_56 S.2.2.2.2 ⟨by decide, by decide⟩) hK hP hD hS [0, 1, 2, 3, 4] rfl rfl rfl rfl rfl hl.1 rfl (Nat.le_of_ble_eq_true rfl) d_M_resize_24 ⟨by decide, by decide⟩ (fun H locs hP hS => ?_)
        refine lv_if_ne (tgt := 33) hx hb d_M_resize_27 (by decide) (fun c4 => ?_) (fun c4 => ?_)
        · have hF : rsF (n, bk, th, M, ct, pl) h z = false := by have := zb_1 c4; simpa using this
          refine lv_aload_n hx hb d_M_resize_33 rfl (lv_at hl 0 rfl) ?_
          refine lv_iload_n hx hb d_M_resize_34 rfl (lv_at hl 1 rfl) ?_
          refine lv_iload_n hx hb d_M_resize_35 rfl (lv_at hl 2 rfl) ?_
          refine cmV (As := [.int (nI h), .int (nI z)]) (rest := []) (wr := []) S (c_M_change l D cB cI cZ a fb st sz bs (sm M n) n bk.length pl M ct h z hw.1 hz rfl (by omega) hn0 (us_room hO ht hF) hw.2.2.2.1 hpl (fun k hk => by rw [hsz k hk]; exact szI_or hO k) hMl hs hbF hI) (cw_M_42 S.2.2.2.2 ⟨by decide, by decide⟩) hK hP hD hS [0, 1, 2, 3, 4] [] rfl rfl rfl (by decide) rfl rfl rfl hl.1 rfl (Nat.le_of_ble_eq_true rfl) d_M_resize_36 ⟨by decide, by decide⟩ (fun u H locs hu hP hS => ?_)
          obtain ⟨fb1, st1⟩ := u
          obtain ⟨hu1, hu2⟩ := hu
          dsimp only at hu1 hu2
          have hP : va_P D classes (wM cB cI a fb1 st1 (upd sz h (nI z)) bs (sm (va_up M h z) n) n bk.length (pl + rnd z - rnd (M h))) H := hP.sub [0, 1, 2, 3, 4] rfl
          have hD : va_D (inA (wM cB cI a fb st sz bs (sm M n) n bk.length pl)) (wM cB cI a fb1 st1 (upd sz h (nI z)) bs (sm (va_up M h z) n) n bk.length (pl + rnd z - rnd (M h))) := dA hD rfl
          refine lv_iload_n hx hb d_M_resize_39 rfl (lv_at hl 2 rfl) ?_
          have hg := rsR_ok (x := (n, bk, th, M, ct, pl)) hn hsn hF
          have hA := RepB_rs (x := (n, bk, th, M, ct, pl)) (z := z) hR ht hu1 hu2
          exact rmI S hr hlocks (rsT (n, bk, th, M, ct, pl) h z, fb1, st1, upd sz h (nI z), bs) ⟨hg.1.symm, hg.2.symm, hA⟩ hP hS d_M_resize_40
        · have hF : rsF (n, bk, th, M, ct, pl) h z = true := by have := zb_0 c4; simpa using this
          refine lv_bipush (v := (-2)) hx hb d_M_resize_30 (by decide) ?_
          have hf := rsR_full (x := (n, bk, th, M, ct, pl)) hn hsn hF
          exact rmI S hr hlocks ((n, bk, th, M, ct, pl), fb, st, sz, bs) ⟨hf.1.symm, hf.2.symm, hR⟩ hP hS d_M_resize_32
      · have hsn := sizeN_big (Int32.not_le.mp c3)
        refine lv_iconst (v := (-1)) hx hb d_M_resize_19 (by decide) ?_
        have hf := rsR_none (x := (n, bk, th, M, ct, pl)) (p := nI h) (q := p1) (Or.inr hsn)
        exact rmI S hr hlocks ((n, bk, th, M, ct, pl), fb, st, sz, bs) ⟨hf.1.symm, hf.2.symm, hR⟩ hP hS d_M_resize_20
set_option maxHeartbeats 4000000 in
/-- ByteShelfModel.give -/
theorem c_M_give (l : Launch) (D : va_G) (cB cI cZ : ClassId) (a : Nat → Nat) (fb : Nat → Int32) (st : Nat → Nat) (sz bs : Nat → Int32) (n : Nat) (bk : List Nat) (th : Nat → Bool) (M : Nat → Nat) (ct : Nat → Nat → Int32) (pl : Nat) (p0 : Int32) (hO : Ok (n, bk, th, M, ct, pl)) (hR : RepB (n, bk, th, M, ct, pl) fb st sz bs) : Met l y_M_give w_M_give (rmL 2) (va_Pc [.ref (a 0), .int p0] (Wd D cB cI cZ (wM cB cI a fb st sz bs (sm M n) n bk.length pl))) (Qmi D (fun (z : Int32) (u : UB) => z = gvR (n, bk, th, M, ct, pl) p0 ∧ u.1 = gvS (n, bk, th, M, ct, pl) p0 ∧ RepB u.1 u.2.1 u.2.2.1 u.2.2.2.1 u.2.2.2.2) (wMu cB cI a) (wM cB cI a fb st sz bs (sm M n) n bk.length pl)) 0 0 (inA (wM cB cI a fb st sz bs (sm M n) n bk.length pl)) := by
  refine entry (by decide) (Nat.le_of_ble_eq_true rfl) ?_
  intro p e s m args below meth c S hr hlocks hin hPre ls hl
  have hx := S.1
  have hb := S.2.1
  have hl : lv_has ls 2 [(0, .ref (a 0)), (1, .int p0)] := hl
  obtain ⟨hP, hK, hD⟩ := hPre
  have hD := inA_self hD
  have hS : va_S (inA (wM cB cI a fb st sz bs (sm M n) n bk.length pl)) s.heap s.heap [] := va_S.rf
  have hrw : ∀ k, th k = true → k < n ∧ k < 20000 ∧ M k ≤ 16384 ∧ rnd (M k) ≤ pl ∧ bk.length < n := fun k hk => Ok_row hO hk
  obtain ⟨hbF, hsz, hBk, hI⟩ := id hR
  have hsz : ∀ k, k < n → sz k = szI th M k := hsz
  have hI : Iv n M ct fb st := hI
  have hMl : ∀ k, M k ≤ 16384 := hO.2.2.2.1
  have hpl : pl ≤ 400000 := hO.2.2.2.2.2.2.1
  have hn0 : n ≤ 20000 := hO.1
  have hln : bk.length ≤ n := Ok_len hO
  have hus : sm M n ≤ pl := sm_le_pl hO
  have hst : ∀ k, th k = true → 0 < M k → st k + M k ≤ 400000 := fun k q1 q2 => by have := hI.1 k (hrw k q1).1 q2; omega
  refine lv_aload_n hx hb d_M_give_0 rfl (lv_at hl 0 rfl) ?_
  refine lv_iload_n hx hb d_M_give_1 rfl (lv_at hl 1 rfl) ?_
  refine cpV (As := [.int p0]) (rest := []) S (c_M_isRow l D cB cI cZ a fb st sz bs (sm M n) n bk.length pl th M p0 hn0 (fun k hk => (hrw k hk).1) hsz hMl) (cw_M_52 S.2.2.2.2 ⟨by decide, by decide⟩) hK hP hD hS [0, 1, 2, 3, 4] rfl rfl rfl rfl rfl hl.1 rfl (Nat.le_of_ble_eq_true rfl) d_M_give_2 ⟨by decide, by decide⟩ (fun H locs hP hS => ?_)
  refine lv_if_ne (tgt := 10) hx hb d_M_give_5 (by decide) (fun c1 => ?_) (fun c1 => ?_)
  · obtain ⟨h, hh, rfl, ht, hn⟩ := rowN_some (zb_1 c1)
    have hw := hrw h ht
    have hs : sz h = nI (M h) := by rw [hsz h hw.1]; exact szI_t ht
    have hm := hMl h
    refine lv_aload_n hx hb d_M_give_10 rfl (lv_at hl 0 rfl) ?_
    refine lv_iload_n hx hb d_M_give_11 rfl (lv_at hl 1 rfl) ?_
    refine lv_iconst (v := (nI 0)) hx hb d_M_give_12 (by decide) ?_
    refine cmV (As := [.int (nI h), .int (nI 0)]) (rest := []) (wr := []) S (c_M_change l D cB cI cZ a fb st sz bs (sm M n) n bk.length pl M ct h 0 hw.1 (by decide) rfl (by omega) hn0 (by omega) hw.2.2.2.1 hpl (fun k hk => by rw [hsz k hk]; exact szI_or hO k) hMl hs hbF hI) (cw_M_42 S.2.2.2.2 ⟨by decide, by decide⟩) hK hP hD hS [0, 1, 2, 3, 4] [] rfl rfl rfl (by decide) rfl rfl rfl hl.1 rfl (Nat.le_of_ble_eq_true rfl) d_M_give_13 ⟨by decide, by decide⟩ (fun u H locs hu hP hS => ?_)
    obtain ⟨fb1, st1⟩ := u
    obtain ⟨hu1, hu2⟩ := hu
    dsimp only at hu1 hu2
    have hP : va_P D classes (wM cB cI a fb1 st1 (upd sz h (nI 0)) bs (sm (va_up M h 0) n) n bk.length (pl + rnd 0 - rnd (M h))) H := hP.sub [0, 1, 2, 3, 4] rfl
    have hD : va_D (inA (wM cB cI a fb st sz bs (sm M n) n bk.length pl)) (wM cB cI a fb1 st1 (upd sz h (nI 0)) bs (sm (va_up M h 0) n) n bk.length (pl + rnd 0 - rnd (M h))) := dA hD rfl
    refine lv_aload_n hx hb d_M_give_16 rfl (lv_at hl 0 rfl) ?_
    refine gf_M_sizes S hK hP 0 rfl rfl d_M_give_17 ?_
    refine lv_iload_n hx hb d_M_give_20 rfl (lv_at hl 1 rfl) ?_
    refine lv_iconst (v := (-1)) hx hb d_M_give_21 (by decide) ?_
    refine stI S hK hP hD hS 3 rfl h rfl (by omega) (g := upd (upd sz h (nI 0)) h (-1)) rfl d_M_give_22 (fun H locs hP hD hS => ?_)
    have hP : va_P D classes (wM cB cI a fb1 st1 (upd (upd sz h (nI 0)) h (-1)) bs (sm (va_up M h 0) n) n bk.length (pl + rnd 0 - rnd (M h))) H := hP
    have hD : va_D (inA (wM cB cI a fb st sz bs (sm M n) n bk.length pl)) (wM cB cI a fb1 st1 (upd (upd sz h (nI 0)) h (-1)) bs (sm (va_up M h 0) n) n bk.length (pl + rnd 0 - rnd (M h))) := hD
    refine lv_aload_n hx hb d_M_give_23 rfl (lv_at hl 0 rfl) ?_
    refine gf_M_backs S hK hP 0 rfl rfl d_M_give_24 ?_
    refine lv_aload_n hx hb d_M_give_27 rfl (lv_at hl 0 rfl) ?_
    refine gf_M_backMany S hK hP 0 rfl rfl d_M_give_28 ?_
    refine lv_iload_n hx hb d_M_give_31 rfl (lv_at hl 1 rfl) ?_
    refine stI S hK hP hD hS 4 rfl bk.length rfl (by have := hw.2.2.2.2; omega) (g := upd bs bk.length (nI h)) rfl d_M_give_32 (fun H locs hP hD hS => ?_)
    have hP : va_P D classes (wM cB cI a fb1 st1 (upd (upd sz h (nI 0)) h (-1)) (upd bs bk.length (nI h)) (sm (va_up M h 0) n) n bk.length (pl + rnd 0 - rnd (M h))) H := hP
    have hD : va_D (inA (wM cB cI a fb st sz bs (sm M n) n bk.length pl)) (wM cB cI a fb1 st1 (upd (upd sz h (nI 0)) h (-1)) (upd bs bk.length (nI h)) (sm (va_up M h 0) n) n bk.length (pl + rnd 0 - rnd (M h))) := hD
    refine lv_aload_n hx hb d_M_give_33 rfl (lv_at hl 0 rfl) ?_
    refine lv_dup hx hb d_M_give_34 rfl ?_
    refine gf_M_backMany S hK hP 0 rfl rfl d_M_give_35 ?_
    refine lv_iconst (v := 1) hx hb d_M_give_38 (by decide) ?_
    refine lv_iadd hx hb d_M_give_39 ?_
    refine tpE (y := nI (h :: bk).length) (nI_1 _) ?_
    refine pf_M_backMany S hK hP hD hS 0 rfl (Nat.le_of_ble_eq_true rfl) d_M_give_40 (fun H locs hP hD hS => ?_)
    have hP : va_P D classes (wM cB cI a fb1 st1 (upd (upd sz h (nI 0)) h (-1)) (upd bs bk.length (nI h)) (sm (va_up M h 0) n) n ((h :: bk).length) (pl + rnd 0 - rnd (M h))) H := hP
    have hD : va_D (inA (wM cB cI a fb st sz bs (sm M n) n bk.length pl)) (wM cB cI a fb1 st1 (upd (upd sz h (nI 0)) h (-1)) (upd bs bk.length (nI h)) (sm (va_up M h 0) n) n ((h :: bk).length) (pl + rnd 0 - rnd (M h))) := hD
    refine lv_iconst (v := 1) hx hb d_M_give_43 (by decide) ?_
    rw [show pl + rnd 0 - rnd (M h) = pl - rnd (M h) by rw [rnd_0, Nat.add_zero]] at hP
    have hg := gvR_ok (x := (n, bk, th, M, ct, pl)) hn
    have hA := RepB_gv (x := (n, bk, th, M, ct, pl)) hR hu1 hu2
    exact rmZ S hr hlocks rfl ((n, h :: bk, va_up th h false, va_up M h 0, ct, pl - rnd (M h)), fb1, st1, upd (upd sz h (nI 0)) h (-1), upd bs bk.length (nI h)) ⟨hg.1.symm, hg.2.symm, hA⟩ hP hS d_M_give_44
  · have hn := isN (zb_0 c1)
    refine lv_iconst (v := 0) hx hb d_M_give_8 (by decide) ?_
    have hf := gvR_none (x := (n, bk, th, M, ct, pl)) hn
    exact rmZ S hr hlocks rfl ((n, bk, th, M, ct, pl), fb, st, sz, bs) ⟨hf.1.symm, hf.2.symm, hR⟩ hP hS d_M_give_9
set_option maxHeartbeats 4000000 in
/-- ByteShelfModel.take -/
theorem c_M_take (l : Launch) (D : va_G) (cB cI cZ : ClassId) (a : Nat → Nat) (fb : Nat → Int32) (st : Nat → Nat) (sz bs : Nat → Int32) (n : Nat) (bk : List Nat) (th : Nat → Bool) (M : Nat → Nat) (ct : Nat → Nat → Int32) (pl : Nat) (p0 : Int32) (hO : Ok (n, bk, th, M, ct, pl)) (hR : RepB (n, bk, th, M, ct, pl) fb st sz bs) : Met l y_M_take w_M_take (rmL 2) (va_Pc [.ref (a 0), .int p0] (Wd D cB cI cZ (wM cB cI a fb st sz bs (sm M n) n bk.length pl))) (Qmi D (fun (z : Int32) (u : UB) => z = tkR (n, bk, th, M, ct, pl) p0 ∧ u.1 = tkS (n, bk, th, M, ct, pl) p0 ∧ RepB u.1 u.2.1 u.2.2.1 u.2.2.2.1 u.2.2.2.2) (wMu cB cI a) (wM cB cI a fb st sz bs (sm M n) n bk.length pl)) 0 0 (inA (wM cB cI a fb st sz bs (sm M n) n bk.length pl)) := by
  refine entry (by decide) (Nat.le_of_ble_eq_true rfl) ?_
  intro p e s m args below meth c S hr hlocks hin hPre ls hl
  have hx := S.1
  have hb := S.2.1
  have hl : lv_has ls 3 [(0, .ref (a 0)), (1, .int p0)] := hl
  obtain ⟨hP, hK, hD⟩ := hPre
  have hD := inA_self hD
  have hS : va_S (inA (wM cB cI a fb st sz bs (sm M n) n bk.length pl)) s.heap s.heap [] := va_S.rf
  have hrw : ∀ k, th k = true → k < n ∧ k < 20000 ∧ M k ≤ 16384 ∧ rnd (M k) ≤ pl ∧ bk.length < n := fun k hk => Ok_row hO hk
  obtain ⟨hbF, hsz, hBk, hI⟩ := id hR
  have hsz : ∀ k, k < n → sz k = szI th M k := hsz
  have hI : Iv n M ct fb st := hI
  have hMl : ∀ k, M k ≤ 16384 := hO.2.2.2.1
  have hpl : pl ≤ 400000 := hO.2.2.2.2.2.2.1
  have hn0 : n ≤ 20000 := hO.1
  have hln : bk.length ≤ n := Ok_len hO
  have hus : sm M n ≤ pl := sm_le_pl hO
  have hst : ∀ k, th k = true → 0 < M k → st k + M k ≤ 400000 := fun k q1 q2 => by have := hI.1 k (hrw k q1).1 q2; omega
  refine lv_iload_n hx hb d_M_take_0 rfl (lv_at hl 1 rfl) ?_
  refine lv_if_lt (tgt := 11) hx hb d_M_take_1 (by decide) (fun c1 => ?_) (fun c1 => ?_)
  · have hs := sizeN_neg c1
    refine lv_iconst (v := (-1)) hx hb d_M_take_11 (by decide) ?_
    have hf := tkR_none (x := (n, bk, th, M, ct, pl)) hs
    exact rmI S hr hlocks ((n, bk, th, M, ct, pl), fb, st, sz, bs) ⟨hf.1.symm, hf.2.symm, hR⟩ hP hS d_M_take_12
  · refine lv_iload_n hx hb d_M_take_4 rfl (lv_at hl 1 rfl) ?_
    refine lv_sipush (v := (nI 16384)) hx hb d_M_take_5 (by decide) ?_
    refine lv_icmp_le (tgt := 13) hx hb d_M_take_8 (by decide) (fun c2 => ?_) (fun c2 => ?_)
    · obtain ⟨z, hz, rfl⟩ := sizeN_in c1 (Int32.not_lt.mpr c2)
      have hs := sizeN_nI hz
      have hrz := rnd_lt z
      have hrl := rnd_le z
      refine lv_aload_n hx hb d_M_take_13 rfl (lv_at hl 0 rfl) ?_
      refine cpV (As := []) (rest := []) S (c_M_many l D cB cI cZ a fb st sz bs n bk th M ct pl hO hR) (cw_M_31 S.2.2.2.2 ⟨by decide, by decide⟩) hK hP hD hS [0, 1, 2, 3, 4] rfl rfl rfl rfl rfl hl.1 rfl (Nat.le_of_ble_eq_true rfl) d_M_take_14 ⟨by decide, by decide⟩ (fun H locs hP hS => ?_)
      refine lv_sipush (v := (nI 20000)) hx hb d_M_take_17 (by decide) ?_
      refine lv_icmp_eq (tgt := 37) hx hb d_M_take_20 (by decide) (fun c3 => ?_) (fun c3 => ?_)
      · have h20 : n - bk.length = 20000 := (nI_eq (by omega) (by decide)).mp c3
        refine lv_bipush (v := (-2)) hx hb d_M_take_37 (by decide) ?_
        have hf := tkR_full (x := (n, bk, th, M, ct, pl)) hs (Or.inl h20)
        exact rmI S hr hlocks ((n, bk, th, M, ct, pl), fb, st, sz, bs) ⟨hf.1.symm, hf.2.symm, hR⟩ hP hS d_M_take_39
      · have h20 : ¬ n - bk.length = 20000 := fun q => c3 (by rw [q])
        refine lv_aload_n hx hb d_M_take_23 rfl (lv_at hl 0 rfl) ?_
        refine gf_M_taken S hK hP 0 rfl rfl d_M_take_24 ?_
        refine lv_iload_n hx hb d_M_take_27 rfl (lv_at hl 1 rfl) ?_
        refine cpS (As := [.int (nI z)]) (rest := [.int (nI pl)]) S (c_M_placesOf l z (by omega)) (cw_M_38 S.2.2.2.2 ⟨by decide, by decide⟩) hP hS rfl hl.1 rfl (Nat.le_of_ble_eq_true rfl) d_M_take_28 ⟨by decide, by decide⟩ (fun H locs hP hS => ?_)
        refine lv_iadd hx hb d_M_take_31 ?_
        refine tpE (y := nI (pl + rnd z)) (nI_add _ _) ?_
        refine lv_ldc (v := 400000) hx hb S.2.2.2.1 (S.2.2.2.2 _ k_k_M_7) d_M_take_32 ?_
        refine lv_icmp_le (tgt := 40) hx hb d_M_take_34 (by decide) (fun c4 => ?_) (fun c4 => ?_)
        · have hq : pl + rnd z ≤ 400000 := (nI_leI (by omega) (by decide)).mp c4
          have hT := tkH_lt hO h20
          have h0 : M (tkH bk n) = 0 := hO.2.2.2.2.1 _ hT.2.2.2.1
          refine lv_aload_n hx hb d_M_take_40 rfl (lv_at hl 0 rfl) ?_
          refine gf_M_numbers S hK hP 0 rfl rfl d_M_take_41 ?_
          refine lv_istore_n (lv' := [(2, .int (nI n)), (0, .ref (a 0)), (1, .int (nI z))]) hx hb d_M_take_44 rfl hl (by decide) rfl (fun ls hl => ?_)
          refine lv_aload_n hx hb d_M_take_45 rfl (lv_at hl 1 rfl) ?_
          refine gf_M_backMany S hK hP 0 rfl rfl d_M_take_46 ?_
          refine lv_if_le (tgt := 75) hx hb d_M_take_49 (by decide) (fun c5 => ?_) (fun c5 => ?_)
          · have hb0 : bk = [] := by
              cases bk with
              | nil => rfl
              | cons y t => exact absurd c5 (nI_nle (Nat.succ_pos _) (by omega))
            subst hb0
            have h0 : M n = 0 := h0
            have hT : n + 1 ≤ 20000 := hT.2.2.1
            refine lv_aload_n hx hb d_M_take_75 rfl (lv_at hl 1 rfl) ?_
            refine lv_dup hx hb d_M_take_76 rfl ?_
            refine gf_M_numbers S hK hP 0 rfl rfl d_M_take_77 ?_
            refine lv_iconst (v := 1) hx hb d_M_take_80 (by decide) ?_
            refine lv_iadd hx hb d_M_take_81 ?_
            refine tpE (y := nI (n + 1)) (nI_1 n) ?_
            refine pf_M_numbers S hK hP hD hS 0 rfl (Nat.le_of_ble_eq_true rfl) d_M_take_82 (fun H locs hP hD hS => ?_)
            have hP : va_P D classes (wM cB cI a fb st sz bs (sm M n) (n + 1) (([] : List Nat).length) pl) H := hP
            have hD : va_D (inA (wM cB cI a fb st sz bs (sm M n) n ([] : List Nat).length pl)) (wM cB cI a fb st sz bs (sm M n) (n + 1) (([] : List Nat).length) pl) := hD
            refine lv_aload_n hx hb d_M_take_85 rfl (lv_at hl 1 rfl) ?_
            refine gf_M_sizes S hK hP 0 rfl rfl d_M_take_86 ?_
            refine lv_iload_n hx hb d_M_take_89 rfl (lv_at hl 0 rfl) ?_
            refine lv_iconst (v := 0) hx hb d_M_take_90 (by decide) ?_
            refine stI S hK hP hD hS 3 rfl n rfl (by omega) (g := upd sz n 0) rfl d_M_take_91 (fun H locs hP hD hS => ?_)
            have hP : va_P D classes (wM cB cI a fb st (upd sz n 0) bs (sm M n) (n + 1) (([] : List Nat).length) pl) H := hP
            have hD : va_D (inA (wM cB cI a fb st sz bs (sm M n) n ([] : List Nat).length pl)) (wM cB cI a fb st (upd sz n 0) bs (sm M n) (n + 1) (([] : List Nat).length) pl) := hD
            refine lv_aload_n hx hb d_M_take_92 rfl (lv_at hl 1 rfl) ?_
            refine lv_iload_n hx hb d_M_take_93 rfl (lv_at hl 0 rfl) ?_
            refine lv_iload_n hx hb d_M_take_94 rfl (lv_at hl 2 rfl) ?_
            obtain ⟨z1, z2⟩ := sz_0 (n' := n + 1) (h := n) hO hsz h0 (Or.inr ⟨rfl, rfl⟩)
            have esm : sm M (n + 1) = sm M n := by show sm M n + M n = sm M n; omega
            refine cmV (As := [.int (nI n), .int (nI z)]) (rest := []) (wr := []) S (c_M_change l D cB cI cZ a fb st (upd sz n 0) bs (sm M n) (n + 1) ([] : List Nat).length pl M ct n z (Nat.lt_succ_self n) hz esm.symm (by omega) hT (by omega) (by rw [h0, rnd_0]; omega) hpl z1 hMl z2 hbF (Iv_succ hI h0)) (cw_M_42 S.2.2.2.2 ⟨by decide, by decide⟩) hK hP hD hS [0, 1, 2, 3, 4] [] rfl rfl rfl (by decide) rfl rfl rfl hl.1 rfl (Nat.le_of_ble_eq_true rfl) d_M_take_95 ⟨by decide, by decide⟩ (fun u H locs hu hP hS => ?_)
            obtain ⟨fb1, st1⟩ := u
            obtain ⟨hu1, hu2⟩ := hu
            dsimp only at hu1 hu2
            have hP : va_P D classes (wM cB cI a fb1 st1 (upd (upd sz n 0) n (nI z)) bs (sm (va_up M n z) (n + 1)) (n + 1) (([] : List Nat).length) (pl + rnd z - rnd (M n))) H := hP.sub [0, 1, 2, 3, 4] rfl
            have hD : va_D (inA (wM cB cI a fb st sz bs (sm M n) n ([] : List Nat).length pl)) (wM cB cI a fb1 st1 (upd (upd sz n 0) n (nI z)) bs (sm (va_up M n z) (n + 1)) (n + 1) (([] : List Nat).length) (pl + rnd z - rnd (M n))) := dA hD rfl
            refine lv_iload_n hx hb d_M_take_98 rfl (lv_at hl 0 rfl) ?_
            rw [show pl + rnd z - rnd (M n) = pl + rnd z by rw [h0, rnd_0, Nat.sub_zero]] at hP
            have hg := tkR_ok (x := (n, ([] : List Nat), th, M, ct, pl)) hs h20 hq
            have hA := RepB_tk (x := (n, ([] : List Nat), th, M, ct, pl)) (h := n) (z := z) (n' := n + 1) (bk' := ([] : List Nat)) hR (Or.inr ⟨rfl, rfl⟩) trivial hu1 h0 hu2
            exact rmI S hr hlocks ((n + 1, ([] : List Nat), va_up th n true, va_up M n z, va_up ct n (fun _ => 0), pl + rnd z), fb1, st1, upd (upd sz n 0) n (nI z), bs) ⟨hg.1.symm, hg.2.symm, hA⟩ hP hS d_M_take_99
          · obtain ⟨h, t, rfl⟩ : ∃ h t, bk = h :: t := by
              cases bk with
              | nil => exact absurd (by decide) c5
              | cons y t => exact ⟨y, t, rfl⟩
            have h0 : M h = 0 := h0
            have hlt : t.length + 1 ≤ n := hln
            have hhn : h < n := (hO.2.1 h List.mem_cons_self).1
            refine lv_aload_n hx hb d_M_take_52 rfl (lv_at hl 1 rfl) ?_
            refine lv_dup hx hb d_M_take_53 rfl ?_
            refine gf_M_backMany S hK hP 0 rfl rfl d_M_take_54 ?_
            refine lv_iconst (v := 1) hx hb d_M_take_57 (by decide) ?_
            refine lv_isub hx hb d_M_take_58 ?_
            refine tpE (y := nI t.length) (nI_pred t.length) ?_
            refine pf_M_backMany S hK hP hD hS 0 rfl (Nat.le_of_ble_eq_true rfl) d_M_take_59 (fun H locs hP hD hS => ?_)
            have hP : va_P D classes (wM cB cI a fb st sz bs (sm M n) n t.length pl) H := hP
            have hD : va_D (inA (wM cB cI a fb st sz bs (sm M n) n (h :: t).length pl)) (wM cB cI a fb st sz bs (sm M n) n t.length pl) := hD
            refine lv_aload_n hx hb d_M_take_62 rfl (lv_at hl 1 rfl) ?_
            refine gf_M_backs S hK hP 0 rfl rfl d_M_take_63 ?_
            refine lv_aload_n hx hb d_M_take_66 rfl (lv_at hl 1 rfl) ?_
            refine gf_M_backMany S hK hP 0 rfl rfl d_M_take_67 ?_
            refine ldI S hK hP 4 rfl t.length rfl (by omega) (v := nI h) hBk.1 d_M_take_70 ?_
            refine lv_istore_n (lv' := [(2, .int (nI h)), (0, .ref (a 0)), (1, .int (nI z))]) hx hb d_M_take_71 rfl hl (by decide) rfl (fun ls hl => ?_)
            refine lv_goto (tgt := 85) hx hb d_M_take_72 (by decide) ?_
            refine lv_aload_n hx hb d_M_take_85 rfl (lv_at hl 1 rfl) ?_
            refine gf_M_sizes S hK hP 0 rfl rfl d_M_take_86 ?_
            refine lv_iload_n hx hb d_M_take_89 rfl (lv_at hl 0 rfl) ?_
            refine lv_iconst (v := 0) hx hb d_M_take_90 (by decide) ?_
            refine stI S hK hP hD hS 3 rfl h rfl (by omega) (g := upd sz h 0) rfl d_M_take_91 (fun H locs hP hD hS => ?_)
            have hP : va_P D classes (wM cB cI a fb st (upd sz h 0) bs (sm M n) n t.length pl) H := hP
            have hD : va_D (inA (wM cB cI a fb st sz bs (sm M n) n (h :: t).length pl)) (wM cB cI a fb st (upd sz h 0) bs (sm M n) n t.length pl) := hD
            refine lv_aload_n hx hb d_M_take_92 rfl (lv_at hl 1 rfl) ?_
            refine lv_iload_n hx hb d_M_take_93 rfl (lv_at hl 0 rfl) ?_
            refine lv_iload_n hx hb d_M_take_94 rfl (lv_at hl 2 rfl) ?_
            obtain ⟨z1, z2⟩ := sz_0 (n' := n) (h := h) hO hsz h0 (Or.inl rfl)
            refine cmV (As := [.int (nI h), .int (nI z)]) (rest := []) (wr := []) S (c_M_change l D cB cI cZ a fb st (upd sz h 0) bs (sm M n) n t.length pl M ct h z hhn hz rfl (by omega) hn0 (by omega) (by rw [h0, rnd_0]; omega) hpl z1 hMl z2 hbF hI) (cw_M_42 S.2.2.2.2 ⟨by decide, by decide⟩) hK hP hD hS [0, 1, 2, 3, 4] [] rfl rfl rfl (by decide) rfl rfl rfl hl.1 rfl (Nat.le_of_ble_eq_true rfl) d_M_take_95 ⟨by decide, by decide⟩ (fun u H locs hu hP hS => ?_)
            obtain ⟨fb1, st1⟩ := u
            obtain ⟨hu1, hu2⟩ := hu
            dsimp only at hu1 hu2
            have hP : va_P D classes (wM cB cI a fb1 st1 (upd (upd sz h 0) h (nI z)) bs (sm (va_up M h z) n) n t.length (pl + rnd z - rnd (M h))) H := hP.sub [0, 1, 2, 3, 4] rfl
            have hD : va_D (inA (wM cB cI a fb st sz bs (sm M n) n (h :: t).length pl)) (wM cB cI a fb1 st1 (upd (upd sz h 0) h (nI z)) bs (sm (va_up M h z) n) n t.length (pl + rnd z - rnd (M h))) := dA hD rfl
            refine lv_iload_n hx hb d_M_take_98 rfl (lv_at hl 0 rfl) ?_
            rw [show pl + rnd z - rnd (M h) = pl + rnd z by rw [h0, rnd_0, Nat.sub_zero]] at hP
            have hg := tkR_ok (x := (n, h :: t, th, M, ct, pl)) hs h20 hq
            have hA := RepB_tk (x := (n, h :: t, th, M, ct, pl)) (h := h) (z := z) (n' := n) (bk' := t) hR (Or.inl rfl) hBk.2 hu1 h0 hu2
            exact rmI S hr hlocks ((n, t, va_up th h true, va_up M h z, va_up ct h (fun _ => 0), pl + rnd z), fb1, st1, upd (upd sz h 0) h (nI z), bs) ⟨hg.1.symm, hg.2.symm, hA⟩ hP hS d_M_take_99
        · have hq : 400000 < pl + rnd z := Nat.lt_of_not_le (fun q => c4 (nI_le (b := 400000) q (by decide)))
          refine lv_bipush (v := (-2)) hx hb d_M_take_37 (by decide) ?_
          have hf := tkR_full (x := (n, bk, th, M, ct, pl)) hs (Or.inr hq)
          exact rmI S hr hlocks ((n, bk, th, M, ct, pl), fb, st, sz, bs) ⟨hf.1.symm, hf.2.symm, hR⟩ hP hS d_M_take_39
    · have hs := sizeN_big (Int32.not_le.mp c2)
      refine lv_iconst (v := (-1)) hx hb d_M_take_11 (by decide) ?_
      have hf := tkR_none (x := (n, bk, th, M, ct, pl)) hs
      exact rmI S hr hlocks ((n, bk, th, M, ct, pl), fb, st, sz, bs) ⟨hf.1.symm, hf.2.symm, hR⟩ hP hS d_M_take_12
set_option maxHeartbeats 4000000 in
theorem lp_M_copy {p : Program} {l : Launch} {e : Env} {s : State} {m : MethodId} {args : Array Value} {below : List Frame} {meth : Method} {c : Code} {D : va_G} {cB cI cZ : ClassId} {a : Nat → Nat} {Q : State → Prop} {A : Nat → Prop} {fb : Nat → Int32} {st : Nat → Nat} {sz bs : Nat → Int32} {us nn bm tk : Nat} {M : Nat → Nat} {ct : Nat → Nat → Int32} {h o z : Nat} (hn : nn ≤ 20000) (hz : z ≤ 16384) (hh : h < nn) (ho : o < nn) (hMh : M h = z) (hMo : M o = z) (hsm : sm M nn ≤ 400000) (hbF : bF fb) (hI : Iv nn M ct fb st) (S : CallFix p m c b_M_copy 5 s args aw R_M) (hK : va_K D classes (TY cB cI cZ) s) (kx : ∀ (H : Heap) (locs : List Loc), va_P D classes (wM cB cI a (va_cpy (ct o) fb 0 (st h) z) st sz bs us nn bm tk) H → va_D A (wM cB cI a (va_cpy (ct o) fb 0 (st h) z) st sz bs us nn bm tk) → va_S A s.heap H locs → ∀ (ls : Array Slot), lv_has ls 5 [(0, .ref (a 0)), (1, .int (nI h)), (2, .int (nI o)), (3, .int (nI z)), (4, .int (nI z))] → W p l e (rmL 2) s m args below meth c H locs 0 0 Q (F0 m 86 ls [])) :
    ∀ (d j : Nat), j + d = z → ∀ (H : Heap) (locs : List Loc), va_P D classes (wM cB cI a (va_cpy (ct o) fb 0 (st h) j) st sz bs us nn bm tk) H → va_D A (wM cB cI a (va_cpy (ct o) fb 0 (st h) j) st sz bs us nn bm tk) → va_S A s.heap H locs → ∀ (ls : Array Slot), lv_has ls 5 [(0, .ref (a 0)), (1, .int (nI h)), (2, .int (nI o)), (3, .int (nI z)), (4, .int (nI j))] → W p l e (rmL 2) s m args below meth c H locs 0 0 Q (F0 m 46 ls []) := by
  have hx := S.1
  have hb := S.2.1
  intro d
  induction d with
  | zero =>
    intro j hj H locs hP hD hS ls hl
    have e0 : j = z := by omega
    subst e0
    refine lv_iload hx hb d_M_copy_46 (lv_at hl 4 rfl) ?_
    refine lv_iload_n hx hb d_M_copy_48 rfl (lv_at hl 3 rfl) ?_
    refine lv_icmp_ge (tgt := 86) hx hb d_M_copy_49 (by decide) (fun c1 => ?_) (fun c1 => ?_)
    · exact kx H locs hP hD hS ls hl
    · exact absurd (nI_le (Nat.le_refl j) (by omega)) c1
  | succ d ih =>
    intro j hj H locs hP hD hS ls hl
    have g1 := hI.1 h hh (by omega)
    have g2 := hI.1 o ho (by omega)
    have gv := cp_read (g := ct o) (j := j) hI hh ho hMh hMo (by omega)
    have gb : (ct o j).toInt8.toInt32 = ct o j := by rw [← hI.2.2 o ho j (by omega)]; exact hbF _
    refine lv_iload hx hb d_M_copy_46 (lv_at hl 4 rfl) ?_
    refine lv_iload_n hx hb d_M_copy_48 rfl (lv_at hl 3 rfl) ?_
    refine lv_icmp_ge (tgt := 86) hx hb d_M_copy_49 (by decide) (fun c1 => ?_) (fun c1 => ?_)
    · exact absurd c1 (nI_ge (by omega) (by omega))
    · refine lv_aload_n hx hb d_M_copy_52 rfl (lv_at hl 0 rfl) ?_
      refine gf_M_bytes S hK hP 0 rfl rfl d_M_copy_53 ?_
      refine lv_aload_n hx hb d_M_copy_56 rfl (lv_at hl 0 rfl) ?_
      refine gf_M_starts S hK hP 0 rfl rfl d_M_copy_57 ?_
      refine lv_iload_n hx hb d_M_copy_60 rfl (lv_at hl 1 rfl) ?_
      refine ldI S hK hP 2 rfl h rfl (by omega) (v := nI (st h)) rfl d_M_copy_61 ?_
      refine lv_iload hx hb d_M_copy_62 (lv_at hl 4 rfl) ?_
      refine lv_iadd hx hb d_M_copy_64 ?_
      refine tpE (y := nI (st h + j)) (nI_add _ _) ?_
      refine lv_aload_n hx hb d_M_copy_65 rfl (lv_at hl 0 rfl) ?_
      refine gf_M_bytes S hK hP 0 rfl rfl d_M_copy_66 ?_
      refine lv_aload_n hx hb d_M_copy_69 rfl (lv_at hl 0 rfl) ?_
      refine gf_M_starts S hK hP 0 rfl rfl d_M_copy_70 ?_
      refine lv_iload_n hx hb d_M_copy_73 rfl (lv_at hl 2 rfl) ?_
      refine ldI S hK hP 2 rfl o rfl (by omega) (v := nI (st o)) rfl d_M_copy_74 ?_
      refine lv_iload hx hb d_M_copy_75 (lv_at hl 4 rfl) ?_
      refine lv_iadd hx hb d_M_copy_77 ?_
      refine tpE (y := nI (st o + j)) (nI_add _ _) ?_
      refine ldB S hK hP 1 rfl (st o + j) rfl (by omega) (v := ct o j) gv d_M_copy_78 ?_
      refine stB S hK hP hD hS 1 rfl (st h + j) rfl (by omega) (g := va_cpy (ct o) fb 0 (st h) (j + 1)) (by rw [gb]; exact cpy_up2 (ct o) fb _ j) d_M_copy_79 (fun H locs hP hD hS => ?_)
      have hP : va_P D classes (wM cB cI a (va_cpy (ct o) fb 0 (st h) (j + 1)) st sz bs us nn bm tk) H := hP
      have hD : va_D A (wM cB cI a (va_cpy (ct o) fb 0 (st h) (j + 1)) st sz bs us nn bm tk) := hD
      refine lv_iinc (v := nI (j + 1)) (lv' := [(4, .int (nI (j + 1))), (0, .ref (a 0)), (1, .int (nI h)), (2, .int (nI o)), (3, .int (nI z))]) hx hb d_M_copy_80 hl (k := 4) rfl (nI_1 j) (by decide) rfl (fun ls hl => ?_)
      refine lv_goto (tgt := 46) hx hb d_M_copy_83 (by decide) ?_
      exact ih (j + 1) (by omega) H locs hP hD hS ls (lv_sub hl [1, 2, 3, 4, 0] rfl)
set_option maxHeartbeats 4000000 in
/-- ByteShelfModel.copy -/
theorem c_M_copy (l : Launch) (D : va_G) (cB cI cZ : ClassId) (a : Nat → Nat) (fb : Nat → Int32) (st : Nat → Nat) (sz bs : Nat → Int32) (n : Nat) (bk : List Nat) (th : Nat → Bool) (M : Nat → Nat) (ct : Nat → Nat → Int32) (pl : Nat) (p0 p1 : Int32) (hO : Ok (n, bk, th, M, ct, pl)) (hR : RepB (n, bk, th, M, ct, pl) fb st sz bs) : Met l y_M_copy w_M_copy (rmL 2) (va_Pc [.ref (a 0), .int p0, .int p1] (Wd D cB cI cZ (wM cB cI a fb st sz bs (sm M n) n bk.length pl))) (Qmi D (fun (z : Int32) (u : UB) => z = coR (n, bk, th, M, ct, pl) p0 p1 ∧ u.1 = coS (n, bk, th, M, ct, pl) p0 p1 ∧ RepB u.1 u.2.1 u.2.2.1 u.2.2.2.1 u.2.2.2.2) (wMu cB cI a) (wM cB cI a fb st sz bs (sm M n) n bk.length pl)) 0 0 (inA (wM cB cI a fb st sz bs (sm M n) n bk.length pl)) := by
  refine entry (by decide) (Nat.le_of_ble_eq_true rfl) ?_
  intro p e s m args below meth c S hr hlocks hin hPre ls hl
  have hx := S.1
  have hb := S.2.1
  have hl : lv_has ls 5 [(0, .ref (a 0)), (1, .int p0), (2, .int p1)] := hl
  obtain ⟨hP, hK, hD⟩ := hPre
  have hD := inA_self hD
  have hS : va_S (inA (wM cB cI a fb st sz bs (sm M n) n bk.length pl)) s.heap s.heap [] := va_S.rf
  have hrw : ∀ k, th k = true → k < n ∧ k < 20000 ∧ M k ≤ 16384 ∧ rnd (M k) ≤ pl ∧ bk.length < n := fun k hk => Ok_row hO hk
  obtain ⟨hbF, hsz, hBk, hI⟩ := id hR
  have hsz : ∀ k, k < n → sz k = szI th M k := hsz
  have hI : Iv n M ct fb st := hI
  have hMl : ∀ k, M k ≤ 16384 := hO.2.2.2.1
  have hpl : pl ≤ 400000 := hO.2.2.2.2.2.2.1
  have hn0 : n ≤ 20000 := hO.1
  have hln : bk.length ≤ n := Ok_len hO
  have hus : sm M n ≤ pl := sm_le_pl hO
  have hst : ∀ k, th k = true → 0 < M k → st k + M k ≤ 400000 := fun k q1 q2 => by have := hI.1 k (hrw k q1).1 q2; omega
  refine lv_aload_n hx hb d_M_copy_0 rfl (lv_at hl 0 rfl) ?_
  refine lv_iload_n hx hb d_M_copy_1 rfl (lv_at hl 1 rfl) ?_
  refine cpV (As := [.int p0]) (rest := []) S (c_M_isRow l D cB cI cZ a fb st sz bs (sm M n) n bk.length pl th M p0 hn0 (fun k hk => (hrw k hk).1) hsz hMl) (cw_M_52 S.2.2.2.2 ⟨by decide, by decide⟩) hK hP hD hS [0, 1, 2, 3, 4] rfl rfl rfl rfl rfl hl.1 rfl (Nat.le_of_ble_eq_true rfl) d_M_copy_2 ⟨by decide, by decide⟩ (fun H locs hP hS => ?_)
  refine lv_if_eq (tgt := 16) hx hb d_M_copy_5 (by decide) (fun c1 => ?_) (fun c1 => ?_)
  · have hn := isN (zb_0 c1)
    refine lv_iconst (v := (-1)) hx hb d_M_copy_16 (by decide) ?_
    have hf := coR_none (x := (n, bk, th, M, ct, pl)) (p := p0) (q := p1) (Or.inl hn)
    exact rmI S hr hlocks ((n, bk, th, M, ct, pl), fb, st, sz, bs) ⟨hf.1.symm, hf.2.symm, hR⟩ hP hS d_M_copy_17
  · obtain ⟨h, hh, rfl, ht, hn⟩ := rowN_some (zb_1 c1)
    have hw := hrw h ht
    have hs : sz h = nI (M h) := by rw [hsz h hw.1]; exact szI_t ht
    have hm := hMl h
    refine lv_aload_n hx hb d_M_copy_8 rfl (lv_at hl 0 rfl) ?_
    refine lv_iload_n hx hb d_M_copy_9 rfl (lv_at hl 2 rfl) ?_
    refine cpV (As := [.int p1]) (rest := []) S (c_M_isRow l D cB cI cZ a fb st sz bs (sm M n) n bk.length pl th M p1 hn0 (fun k hk => (hrw k hk).1) hsz hMl) (cw_M_52 S.2.2.2.2 ⟨by decide, by decide⟩) hK hP hD hS [0, 1, 2, 3, 4] rfl rfl rfl rfl rfl hl.1 rfl (Nat.le_of_ble_eq_true rfl) d_M_copy_10 ⟨by decide, by decide⟩ (fun H locs hP hS => ?_)
    refine lv_if_ne (tgt := 18) hx hb d_M_copy_13 (by decide) (fun c2 => ?_) (fun c2 => ?_)
    · obtain ⟨o, hho, rfl, hto, hm0⟩ := rowN_some (zb_1 c2)
      have hwo := hrw o hto
      have hso : sz o = nI (M o) := by rw [hsz o hwo.1]; exact szI_t hto
      have hmo := hMl o
      refine lv_aload_n hx hb d_M_copy_18 rfl (lv_at hl 0 rfl) ?_
      refine gf_M_sizes S hK hP 0 rfl rfl d_M_copy_19 ?_
      refine lv_iload_n hx hb d_M_copy_22 rfl (lv_at hl 2 rfl) ?_
      refine ldI S hK hP 3 rfl o rfl (by omega) (v := nI (M o)) hso d_M_copy_23 ?_
      refine lv_istore_n (lv' := [(3, .int (nI (M o))), (0, .ref (a 0)), (1, .int (nI h)), (2, .int (nI o))]) hx hb d_M_copy_24 rfl hl (by decide) rfl (fun ls hl => ?_)
      refine lv_aload_n hx hb d_M_copy_25 rfl (lv_at hl 1 rfl) ?_
      refine lv_iload_n hx hb d_M_copy_26 rfl (lv_at hl 2 rfl) ?_
      refine lv_iload_n hx hb d_M_copy_27 rfl (lv_at hl 0 rfl) ?_
      refine cpV (As := [.int (nI h), .int (nI (M o))]) (rest := []) S (c_M_hasRoom l D cB cI cZ a fb st sz bs n bk th M ct pl h (M o) hO hR ht hmo) (cw_M_56 S.2.2.2.2 ⟨by decide, by decide⟩) hK hP hD hS [0, 1, 2, 3, 4] rfl rfl rfl rfl rfl hl.1 rfl (Nat.le_of_ble_eq_true rfl) d_M_copy_28 ⟨by decide, by decide⟩ (fun H locs hP hS => ?_)
      refine lv_if_ne (tgt := 37) hx hb d_M_copy_31 (by decide) (fun c3 => ?_) (fun c3 => ?_)
      · have hF : rsF (n, bk, th, M, ct, pl) h (M o) = false := by have := zb_1 c3; simpa using this
        refine lv_aload_n hx hb d_M_copy_37 rfl (lv_at hl 1 rfl) ?_
        refine lv_iload_n hx hb d_M_copy_38 rfl (lv_at hl 2 rfl) ?_
        refine lv_iload_n hx hb d_M_copy_39 rfl (lv_at hl 0 rfl) ?_
        refine cmV (As := [.int (nI h), .int (nI (M o))]) (rest := []) (wr := []) S (c_M_change l D cB cI cZ a fb st sz bs (sm M n) n bk.length pl M ct h (M o) hw.1 hmo rfl (by omega) hn0 (us_room hO ht hF) hw.2.2.2.1 hpl (fun k hk => by rw [hsz k hk]; exact szI_or hO k) hMl hs hbF hI) (cw_M_42 S.2.2.2.2 ⟨by decide, by decide⟩) hK hP hD hS [0, 1, 2, 3, 4] [] rfl rfl rfl (by decide) rfl rfl rfl hl.1 rfl (Nat.le_of_ble_eq_true rfl) d_M_copy_40 ⟨by decide, by decide⟩ (fun u H locs hu hP hS => ?_)
        obtain ⟨fb1, st1⟩ := u
        obtain ⟨hu1, hu2⟩ := hu
        dsimp only at hu1 hu2
        have hP : va_P D classes (wM cB cI a fb1 st1 (upd sz h (nI (M o))) bs (sm (va_up M h (M o)) n) n bk.length (pl + rnd (M o) - rnd (M h))) H := hP.sub [0, 1, 2, 3, 4] rfl
        have hD : va_D (inA (wM cB cI a fb st sz bs (sm M n) n bk.length pl)) (wM cB cI a fb1 st1 (upd sz h (nI (M o))) bs (sm (va_up M h (M o)) n) n bk.length (pl + rnd (M o) - rnd (M h))) := dA hD rfl
        refine lv_iconst (v := (nI 0)) hx hb d_M_copy_43 (by decide) ?_
        refine lv_istore (lv' := [(4, .int (nI 0)), (3, .int (nI (M o))), (0, .ref (a 0)), (1, .int (nI h)), (2, .int (nI o))]) hx hb d_M_copy_44 hl (by decide) rfl (fun ls hl => ?_)
        have hro := rnd_le (M o)
        have hur := us_room hO ht hF
        have hur : sm M n + M o ≤ 400000 + M h := hur
        have hsn := sm_new (M := M) (z := M o) hw.1
        have hMo : va_up M h (M o) o = M o := by unfold va_up; by_cases c : o = h <;> simp [c]
        refine lp_M_copy (M := va_up M h (M o)) (ct := rsC ct h (M h)) (fb := fb1) (st := st1) hn0 hmo hw.1 hwo.1 (va_up_self _ _ _) hMo (by omega) hu1 hu2 S hK (fun H locs hP hD hS ls hl => ?_) (M o) 0 (Nat.zero_add _) _ _ (by rw [cpy_0]; exact hP) (by rw [cpy_0]; exact hD) hS ls (lv_sub hl [2, 3, 4, 1, 0] rfl)
        refine lv_iload_n hx hb d_M_copy_86 rfl (lv_at hl 3 rfl) ?_
        have hg := coR_ok (x := (n, bk, th, M, ct, pl)) hn hm0 hF
        have hA := RepB_rs (x := (n, bk, th, M, ct, pl)) (z := M o) hR ht hu1 hu2
        have hA2 := RepB_ct (x := rsT (n, bk, th, M, ct, pl) h (M o)) (h := h) (fb' := va_cpy (rsC ct h (M h) o) fb1 0 (st1 h) (M o)) (g := ct o) hA hw.1 (fun t hq => pk_cpy_out (by have : t < st1 h ∨ st1 h + va_up M h (M o) h ≤ t := hq; rw [va_up_self] at this; omega)) (bF_cpyR (fun k hk => by
          rw [Nat.zero_add, ← hu2.2.2 o hwo.1 k (by rw [hMo]; exact hk)]; exact hu1 _) hu1) (fun i hi => by
          have hi2 : i < M o := by have q : i < va_up M h (M o) h := hi; rw [va_up_self] at q; exact q
          show va_cpy (rsC ct h (M h) o) fb1 0 (st1 h) (M o) (st1 h + i) = ct o i
          rw [pk_cpy_in (by omega) (by omega), show 0 + (st1 h + i - st1 h) = i by omega]
          unfold rsC va_up
          by_cases c : o = h
          · subst c; simp [hi2]
          · simp [c])
        exact rmI S hr hlocks (ctS (rsT (n, bk, th, M, ct, pl) h (M o)) h (ct o), va_cpy (rsC ct h (M h) o) fb1 0 (st1 h) (M o), st1, upd sz h (nI (M o)), bs) ⟨hg.1.symm, hg.2.symm, hA2⟩ hP hS d_M_copy_87
      · have hF : rsF (n, bk, th, M, ct, pl) h (M o) = true := by have := zb_0 c3; simpa using this
        refine lv_bipush (v := (-2)) hx hb d_M_copy_34 (by decide) ?_
        have hf := coR_full (x := (n, bk, th, M, ct, pl)) hn hm0 hF
        exact rmI S hr hlocks ((n, bk, th, M, ct, pl), fb, st, sz, bs) ⟨hf.1.symm, hf.2.symm, hR⟩ hP hS d_M_copy_36
    · have hm0 := isN (zb_0 c2)
      refine lv_iconst (v := (-1)) hx hb d_M_copy_16 (by decide) ?_
      have hf := coR_none (x := (n, bk, th, M, ct, pl)) (p := nI h) (q := p1) (Or.inr hm0)
      exact rmI S hr hlocks ((n, bk, th, M, ct, pl), fb, st, sz, bs) ⟨hf.1.symm, hf.2.symm, hR⟩ hP hS d_M_copy_17
end
section
set_option maxHeartbeats 4000000 in
theorem lp_M_compare {p : Program} {l : Launch} {e : Env} {s : State} {m : MethodId} {args : Array Value} {below : List Frame} {meth : Method} {c : Code} {D : va_G} {cB cI cZ : ClassId} {a : Nat → Nat} {fb : Nat → Int32} {st : Nat → Nat} {sz bs : Nat → Int32} {n : Nat} {bk : List Nat} {th : Nat → Bool} {M : Nat → Nat} {ct : Nat → Nat → Int32} {pl : Nat} {h o : Nat} {v : Int32} (hO : Ok (n, bk, th, M, ct, pl)) (hR : RepB (n, bk, th, M, ct, pl) fb st sz bs) (ht : th h = true) (hto : th o = true) (S : CallFix p m c b_M_compare 5 s args aw R_M) (hK : va_K D classes (TY cB cI cZ) s) (hr : meth.sig.returnType = some .int) (hlocks : meth.locks = false) :
    ∀ (d i : Nat), i + d = min (M h) (M o) → sgn (cm (ct h) (ct o) (nI (M h) - nI (M o)) d i) = v → ∀ (H : Heap) (locs : List Loc), va_P D classes (wM cB cI a fb st sz bs (sm M n) n bk.length pl) H → va_D (fun _ => True) (wM cB cI a fb st sz bs (sm M n) n bk.length pl) → va_S NoA s.heap H locs → ∀ (ls : Array Slot), lv_has ls 5 [(0, .ref (a 0)), (1, .int (nI h)), (2, .int (nI o)), (3, .int (nI i))] → W p l e (rmL 2) s m args below meth c H locs 0 0 (MQ below (Qi v) args s 0 0 NoA) (F0 m 21 ls []) := by
  have hx := S.1
  have hb := S.2.1
  have hrw : ∀ k, th k = true → k < n ∧ k < 20000 ∧ M k ≤ 16384 ∧ rnd (M k) ≤ pl ∧ bk.length < n := fun k hk => Ok_row hO hk
  obtain ⟨hbF, hsz, hBk, hI⟩ := id hR
  have hsz : ∀ k, k < n → sz k = szI th M k := hsz
  have hI : Iv n M ct fb st := hI
  have hMl : ∀ k, M k ≤ 16384 := hO.2.2.2.1
  have hpl : pl ≤ 400000 := hO.2.2.2.2.2.2.1
  have hn0 : n ≤ 20000 := hO.1
  have hln : bk.length ≤ n := Ok_len hO
  have hus : sm M n ≤ pl := sm_le_pl hO
  have hst : ∀ k, th k = true → 0 < M k → st k + M k ≤ 400000 := fun k q1 q2 => by have := hI.1 k (hrw k q1).1 q2; omega
  have hw := hrw h ht
  have hwo := hrw o hto
  have hs : sz h = nI (M h) := by rw [hsz h hw.1]; exact szI_t ht
  have hso : sz o = nI (M o) := by rw [hsz o hwo.1]; exact szI_t hto
  have hmh := hMl h
  have hmo := hMl o
  intro d
  induction d with
  | zero =>
    intro i hi hv H locs hP hD hS ls hl
    have hv : sgn (nI (M h) - nI (M o)) = v := hv
    refine lv_iload_n hx hb d_M_compare_21 rfl (lv_at hl 3 rfl) ?_
    refine lv_aload_n hx hb d_M_compare_22 rfl (lv_at hl 0 rfl) ?_
    refine gf_M_sizes S hK hP 0 rfl rfl d_M_compare_23 ?_
    refine lv_iload_n hx hb d_M_compare_26 rfl (lv_at hl 1 rfl) ?_
    refine ldI S hK hP 3 rfl h rfl (by omega) (v := nI (M h)) hs d_M_compare_27 ?_
    refine lv_icmp_ge (tgt := 78) hx hb d_M_compare_28 (by decide) (fun c1 => ?_) (fun c1 => ?_)
    · refine lv_aload_n hx hb d_M_compare_78 rfl (lv_at hl 0 rfl) ?_
      refine gf_M_sizes S hK hP 0 rfl rfl d_M_compare_79 ?_
      refine lv_iload_n hx hb d_M_compare_82 rfl (lv_at hl 1 rfl) ?_
      refine ldI S hK hP 3 rfl h rfl (by omega) (v := nI (M h)) hs d_M_compare_83 ?_
      refine lv_aload_n hx hb d_M_compare_84 rfl (lv_at hl 0 rfl) ?_
      refine gf_M_sizes S hK hP 0 rfl rfl d_M_compare_85 ?_
      refine lv_iload_n hx hb d_M_compare_88 rfl (lv_at hl 2 rfl) ?_
      refine ldI S hK hP 3 rfl o rfl (by omega) (v := nI (M o)) hso d_M_compare_89 ?_
      refine lv_icmp_ge (tgt := 97) hx hb d_M_compare_90 (by decide) (fun c2 => ?_) (fun c2 => ?_)
      · have hge : M o ≤ M h := (nI_leI (by omega) (by omega)).mp c2
        refine lv_aload_n hx hb d_M_compare_97 rfl (lv_at hl 0 rfl) ?_
        refine gf_M_sizes S hK hP 0 rfl rfl d_M_compare_98 ?_
        refine lv_iload_n hx hb d_M_compare_101 rfl (lv_at hl 1 rfl) ?_
        refine ldI S hK hP 3 rfl h rfl (by omega) (v := nI (M h)) hs d_M_compare_102 ?_
        refine lv_aload_n hx hb d_M_compare_103 rfl (lv_at hl 0 rfl) ?_
        refine gf_M_sizes S hK hP 0 rfl rfl d_M_compare_104 ?_
        refine lv_iload_n hx hb d_M_compare_107 rfl (lv_at hl 2 rfl) ?_
        refine ldI S hK hP 3 rfl o rfl (by omega) (v := nI (M o)) hso d_M_compare_108 ?_
        refine lv_icmp_le (tgt := 116) hx hb d_M_compare_109 (by decide) (fun c3 => ?_) (fun c3 => ?_)
        · have hle : M h ≤ M o := (nI_leI (by omega) (by omega)).mp c3
          refine lv_iconst (v := 0) hx hb d_M_compare_116 (by decide) ?_
          exact rtI S hr hlocks hS (by rw [← hv, show M h = M o by omega, sub0.mpr rfl]; rfl) d_M_compare_117
        · have hgt : M o < M h := Nat.lt_of_not_le (fun q => c3 (nI_le q (by omega)))
          refine lv_iconst (v := 1) hx hb d_M_compare_112 (by decide) ?_
          refine lv_goto (tgt := 117) hx hb d_M_compare_113 (by decide) ?_
          exact rtI S hr hlocks hS (by rw [← hv, sgn_gt (fun q => nI_ne0 (show 0 < M h - M o by omega) (by omega) (by rw [← pk_sub (by omega)]; exact q)) (by rw [pk_sub (by omega)]; exact nI_pos (by omega))]) d_M_compare_117
      · have hlt : M h < M o := Nat.lt_of_not_le (fun q => c2 (nI_le q (by omega)))
        refine lv_iconst (v := (-1)) hx hb d_M_compare_93 (by decide) ?_
        refine lv_goto (tgt := 117) hx hb d_M_compare_94 (by decide) ?_
        exact rtI S hr hlocks hS (by rw [← hv, sgn_lt (pk_sneg (by omega) hlt)]) d_M_compare_117
    · have hi1 : i < M h := Nat.lt_of_not_le (fun q => c1 (nI_le q (by omega)))
      refine lv_iload_n hx hb d_M_compare_31 rfl (lv_at hl 3 rfl) ?_
      refine lv_aload_n hx hb d_M_compare_32 rfl (lv_at hl 0 rfl) ?_
      refine gf_M_sizes S hK hP 0 rfl rfl d_M_compare_33 ?_
      refine lv_iload_n hx hb d_M_compare_36 rfl (lv_at hl 2 rfl) ?_
      refine ldI S hK hP 3 rfl o rfl (by omega) (v := nI (M o)) hso d_M_compare_37 ?_
      refine lv_icmp_ge (tgt := 78) hx hb d_M_compare_38 (by decide) (fun c2 => ?_) (fun c2 => ?_)
      · refine lv_aload_n hx hb d_M_compare_78 rfl (lv_at hl 0 rfl) ?_
        refine gf_M_sizes S hK hP 0 rfl rfl d_M_compare_79 ?_
        refine lv_iload_n hx hb d_M_compare_82 rfl (lv_at hl 1 rfl) ?_
        refine ldI S hK hP 3 rfl h rfl (by omega) (v := nI (M h)) hs d_M_compare_83 ?_
        refine lv_aload_n hx hb d_M_compare_84 rfl (lv_at hl 0 rfl) ?_
        refine gf_M_sizes S hK hP 0 rfl rfl d_M_compare_85 ?_
        refine lv_iload_n hx hb d_M_compare_88 rfl (lv_at hl 2 rfl) ?_
        refine ldI S hK hP 3 rfl o rfl (by omega) (v := nI (M o)) hso d_M_compare_89 ?_
        refine lv_icmp_ge (tgt := 97) hx hb d_M_compare_90 (by decide) (fun c3 => ?_) (fun c3 => ?_)
        · have hge : M o ≤ M h := (nI_leI (by omega) (by omega)).mp c3
          refine lv_aload_n hx hb d_M_compare_97 rfl (lv_at hl 0 rfl) ?_
          refine gf_M_sizes S hK hP 0 rfl rfl d_M_compare_98 ?_
          refine lv_iload_n hx hb d_M_compare_101 rfl (lv_at hl 1 rfl) ?_
          refine ldI S hK hP 3 rfl h rfl (by omega) (v := nI (M h)) hs d_M_compare_102 ?_
          refine lv_aload_n hx hb d_M_compare_103 rfl (lv_at hl 0 rfl) ?_
          refine gf_M_sizes S hK hP 0 rfl rfl d_M_compare_104 ?_
          refine lv_iload_n hx hb d_M_compare_107 rfl (lv_at hl 2 rfl) ?_
          refine ldI S hK hP 3 rfl o rfl (by omega) (v := nI (M o)) hso d_M_compare_108 ?_
          refine lv_icmp_le (tgt := 116) hx hb d_M_compare_109 (by decide) (fun c4 => ?_) (fun c4 => ?_)
          · have hle : M h ≤ M o := (nI_leI (by omega) (by omega)).mp c4
            refine lv_iconst (v := 0) hx hb d_M_compare_116 (by decide) ?_
            exact rtI S hr hlocks hS (by rw [← hv, show M h = M o by omega, sub0.mpr rfl]; rfl) d_M_compare_117
          · have hgt : M o < M h := Nat.lt_of_not_le (fun q => c4 (nI_le q (by omega)))
            refine lv_iconst (v := 1) hx hb d_M_compare_112 (by decide) ?_
            refine lv_goto (tgt := 117) hx hb d_M_compare_113 (by decide) ?_
            exact rtI S hr hlocks hS (by rw [← hv, sgn_gt (fun q => nI_ne0 (show 0 < M h - M o by omega) (by omega) (by rw [← pk_sub (by omega)]; exact q)) (by rw [pk_sub (by omega)]; exact nI_pos (by omega))]) d_M_compare_117
        · have hlt : M h < M o := Nat.lt_of_not_le (fun q => c3 (nI_le q (by omega)))
          refine lv_iconst (v := (-1)) hx hb d_M_compare_93 (by decide) ?_
          refine lv_goto (tgt := 117) hx hb d_M_compare_94 (by decide) ?_
          exact rtI S hr hlocks hS (by rw [← hv, sgn_lt (pk_sneg (by omega) hlt)]) d_M_compare_117
      · have hi2 : i < M o := Nat.lt_of_not_le (fun q => c2 (nI_le q (by omega)))
        exact absurd hi (by omega)
  | succ d ih =>
    intro i hi hv H locs hP hD hS ls hl
    have hih : inR (n, bk, th, M, ct, pl) h (nI i) = true := (inR_nI (by omega) (by show M h < _; omega)).trans (decide_eq_true (show i < M h by omega))
    have hio : inR (n, bk, th, M, ct, pl) o (nI i) = true := (inR_nI (by omega) (by show M o < _; omega)).trans (decide_eq_true (show i < M o by omega))
    have hnh : rowN th (nI h) = some h := rowN_t (by omega) ht
    have hno : rowN th (nI o) = some o := rowN_t (by omega) hto
    have gh := (ibB_ok (x := (n, bk, th, M, ct, pl)) 0 hnh hih).2.2
    have go := (ibB_ok (x := (n, bk, th, M, ct, pl)) 0 hno hio).2.2
    rw [nI_clamp (by omega)] at gh go
    have hv0 : sgn (if ct h i &&& 255 = ct o i &&& 255 then cm (ct h) (ct o) (nI (M h) - nI (M o)) d (i + 1) else (ct h i &&& 255) - (ct o i &&& 255)) = v := hv
    refine lv_iload_n hx hb d_M_compare_21 rfl (lv_at hl 3 rfl) ?_
    refine lv_aload_n hx hb d_M_compare_22 rfl (lv_at hl 0 rfl) ?_
    refine gf_M_sizes S hK hP 0 rfl rfl d_M_compare_23 ?_
    refine lv_iload_n hx hb d_M_compare_26 rfl (lv_at hl 1 rfl) ?_
    refine ldI S hK hP 3 rfl h rfl (by omega) (v := nI (M h)) hs d_M_compare_27 ?_
    refine lv_icmp_ge (tgt := 78) hx hb d_M_compare_28 (by decide) (fun c1 => ?_) (fun c1 => ?_)
    · exact absurd c1 (nI_ge (by omega) (by omega))
    · refine lv_iload_n hx hb d_M_compare_31 rfl (lv_at hl 3 rfl) ?_
      refine lv_aload_n hx hb d_M_compare_32 rfl (lv_at hl 0 rfl) ?_
      refine gf_M_sizes S hK hP 0 rfl rfl d_M_compare_33 ?_
      refine lv_iload_n hx hb d_M_compare_36 rfl (lv_at hl 2 rfl) ?_
      refine ldI S hK hP 3 rfl o rfl (by omega) (v := nI (M o)) hso d_M_compare_37 ?_
      refine lv_icmp_ge (tgt := 78) hx hb d_M_compare_38 (by decide) (fun c2 => ?_) (fun c2 => ?_)
      · exact absurd c2 (nI_ge (by omega) (by omega))
      · refine lv_aload_n hx hb d_M_compare_41 rfl (lv_at hl 0 rfl) ?_
        refine lv_iload_n hx hb d_M_compare_42 rfl (lv_at hl 1 rfl) ?_
        refine lv_iload_n hx hb d_M_compare_43 rfl (lv_at hl 3 rfl) ?_
        refine cpV (As := [.int (nI h), .int (nI i)]) (rest := []) S (c_M_get l D cB cI cZ a fb st sz bs n bk th M ct pl (nI h) (nI i) hO hR) (cw_M_60 S.2.2.2.2 ⟨by decide, by decide⟩) hK hP hD hS [0, 1, 2, 3, 4] rfl rfl rfl rfl rfl hl.1 rfl (Nat.le_of_ble_eq_true rfl) d_M_compare_44 ⟨by decide, by decide⟩ (fun H locs hP hS => ?_)
        refine tpE (y := ct h i &&& 255) (gh) ?_
        refine lv_aload_n hx hb d_M_compare_47 rfl (lv_at hl 0 rfl) ?_
        refine lv_iload_n hx hb d_M_compare_48 rfl (lv_at hl 2 rfl) ?_
        refine lv_iload_n hx hb d_M_compare_49 rfl (lv_at hl 3 rfl) ?_
        refine cpV (As := [.int (nI o), .int (nI i)]) (rest := [.int (ct h i &&& 255)]) S (c_M_get l D cB cI cZ a fb st sz bs n bk th M ct pl (nI o) (nI i) hO hR) (cw_M_60 S.2.2.2.2 ⟨by decide, by decide⟩) hK hP hD hS [0, 1, 2, 3, 4] rfl rfl rfl rfl rfl hl.1 rfl (Nat.le_of_ble_eq_true rfl) d_M_compare_50 ⟨by decide, by decide⟩ (fun H locs hP hS => ?_)
        refine tpE (y := ct o i &&& 255) (go) ?_
        refine lv_isub hx hb d_M_compare_53 ?_
        refine lv_istore (lv' := [(4, .int ((ct h i &&& 255) - (ct o i &&& 255))), (0, .ref (a 0)), (1, .int (nI h)), (2, .int (nI o)), (3, .int (nI i))]) hx hb d_M_compare_54 hl (by decide) rfl (fun ls hl => ?_)
        refine lv_iload hx hb d_M_compare_56 (lv_at hl 0 rfl) ?_
        refine lv_if_eq (tgt := 72) hx hb d_M_compare_58 (by decide) (fun c3 => ?_) (fun c3 => ?_)
        · have he := sub0.mp c3
          rw [if_pos he] at hv0
          refine lv_iinc (v := nI (i + 1)) (lv' := [(3, .int (nI (i + 1))), (4, .int ((ct h i &&& 255) - (ct o i &&& 255))), (0, .ref (a 0)), (1, .int (nI h)), (2, .int (nI o))]) hx hb d_M_compare_72 hl (k := 4) rfl (nI_1 i) (by decide) rfl (fun ls hl => ?_)
          refine lv_goto (tgt := 21) hx hb d_M_compare_75 (by decide) ?_
          exact ih (i + 1) (by omega) hv0 H locs hP hD hS ls (lv_sub hl [2, 3, 4, 0] rfl)
        · have he : ¬ ct h i &&& 255 = ct o i &&& 255 := fun q => c3 (sub0.mpr q)
          rw [if_neg he] at hv0
          refine lv_iload hx hb d_M_compare_61 (lv_at hl 0 rfl) ?_
          refine lv_if_ge (tgt := 70) hx hb d_M_compare_63 (by decide) (fun c4 => ?_) (fun c4 => ?_)
          · refine lv_iconst (v := 1) hx hb d_M_compare_70 (by decide) ?_
            exact rtI S hr hlocks hS (by rw [← hv0, sgn_gt c3 (Int32.not_lt.mpr c4)]) d_M_compare_71
          · refine lv_iconst (v := (-1)) hx hb d_M_compare_66 (by decide) ?_
            refine lv_goto (tgt := 71) hx hb d_M_compare_67 (by decide) ?_
            exact rtI S hr hlocks hS (by rw [← hv0, sgn_lt (Int32.not_le.mp c4)]) d_M_compare_71
set_option maxHeartbeats 4000000 in
/-- ByteShelfModel.compare -/
theorem c_M_compare (l : Launch) (D : va_G) (cB cI cZ : ClassId) (a : Nat → Nat) (fb : Nat → Int32) (st : Nat → Nat) (sz bs : Nat → Int32) (n : Nat) (bk : List Nat) (th : Nat → Bool) (M : Nat → Nat) (ct : Nat → Nat → Int32) (pl : Nat) (p0 p1 : Int32) (hO : Ok (n, bk, th, M, ct, pl)) (hR : RepB (n, bk, th, M, ct, pl) fb st sz bs) : Met l y_M_compare w_M_compare (rmL 2) (va_Pc [.ref (a 0), .int p0, .int p1] (Wd D cB cI cZ (wM cB cI a fb st sz bs (sm M n) n bk.length pl))) (Qi (cmR (n, bk, th, M, ct, pl) p0 p1)) 0 0 NoA := by
  refine entry (by decide) (Nat.le_of_ble_eq_true rfl) ?_
  intro p e s m args below meth c S hr hlocks hin hPre ls hl
  have hx := S.1
  have hb := S.2.1
  have hl : lv_has ls 5 [(0, .ref (a 0)), (1, .int p0), (2, .int p1)] := hl
  obtain ⟨hP, hK, hD⟩ := hPre
  have hS : va_S NoA s.heap s.heap [] := va_S.rf
  have hrw : ∀ k, th k = true → k < n ∧ k < 20000 ∧ M k ≤ 16384 ∧ rnd (M k) ≤ pl ∧ bk.length < n := fun k hk => Ok_row hO hk
  obtain ⟨hbF, hsz, hBk, hI⟩ := id hR
  have hsz : ∀ k, k < n → sz k = szI th M k := hsz
  have hI : Iv n M ct fb st := hI
  have hMl : ∀ k, M k ≤ 16384 := hO.2.2.2.1
  have hpl : pl ≤ 400000 := hO.2.2.2.2.2.2.1
  have hn0 : n ≤ 20000 := hO.1
  have hln : bk.length ≤ n := Ok_len hO
  have hus : sm M n ≤ pl := sm_le_pl hO
  have hst : ∀ k, th k = true → 0 < M k → st k + M k ≤ 400000 := fun k q1 q2 => by have := hI.1 k (hrw k q1).1 q2; omega
  refine lv_aload_n hx hb d_M_compare_0 rfl (lv_at hl 0 rfl) ?_
  refine lv_iload_n hx hb d_M_compare_1 rfl (lv_at hl 1 rfl) ?_
  refine cpV (As := [.int p0]) (rest := []) S (c_M_isRow l D cB cI cZ a fb st sz bs (sm M n) n bk.length pl th M p0 hn0 (fun k hk => (hrw k hk).1) hsz hMl) (cw_M_52 S.2.2.2.2 ⟨by decide, by decide⟩) hK hP hD hS [0, 1, 2, 3, 4] rfl rfl rfl rfl rfl hl.1 rfl (Nat.le_of_ble_eq_true rfl) d_M_compare_2 ⟨by decide, by decide⟩ (fun H locs hP hS => ?_)
  refine lv_if_eq (tgt := 16) hx hb d_M_compare_5 (by decide) (fun c1 => ?_) (fun c1 => ?_)
  · have hn := isN (zb_0 c1)
    refine lv_bipush (v := (-2)) hx hb d_M_compare_16 (by decide) ?_
    exact rtI S hr hlocks hS (by unfold cmR; rw [show rowN ((n, bk, th, M, ct, pl) : Ab).2.2.1 p0 = none from hn]) d_M_compare_18
  · obtain ⟨h, hh, rfl, ht, hn⟩ := rowN_some (zb_1 c1)
    have hw := hrw h ht
    have hs : sz h = nI (M h) := by rw [hsz h hw.1]; exact szI_t ht
    have hm := hMl h
    refine lv_aload_n hx hb d_M_compare_8 rfl (lv_at hl 0 rfl) ?_
    refine lv_iload_n hx hb d_M_compare_9 rfl (lv_at hl 2 rfl) ?_
    refine cpV (As := [.int p1]) (rest := []) S (c_M_isRow l D cB cI cZ a fb st sz bs (sm M n) n bk.length pl th M p1 hn0 (fun k hk => (hrw k hk).1) hsz hMl) (cw_M_52 S.2.2.2.2 ⟨by decide, by decide⟩) hK hP hD hS [0, 1, 2, 3, 4] rfl rfl rfl rfl rfl hl.1 rfl (Nat.le_of_ble_eq_true rfl) d_M_compare_10 ⟨by decide, by decide⟩ (fun H locs hP hS => ?_)
    refine lv_if_ne (tgt := 19) hx hb d_M_compare_13 (by decide) (fun c2 => ?_) (fun c2 => ?_)
    · obtain ⟨o, hho, rfl, hto, hm0⟩ := rowN_some (zb_1 c2)
      have hwo := hrw o hto
      have hso : sz o = nI (M o) := by rw [hsz o hwo.1]; exact szI_t hto
      have hmo := hMl o
      refine lv_iconst (v := (nI 0)) hx hb d_M_compare_19 (by decide) ?_
      refine lv_istore_n (lv' := [(3, .int (nI 0)), (0, .ref (a 0)), (1, .int (nI h)), (2, .int (nI o))]) hx hb d_M_compare_20 rfl hl (by decide) rfl (fun ls hl => ?_)
      exact lp_M_compare hO hR ht hto S hK hr hlocks (min (M h) (M o)) 0 (Nat.zero_add _) (by unfold cmR; rw [show rowN ((n, bk, th, M, ct, pl) : Ab).2.2.1 (nI h) = some h from hn, show rowN ((n, bk, th, M, ct, pl) : Ab).2.2.1 (nI o) = some o from hm0]) _ _ hP hD hS ls (lv_sub hl [1, 2, 3, 0] rfl)
    · have hm0 := isN (zb_0 c2)
      refine lv_bipush (v := (-2)) hx hb d_M_compare_16 (by decide) ?_
      exact rtI S hr hlocks hS (by unfold cmR; rw [show rowN ((n, bk, th, M, ct, pl) : Ab).2.2.1 (nI h) = some h from hn, show rowN ((n, bk, th, M, ct, pl) : Ab).2.2.1 p1 = none from hm0]) d_M_compare_18
set_option maxHeartbeats 4000000 in
theorem lp_M_sum {p : Program} {l : Launch} {e : Env} {s : State} {m : MethodId} {args : Array Value} {below : List Frame} {meth : Method} {c : Code} {D : va_G} {cB cI cZ : ClassId} {a : Nat → Nat} {fb : Nat → Int32} {st : Nat → Nat} {sz bs : Nat → Int32} {n : Nat} {bk : List Nat} {th : Nat → Bool} {M : Nat → Nat} {ct : Nat → Nat → Int32} {pl : Nat} {h : Nat} (hO : Ok (n, bk, th, M, ct, pl)) (hR : RepB (n, bk, th, M, ct, pl) fb st sz bs) (ht : th h = true) (S : CallFix p m c b_M_sum 4 s args aw R_M) (hK : va_K D classes (TY cB cI cZ) s) (hr : meth.sig.returnType = some .int) (hlocks : meth.locks = false) :
    ∀ (d k : Nat), k + d = M h → ∀ (H : Heap) (locs : List Loc), va_P D classes (wM cB cI a fb st sz bs (sm M n) n bk.length pl) H → va_D (fun _ => True) (wM cB cI a fb st sz bs (sm M n) n bk.length pl) → va_S NoA s.heap H locs → ∀ (ls : Array Slot), lv_has ls 4 [(0, .ref (a 0)), (1, .int (nI h)), (2, .int (su (ct h) k)), (3, .int (nI k))] → W p l e (rmL 2) s m args below meth c H locs 0 0 (MQ below (Qi (su (ct h) (M h))) args s 0 0 NoA) (F0 m 5 ls []) := by
  have hx := S.1
  have hb := S.2.1
  have hrw : ∀ k, th k = true → k < n ∧ k < 20000 ∧ M k ≤ 16384 ∧ rnd (M k) ≤ pl ∧ bk.length < n := fun k hk => Ok_row hO hk
  obtain ⟨hbF, hsz, hBk, hI⟩ := id hR
  have hsz : ∀ k, k < n → sz k = szI th M k := hsz
  have hI : Iv n M ct fb st := hI
  have hMl : ∀ k, M k ≤ 16384 := hO.2.2.2.1
  have hpl : pl ≤ 400000 := hO.2.2.2.2.2.2.1
  have hn0 : n ≤ 20000 := hO.1
  have hln : bk.length ≤ n := Ok_len hO
  have hus : sm M n ≤ pl := sm_le_pl hO
  have hst : ∀ k, th k = true → 0 < M k → st k + M k ≤ 400000 := fun k q1 q2 => by have := hI.1 k (hrw k q1).1 q2; omega
  have hw := hrw h ht
  have hmh := hMl h
  have hnh : rowN th (nI h) = some h := rowN_t (by omega) ht
  have hszR : szR (n, bk, th, M, ct, pl) (nI h) = nI (M h) := by unfold szR; rw [show rowN ((n, bk, th, M, ct, pl) : Ab).2.2.1 (nI h) = some h from hnh]
  intro d
  induction d with
  | zero =>
    intro k hk H locs hP hD hS ls hl
    have e0 : k = M h := by omega
    refine lv_iload_n hx hb d_M_sum_5 rfl (lv_at hl 3 rfl) ?_
    refine lv_aload_n hx hb d_M_sum_6 rfl (lv_at hl 0 rfl) ?_
    refine lv_iload_n hx hb d_M_sum_7 rfl (lv_at hl 1 rfl) ?_
    refine cpV (As := [.int (nI h)]) (rest := [.int (nI k)]) S (c_M_size l D cB cI cZ a fb st sz bs n bk th M ct pl (nI h) hO hR) (cw_M_64 S.2.2.2.2 ⟨by decide, by decide⟩) hK hP hD hS [0, 1, 2, 3, 4] rfl rfl rfl rfl rfl hl.1 rfl (Nat.le_of_ble_eq_true rfl) d_M_sum_8 ⟨by decide, by decide⟩ (fun H locs hP hS => ?_)
    refine tpE (y := nI (M h)) (hszR) ?_
    refine lv_icmp_ge (tgt := 32) hx hb d_M_sum_11 (by decide) (fun c1 => ?_) (fun c1 => ?_)
    · refine lv_aload_n hx hb d_M_sum_32 rfl (lv_at hl 0 rfl) ?_
      refine lv_iload_n hx hb d_M_sum_33 rfl (lv_at hl 1 rfl) ?_
      refine cpV (As := [.int (nI h)]) (rest := []) S (c_M_isRow l D cB cI cZ a fb st sz bs (sm M n) n bk.length pl th M (nI h) hn0 (fun k hk => (hrw k hk).1) hsz hMl) (cw_M_52 S.2.2.2.2 ⟨by decide, by decide⟩) hK hP hD hS [0, 1, 2, 3, 4] rfl rfl rfl rfl rfl hl.1 rfl (Nat.le_of_ble_eq_true rfl) d_M_sum_34 ⟨by decide, by decide⟩ (fun H locs hP hS => ?_)
      refine lv_if_eq (tgt := 44) hx hb d_M_sum_37 (by decide) (fun c2 => ?_) (fun c2 => ?_)
      · exact absurd c2 (by rw [hnh]; show ¬ zb true = 0; decide)
      · refine lv_iload_n hx hb d_M_sum_40 rfl (lv_at hl 2 rfl) ?_
        refine lv_goto (tgt := 45) hx hb d_M_sum_41 (by decide) ?_
        exact rtI S hr hlocks hS (by rw [e0]) d_M_sum_45
    · exact absurd (nI_le (by omega) (by omega)) c1
  | succ d ih =>
    intro k hk H locs hP hD hS ls hl
    have hih : inR (n, bk, th, M, ct, pl) h (nI k) = true := (inR_nI (by omega) (by show M h < _; omega)).trans (decide_eq_true (show k < M h by omega))
    have gh := (ibB_ok (x := (n, bk, th, M, ct, pl)) 0 hnh hih).2.2
    rw [nI_clamp (by omega)] at gh
    refine lv_iload_n hx hb d_M_sum_5 rfl (lv_at hl 3 rfl) ?_
    refine lv_aload_n hx hb d_M_sum_6 rfl (lv_at hl 0 rfl) ?_
    refine lv_iload_n hx hb d_M_sum_7 rfl (lv_at hl 1 rfl) ?_
    refine cpV (As := [.int (nI h)]) (rest := [.int (nI k)]) S (c_M_size l D cB cI cZ a fb st sz bs n bk th M ct pl (nI h) hO hR) (cw_M_64 S.2.2.2.2 ⟨by decide, by decide⟩) hK hP hD hS [0, 1, 2, 3, 4] rfl rfl rfl rfl rfl hl.1 rfl (Nat.le_of_ble_eq_true rfl) d_M_sum_8 ⟨by decide, by decide⟩ (fun H locs hP hS => ?_)
    refine tpE (y := nI (M h)) (hszR) ?_
    refine lv_icmp_ge (tgt := 32) hx hb d_M_sum_11 (by decide) (fun c1 => ?_) (fun c1 => ?_)
    · exact absurd c1 (nI_ge (by omega) (by omega))
    · refine lv_bipush (v := (nI 31)) hx hb d_M_sum_14 (by decide) ?_
      refine lv_iload_n hx hb d_M_sum_16 rfl (lv_at hl 2 rfl) ?_
      refine lv_imul hx hb d_M_sum_17 ?_
      refine lv_aload_n hx hb d_M_sum_18 rfl (lv_at hl 0 rfl) ?_
      refine lv_iload_n hx hb d_M_sum_19 rfl (lv_at hl 1 rfl) ?_
      refine lv_iload_n hx hb d_M_sum_20 rfl (lv_at hl 3 rfl) ?_
      refine cpV (As := [.int (nI h), .int (nI k)]) (rest := [.int ((nI 31) * (su (ct h) k))]) S (c_M_get l D cB cI cZ a fb st sz bs n bk th M ct pl (nI h) (nI k) hO hR) (cw_M_60 S.2.2.2.2 ⟨by decide, by decide⟩) hK hP hD hS [0, 1, 2, 3, 4] rfl rfl rfl rfl rfl hl.1 rfl (Nat.le_of_ble_eq_true rfl) d_M_sum_21 ⟨by decide, by decide⟩ (fun H locs hP hS => ?_)
      refine tpE (y := ct h k &&& 255) (gh) ?_
      refine lv_iadd hx hb d_M_sum_24 ?_
      refine tpE (y := su (ct h) (k + 1)) (rfl) ?_
      refine lv_istore_n (lv' := [(2, .int (su (ct h) (k + 1))), (0, .ref (a 0)), (1, .int (nI h)), (3, .int (nI k))]) hx hb d_M_sum_25 rfl hl (by decide) rfl (fun ls hl => ?_)
      refine lv_iinc (v := nI (k + 1)) (lv' := [(3, .int (nI (k + 1))), (2, .int (su (ct h) (k + 1))), (0, .ref (a 0)), (1, .int (nI h))]) hx hb d_M_sum_26 hl (k := 3) rfl (nI_1 k) (by decide) rfl (fun ls hl => ?_)
      refine lv_goto (tgt := 5) hx hb d_M_sum_29 (by decide) ?_
      exact ih (k + 1) (by omega) H locs hP hD hS ls (lv_sub hl [2, 3, 1, 0] rfl)
set_option maxHeartbeats 4000000 in
/-- ByteShelfModel.sum -/
theorem c_M_sum (l : Launch) (D : va_G) (cB cI cZ : ClassId) (a : Nat → Nat) (fb : Nat → Int32) (st : Nat → Nat) (sz bs : Nat → Int32) (n : Nat) (bk : List Nat) (th : Nat → Bool) (M : Nat → Nat) (ct : Nat → Nat → Int32) (pl : Nat) (p0 : Int32) (hO : Ok (n, bk, th, M, ct, pl)) (hR : RepB (n, bk, th, M, ct, pl) fb st sz bs) : Met l y_M_sum w_M_sum (rmL 2) (va_Pc [.ref (a 0), .int p0] (Wd D cB cI cZ (wM cB cI a fb st sz bs (sm M n) n bk.length pl))) (Qi (suR (n, bk, th, M, ct, pl) p0)) 0 0 NoA := by
  refine entry (by decide) (Nat.le_of_ble_eq_true rfl) ?_
  intro p e s m args below meth c S hr hlocks hin hPre ls hl
  have hx := S.1
  have hb := S.2.1
  have hl : lv_has ls 4 [(0, .ref (a 0)), (1, .int p0)] := hl
  obtain ⟨hP, hK, hD⟩ := hPre
  have hS : va_S NoA s.heap s.heap [] := va_S.rf
  have hrw : ∀ k, th k = true → k < n ∧ k < 20000 ∧ M k ≤ 16384 ∧ rnd (M k) ≤ pl ∧ bk.length < n := fun k hk => Ok_row hO hk
  obtain ⟨hbF, hsz, hBk, hI⟩ := id hR
  have hsz : ∀ k, k < n → sz k = szI th M k := hsz
  have hI : Iv n M ct fb st := hI
  have hMl : ∀ k, M k ≤ 16384 := hO.2.2.2.1
  have hpl : pl ≤ 400000 := hO.2.2.2.2.2.2.1
  have hn0 : n ≤ 20000 := hO.1
  have hln : bk.length ≤ n := Ok_len hO
  have hus : sm M n ≤ pl := sm_le_pl hO
  have hst : ∀ k, th k = true → 0 < M k → st k + M k ≤ 400000 := fun k q1 q2 => by have := hI.1 k (hrw k q1).1 q2; omega
  refine lv_bipush (v := (nI 7)) hx hb d_M_sum_0 (by decide) ?_
  refine lv_istore_n (lv' := [(2, .int (nI 7)), (0, .ref (a 0)), (1, .int p0)]) hx hb d_M_sum_2 rfl hl (by decide) rfl (fun ls hl => ?_)
  refine lv_iconst (v := (nI 0)) hx hb d_M_sum_3 (by decide) ?_
  refine lv_istore_n (lv' := [(3, .int (nI 0)), (2, .int (nI 7)), (0, .ref (a 0)), (1, .int p0)]) hx hb d_M_sum_4 rfl hl (by decide) rfl (fun ls hl => ?_)
  by_cases hrn : (rowN th p0).isSome = true
  · obtain ⟨h, hh, rfl, ht, hn⟩ := rowN_some hrn
    rw [show suR (n, bk, th, M, ct, pl) (nI h) = su (ct h) (M h) by unfold suR; rw [show rowN ((n, bk, th, M, ct, pl) : Ab).2.2.1 (nI h) = some h from hn]]
    exact lp_M_sum hO hR ht S hK hr hlocks (M h) 0 (Nat.zero_add _) _ _ hP hD hS ls (lv_sub hl [2, 3, 1, 0] rfl)
  · have hn := isN (Bool.eq_false_iff.mpr hrn)
    have hszR : szR (n, bk, th, M, ct, pl) p0 = -1 := by unfold szR; rw [show rowN ((n, bk, th, M, ct, pl) : Ab).2.2.1 p0 = none from hn]
    refine lv_iload_n hx hb d_M_sum_5 rfl (lv_at hl 0 rfl) ?_
    refine lv_aload_n hx hb d_M_sum_6 rfl (lv_at hl 2 rfl) ?_
    refine lv_iload_n hx hb d_M_sum_7 rfl (lv_at hl 3 rfl) ?_
    refine cpV (As := [.int p0]) (rest := [.int (nI 0)]) S (c_M_size l D cB cI cZ a fb st sz bs n bk th M ct pl p0 hO hR) (cw_M_64 S.2.2.2.2 ⟨by decide, by decide⟩) hK hP hD hS [0, 1, 2, 3, 4] rfl rfl rfl rfl rfl hl.1 rfl (Nat.le_of_ble_eq_true rfl) d_M_sum_8 ⟨by decide, by decide⟩ (fun H locs hP hS => ?_)
    refine tpE (y := (-1)) (hszR) ?_
    refine lv_icmp_ge (tgt := 32) hx hb d_M_sum_11 (by decide) (fun c1 => ?_) (fun c1 => ?_)
    · refine lv_aload_n hx hb d_M_sum_32 rfl (lv_at hl 2 rfl) ?_
      refine lv_iload_n hx hb d_M_sum_33 rfl (lv_at hl 3 rfl) ?_
      refine cpV (As := [.int p0]) (rest := []) S (c_M_isRow l D cB cI cZ a fb st sz bs (sm M n) n bk.length pl th M p0 hn0 (fun k hk => (hrw k hk).1) hsz hMl) (cw_M_52 S.2.2.2.2 ⟨by decide, by decide⟩) hK hP hD hS [0, 1, 2, 3, 4] rfl rfl rfl rfl rfl hl.1 rfl (Nat.le_of_ble_eq_true rfl) d_M_sum_34 ⟨by decide, by decide⟩ (fun H locs hP hS => ?_)
      refine lv_if_eq (tgt := 44) hx hb d_M_sum_37 (by decide) (fun c2 => ?_) (fun c2 => ?_)
      · refine lv_iconst (v := 0) hx hb d_M_sum_44 (by decide) ?_
        exact rtI S hr hlocks hS (by unfold suR; rw [show rowN ((n, bk, th, M, ct, pl) : Ab).2.2.1 p0 = none from hn]) d_M_sum_45
      · exact absurd (by rw [hn]; rfl) c2
    · exact absurd (by decide) c1
end
section
abbrev S00 (cB cI : ClassId) (a : Nat → Nat) : va_W := wS cB cI a (fun _ => 0) (fun _ => 0) (fun _ => 0) (fun _ => 0) (fun _ => 0) (fun _ => 0) (-1) (-1) (-1) 0 0
set_option maxHeartbeats 4000000 in
set_option maxRecDepth 100000 in
theorem c_S_init (l : Launch) (D : va_G) (cB cI cZ : ClassId) (h0 sz : Nat) : Met l y_S_init w_S_init { frames := 1, cells := 6, slots := 560000, locals := 30 } (va_Pc [.ref h0] (fun U => U.heap.size = sz ∧ Wd D cB cI cZ [(h0, .inr (0, [.null, .null, .null, .null, .null, .null, .int 0, .int 0, .int 0, .int 0, .int 0]))] U)) (va_Qv (fun a : Nat → Nat => a 0 = h0) (fun a t => va_P D classes (S00 cB cI a) t.heap ∧ va_D (va_A [(h0, .inr (0, [.null, .null, .null, .null, .null, .null, .int 0, .int 0, .int 0, .int 0, .int 0]))] sz) (S00 cB cI a)) (va_A [(h0, .inr (0, [.null, .null, .null, .null, .null, .null, .int 0, .int 0, .int 0, .int 0, .int 0]))] sz)) 6 560000 (va_A [(h0, .inr (0, [.null, .null, .null, .null, .null, .null, .int 0, .int 0, .int 0, .int 0, .int 0]))] sz) := by
  refine entry (by decide) (Nat.le_of_ble_eq_true rfl) ?_
  intro p e s m args below meth c S hr hlocks hin hPre ls hl
  have hx := S.1
  have hb := S.2.1
  have hl : lv_has ls 1 [(0, .ref h0)] := hl
  have hin := hin rfl
  obtain ⟨rfl, ⟨hP, hK, hD0⟩⟩ := hPre
  have hD := hD0.self (sz := s.heap.size)
  generalize hAe : va_A [(h0, .inr (0, [.null, .null, .null, .null, .null, .null, .int 0, .int 0, .int 0, .int 0, .int 0]))] s.heap.size = A at hD ⊢
  have hA : ∀ q : Nat, s.heap.size ≤ q → A q := fun q h => by rw [← hAe]; exact Or.inr h
  have hS : va_S A s.heap s.heap [] := va_S.rf
  have hml := S.2.2.1
  have hta := S.2.2.2.2
  refine lv_aload_n hx hb d_S_init_0 rfl (lv_at hl 0 rfl) ?_
  refine W.objInit hx hb S.2.2.2.1 (hta _ k_ml_S_3) (hta _ k_im_O_init) (hta _ k_co_O_init) rfl (by rw [hml]; exact hl.1) rfl d_S_init_1 (by decide) (Nat.le_of_ble_eq_true rfl) ?_
  refine W.eq (g2 := F0 m 4 ls []) rfl ?_
  refine lv_aload_n hx hb d_S_init_4 rfl (lv_at hl 0 rfl) ?_
  refine lv_ldc (v := 400000) hx hb S.2.2.2.1 (hta _ k_k_S_11) d_S_init_5 ?_
  refine va_newa (atype := .byte) (ty := .byte) (a0 := (400000, .inl (fun _ => 0))) (N' := 400000) hx hb (hta _ k_ac_byte) rfl hK hP hD hS hA (fun cA => rfl) (by decide) (by decide) (by decide) (by decide) (by decide) d_S_init_7 (fun q1 cA H hK1 hP hD hS => ?_)
  have ecA : cB = cA := Option.some.inj ((hK1.2 0 _ rfl).2.symm.trans (hK1.2 3 _ rfl).2)
  subst ecA
  have hP : va_P D classes [(h0, .inr (0, [.null, .null, .null, .null, .null, .null, .int 0, .int 0, .int 0, .int 0, .int 0])), (q1, .inl (cB, 400000, .inl (fun _ => 0)))] H := hP
  have hD : va_D A [(h0, .inr (0, [.null, .null, .null, .null, .null, .null, .int 0, .int 0, .int 0, .int 0, .int 0])), (q1, .inl (cB, 400000, .inl (fun _ => 0)))] := hD
  refine W.widen (k := 1) (n := 400000) (by decide) (by decide) ?_
  refine pf_S_bytes S hin hK hP hD hS 0 rfl (Nat.le_of_ble_eq_true rfl) d_S_init_9 (fun H locs hP hD hS => ?_)
  have hP : va_P D classes [(h0, .inr (0, [.ref q1, .null, .null, .null, .null, .null, .int 0, .int 0, .int 0, .int 0, .int 0])), (q1, .inl (cB, 400000, .inl (fun _ => 0)))] H := hP
  have hD : va_D A [(h0, .inr (0, [.ref q1, .null, .null, .null, .null, .null, .int 0, .int 0, .int 0, .int 0, .int 0])), (q1, .inl (cB, 400000, .inl (fun _ => 0)))] := hD
  refine lv_aload_n hx hb d_S_init_12 rfl (lv_at hl 0 rfl) ?_
  refine lv_sipush (v := nI 32000) hx hb d_S_init_13 (by decide) ?_
  refine va_newa (atype := .int) (ty := .int) (a0 := (32000, .inl (nF (fun _ => 0)))) (N' := 32000) hx hb (hta _ k_ac_int) rfl hK hP hD hS hA (fun cA => rfl) (by decide) (by decide) (by decide) (by decide) (by decide) d_S_init_16 (fun q2 cA H hK1 hP hD hS => ?_)
  have ecA : cI = cA := Option.some.inj ((hK1.2 1 _ rfl).2.symm.trans (hK1.2 3 _ rfl).2)
  subst ecA
  have hP : va_P D classes [(h0, .inr (0, [.ref q1, .null, .null, .null, .null, .null, .int 0, .int 0, .int 0, .int 0, .int 0])), (q1, .inl (cB, 400000, .inl (fun _ => 0))), (q2, .inl (cI, 32000, .inl (nF (fun _ => 0))))] H := hP
  have hD : va_D A [(h0, .inr (0, [.ref q1, .null, .null, .null, .null, .null, .int 0, .int 0, .int 0, .int 0, .int 0])), (q1, .inl (cB, 400000, .inl (fun _ => 0))), (q2, .inl (cI, 32000, .inl (nF (fun _ => 0))))] := hD
  refine W.widen (k := 2) (n := 432000) (by decide) (by decide) ?_
  refine pf_S_at S hin hK hP hD hS 0 rfl (Nat.le_of_ble_eq_true rfl) d_S_init_18 (fun H locs hP hD hS => ?_)
  have hP : va_P D classes [(h0, .inr (0, [.ref q1, .ref q2, .null, .null, .null, .null, .int 0, .int 0, .int 0, .int 0, .int 0])), (q1, .inl (cB, 400000, .inl (fun _ => 0))), (q2, .inl (cI, 32000, .inl (nF (fun _ => 0))))] H := hP
  have hD : va_D A [(h0, .inr (0, [.ref q1, .ref q2, .null, .null, .null, .null, .int 0, .int 0, .int 0, .int 0, .int 0])), (q1, .inl (cB, 400000, .inl (fun _ => 0))), (q2, .inl (cI, 32000, .inl (nF (fun _ => 0))))] := hD
  refine lv_aload_n hx hb d_S_init_21 rfl (lv_at hl 0 rfl) ?_
  refine lv_sipush (v := nI 32000) hx hb d_S_init_22 (by decide) ?_
  refine va_newa (atype := .int) (ty := .int) (a0 := (32000, .inl (nF (fun _ => 0)))) (N' := 32000) hx hb (hta _ k_ac_int) rfl hK hP hD hS hA (fun cA => rfl) (by decide) (by decide) (by decide) (by decide) (by decide) d_S_init_25 (fun q3 cA H hK1 hP hD hS => ?_)
  have ecA : cI = cA := Option.some.inj ((hK1.2 1 _ rfl).2.symm.trans (hK1.2 3 _ rfl).2)
  subst ecA
  have hP : va_P D classes [(h0, .inr (0, [.ref q1, .ref q2, .null, .null, .null, .null, .int 0, .int 0, .int 0, .int 0, .int 0])), (q1, .inl (cB, 400000, .inl (fun _ => 0))), (q2, .inl (cI, 32000, .inl (nF (fun _ => 0)))), (q3, .inl (cI, 32000, .inl (nF (fun _ => 0))))] H := hP
  have hD : va_D A [(h0, .inr (0, [.ref q1, .ref q2, .null, .null, .null, .null, .int 0, .int 0, .int 0, .int 0, .int 0])), (q1, .inl (cB, 400000, .inl (fun _ => 0))), (q2, .inl (cI, 32000, .inl (nF (fun _ => 0)))), (q3, .inl (cI, 32000, .inl (nF (fun _ => 0))))] := hD
  refine W.widen (k := 3) (n := 464000) (by decide) (by decide) ?_
  refine pf_S_size S hin hK hP hD hS 0 rfl (Nat.le_of_ble_eq_true rfl) d_S_init_27 (fun H locs hP hD hS => ?_)
  have hP : va_P D classes [(h0, .inr (0, [.ref q1, .ref q2, .ref q3, .null, .null, .null, .int 0, .int 0, .int 0, .int 0, .int 0])), (q1, .inl (cB, 400000, .inl (fun _ => 0))), (q2, .inl (cI, 32000, .inl (nF (fun _ => 0)))), (q3, .inl (cI, 32000, .inl (nF (fun _ => 0))))] H := hP
  have hD : va_D A [(h0, .inr (0, [.ref q1, .ref q2, .ref q3, .null, .null, .null, .int 0, .int 0, .int 0, .int 0, .int 0])), (q1, .inl (cB, 400000, .inl (fun _ => 0))), (q2, .inl (cI, 32000, .inl (nF (fun _ => 0)))), (q3, .inl (cI, 32000, .inl (nF (fun _ => 0))))] := hD
  refine lv_aload_n hx hb d_S_init_30 rfl (lv_at hl 0 rfl) ?_
  refine lv_sipush (v := nI 32000) hx hb d_S_init_31 (by decide) ?_
  refine va_newa (atype := .int) (ty := .int) (a0 := (32000, .inl (nF (fun _ => 0)))) (N' := 32000) hx hb (hta _ k_ac_int) rfl hK hP hD hS hA (fun cA => rfl) (by decide) (by decide) (by decide) (by decide) (by decide) d_S_init_34 (fun q4 cA H hK1 hP hD hS => ?_)
  have ecA : cI = cA := Option.some.inj ((hK1.2 1 _ rfl).2.symm.trans (hK1.2 3 _ rfl).2)
  subst ecA
  have hP : va_P D classes [(h0, .inr (0, [.ref q1, .ref q2, .ref q3, .null, .null, .null, .int 0, .int 0, .int 0, .int 0, .int 0])), (q1, .inl (cB, 400000, .inl (fun _ => 0))), (q2, .inl (cI, 32000, .inl (nF (fun _ => 0)))), (q3, .inl (cI, 32000, .inl (nF (fun _ => 0)))), (q4, .inl (cI, 32000, .inl (nF (fun _ => 0))))] H := hP
  have hD : va_D A [(h0, .inr (0, [.ref q1, .ref q2, .ref q3, .null, .null, .null, .int 0, .int 0, .int 0, .int 0, .int 0])), (q1, .inl (cB, 400000, .inl (fun _ => 0))), (q2, .inl (cI, 32000, .inl (nF (fun _ => 0)))), (q3, .inl (cI, 32000, .inl (nF (fun _ => 0)))), (q4, .inl (cI, 32000, .inl (nF (fun _ => 0))))] := hD
  refine W.widen (k := 4) (n := 496000) (by decide) (by decide) ?_
  refine pf_S_room S hin hK hP hD hS 0 rfl (Nat.le_of_ble_eq_true rfl) d_S_init_36 (fun H locs hP hD hS => ?_)
  have hP : va_P D classes [(h0, .inr (0, [.ref q1, .ref q2, .ref q3, .ref q4, .null, .null, .int 0, .int 0, .int 0, .int 0, .int 0])), (q1, .inl (cB, 400000, .inl (fun _ => 0))), (q2, .inl (cI, 32000, .inl (nF (fun _ => 0)))), (q3, .inl (cI, 32000, .inl (nF (fun _ => 0)))), (q4, .inl (cI, 32000, .inl (nF (fun _ => 0))))] H := hP
  have hD : va_D A [(h0, .inr (0, [.ref q1, .ref q2, .ref q3, .ref q4, .null, .null, .int 0, .int 0, .int 0, .int 0, .int 0])), (q1, .inl (cB, 400000, .inl (fun _ => 0))), (q2, .inl (cI, 32000, .inl (nF (fun _ => 0)))), (q3, .inl (cI, 32000, .inl (nF (fun _ => 0)))), (q4, .inl (cI, 32000, .inl (nF (fun _ => 0))))] := hD
  refine lv_aload_n hx hb d_S_init_39 rfl (lv_at hl 0 rfl) ?_
  refine lv_sipush (v := nI 32000) hx hb d_S_init_40 (by decide) ?_
  refine va_newa (atype := .int) (ty := .int) (a0 := (32000, .inl (fun _ => 0))) (N' := 32000) hx hb (hta _ k_ac_int) rfl hK hP hD hS hA (fun cA => rfl) (by decide) (by decide) (by decide) (by decide) (by decide) d_S_init_43 (fun q5 cA H hK1 hP hD hS => ?_)
  have ecA : cI = cA := Option.some.inj ((hK1.2 1 _ rfl).2.symm.trans (hK1.2 3 _ rfl).2)
  subst ecA
  have hP : va_P D classes [(h0, .inr (0, [.ref q1, .ref q2, .ref q3, .ref q4, .null, .null, .int 0, .int 0, .int 0, .int 0, .int 0])), (q1, .inl (cB, 400000, .inl (fun _ => 0))), (q2, .inl (cI, 32000, .inl (nF (fun _ => 0)))), (q3, .inl (cI, 32000, .inl (nF (fun _ => 0)))), (q4, .inl (cI, 32000, .inl (nF (fun _ => 0)))), (q5, .inl (cI, 32000, .inl (fun _ => 0)))] H := hP
  have hD : va_D A [(h0, .inr (0, [.ref q1, .ref q2, .ref q3, .ref q4, .null, .null, .int 0, .int 0, .int 0, .int 0, .int 0])), (q1, .inl (cB, 400000, .inl (fun _ => 0))), (q2, .inl (cI, 32000, .inl (nF (fun _ => 0)))), (q3, .inl (cI, 32000, .inl (nF (fun _ => 0)))), (q4, .inl (cI, 32000, .inl (nF (fun _ => 0)))), (q5, .inl (cI, 32000, .inl (fun _ => 0)))] := hD
  refine W.widen (k := 5) (n := 528000) (by decide) (by decide) ?_
  refine pf_S_next S hin hK hP hD hS 0 rfl (Nat.le_of_ble_eq_true rfl) d_S_init_45 (fun H locs hP hD hS => ?_)
  have hP : va_P D classes [(h0, .inr (0, [.ref q1, .ref q2, .ref q3, .ref q4, .ref q5, .null, .int 0, .int 0, .int 0, .int 0, .int 0])), (q1, .inl (cB, 400000, .inl (fun _ => 0))), (q2, .inl (cI, 32000, .inl (nF (fun _ => 0)))), (q3, .inl (cI, 32000, .inl (nF (fun _ => 0)))), (q4, .inl (cI, 32000, .inl (nF (fun _ => 0)))), (q5, .inl (cI, 32000, .inl (fun _ => 0)))] H := hP
  have hD : va_D A [(h0, .inr (0, [.ref q1, .ref q2, .ref q3, .ref q4, .ref q5, .null, .int 0, .int 0, .int 0, .int 0, .int 0])), (q1, .inl (cB, 400000, .inl (fun _ => 0))), (q2, .inl (cI, 32000, .inl (nF (fun _ => 0)))), (q3, .inl (cI, 32000, .inl (nF (fun _ => 0)))), (q4, .inl (cI, 32000, .inl (nF (fun _ => 0)))), (q5, .inl (cI, 32000, .inl (fun _ => 0)))] := hD
  refine lv_aload_n hx hb d_S_init_48 rfl (lv_at hl 0 rfl) ?_
  refine lv_sipush (v := nI 32000) hx hb d_S_init_49 (by decide) ?_
  refine va_newa (atype := .int) (ty := .int) (a0 := (32000, .inl (fun _ => 0))) (N' := 32000) hx hb (hta _ k_ac_int) rfl hK hP hD hS hA (fun cA => rfl) (by decide) (by decide) (by decide) (by decide) (by decide) d_S_init_52 (fun q6 cA H hK1 hP hD hS => ?_)
  have ecA : cI = cA := Option.some.inj ((hK1.2 1 _ rfl).2.symm.trans (hK1.2 3 _ rfl).2)
  subst ecA
  have hP : va_P D classes [(h0, .inr (0, [.ref q1, .ref q2, .ref q3, .ref q4, .ref q5, .null, .int 0, .int 0, .int 0, .int 0, .int 0])), (q1, .inl (cB, 400000, .inl (fun _ => 0))), (q2, .inl (cI, 32000, .inl (nF (fun _ => 0)))), (q3, .inl (cI, 32000, .inl (nF (fun _ => 0)))), (q4, .inl (cI, 32000, .inl (nF (fun _ => 0)))), (q5, .inl (cI, 32000, .inl (fun _ => 0))), (q6, .inl (cI, 32000, .inl (fun _ => 0)))] H := hP
  have hD : va_D A [(h0, .inr (0, [.ref q1, .ref q2, .ref q3, .ref q4, .ref q5, .null, .int 0, .int 0, .int 0, .int 0, .int 0])), (q1, .inl (cB, 400000, .inl (fun _ => 0))), (q2, .inl (cI, 32000, .inl (nF (fun _ => 0)))), (q3, .inl (cI, 32000, .inl (nF (fun _ => 0)))), (q4, .inl (cI, 32000, .inl (nF (fun _ => 0)))), (q5, .inl (cI, 32000, .inl (fun _ => 0))), (q6, .inl (cI, 32000, .inl (fun _ => 0)))] := hD
  refine W.widen (k := 6) (n := 560000) (by decide) (by decide) ?_
  refine pf_S_last S hin hK hP hD hS 0 rfl (Nat.le_of_ble_eq_true rfl) d_S_init_54 (fun H locs hP hD hS => ?_)
  have hP : va_P D classes [(h0, .inr (0, [.ref q1, .ref q2, .ref q3, .ref q4, .ref q5, .ref q6, .int 0, .int 0, .int 0, .int 0, .int 0])), (q1, .inl (cB, 400000, .inl (fun _ => 0))), (q2, .inl (cI, 32000, .inl (nF (fun _ => 0)))), (q3, .inl (cI, 32000, .inl (nF (fun _ => 0)))), (q4, .inl (cI, 32000, .inl (nF (fun _ => 0)))), (q5, .inl (cI, 32000, .inl (fun _ => 0))), (q6, .inl (cI, 32000, .inl (fun _ => 0)))] H := hP
  have hD : va_D A [(h0, .inr (0, [.ref q1, .ref q2, .ref q3, .ref q4, .ref q5, .ref q6, .int 0, .int 0, .int 0, .int 0, .int 0])), (q1, .inl (cB, 400000, .inl (fun _ => 0))), (q2, .inl (cI, 32000, .inl (nF (fun _ => 0)))), (q3, .inl (cI, 32000, .inl (nF (fun _ => 0)))), (q4, .inl (cI, 32000, .inl (nF (fun _ => 0)))), (q5, .inl (cI, 32000, .inl (fun _ => 0))), (q6, .inl (cI, 32000, .inl (fun _ => 0)))] := hD
  refine lv_aload_n hx hb d_S_init_57 rfl (lv_at hl 0 rfl) ?_
  refine lv_iconst (v := (-1)) hx hb d_S_init_58 (by decide) ?_
  refine pf_S_first S hK hP hD hS 0 rfl (Nat.le_of_ble_eq_true rfl) d_S_init_59 (fun H locs hP hD hS => ?_)
  have hP : va_P D classes [(h0, .inr (0, [.ref q1, .ref q2, .ref q3, .ref q4, .ref q5, .ref q6, .int (-1), .int 0, .int 0, .int 0, .int 0])), (q1, .inl (cB, 400000, .inl (fun _ => 0))), (q2, .inl (cI, 32000, .inl (nF (fun _ => 0)))), (q3, .inl (cI, 32000, .inl (nF (fun _ => 0)))), (q4, .inl (cI, 32000, .inl (nF (fun _ => 0)))), (q5, .inl (cI, 32000, .inl (fun _ => 0))), (q6, .inl (cI, 32000, .inl (fun _ => 0)))] H := hP
  have hD : va_D A [(h0, .inr (0, [.ref q1, .ref q2, .ref q3, .ref q4, .ref q5, .ref q6, .int (-1), .int 0, .int 0, .int 0, .int 0])), (q1, .inl (cB, 400000, .inl (fun _ => 0))), (q2, .inl (cI, 32000, .inl (nF (fun _ => 0)))), (q3, .inl (cI, 32000, .inl (nF (fun _ => 0)))), (q4, .inl (cI, 32000, .inl (nF (fun _ => 0)))), (q5, .inl (cI, 32000, .inl (fun _ => 0))), (q6, .inl (cI, 32000, .inl (fun _ => 0)))] := hD
  refine lv_aload_n hx hb d_S_init_62 rfl (lv_at hl 0 rfl) ?_
  refine lv_iconst (v := (-1)) hx hb d_S_init_63 (by decide) ?_
  refine pf_S_end S hK hP hD hS 0 rfl (Nat.le_of_ble_eq_true rfl) d_S_init_64 (fun H locs hP hD hS => ?_)
  have hP : va_P D classes [(h0, .inr (0, [.ref q1, .ref q2, .ref q3, .ref q4, .ref q5, .ref q6, .int (-1), .int (-1), .int 0, .int 0, .int 0])), (q1, .inl (cB, 400000, .inl (fun _ => 0))), (q2, .inl (cI, 32000, .inl (nF (fun _ => 0)))), (q3, .inl (cI, 32000, .inl (nF (fun _ => 0)))), (q4, .inl (cI, 32000, .inl (nF (fun _ => 0)))), (q5, .inl (cI, 32000, .inl (fun _ => 0))), (q6, .inl (cI, 32000, .inl (fun _ => 0)))] H := hP
  have hD : va_D A [(h0, .inr (0, [.ref q1, .ref q2, .ref q3, .ref q4, .ref q5, .ref q6, .int (-1), .int (-1), .int 0, .int 0, .int 0])), (q1, .inl (cB, 400000, .inl (fun _ => 0))), (q2, .inl (cI, 32000, .inl (nF (fun _ => 0)))), (q3, .inl (cI, 32000, .inl (nF (fun _ => 0)))), (q4, .inl (cI, 32000, .inl (nF (fun _ => 0)))), (q5, .inl (cI, 32000, .inl (fun _ => 0))), (q6, .inl (cI, 32000, .inl (fun _ => 0)))] := hD
  refine lv_aload_n hx hb d_S_init_67 rfl (lv_at hl 0 rfl) ?_
  refine lv_iconst (v := (-1)) hx hb d_S_init_68 (by decide) ?_
  refine pf_S_free S hK hP hD hS 0 rfl (Nat.le_of_ble_eq_true rfl) d_S_init_69 (fun H locs hP hD hS => ?_)
  have hP : va_P D classes [(h0, .inr (0, [.ref q1, .ref q2, .ref q3, .ref q4, .ref q5, .ref q6, .int (-1), .int (-1), .int (-1), .int 0, .int 0])), (q1, .inl (cB, 400000, .inl (fun _ => 0))), (q2, .inl (cI, 32000, .inl (nF (fun _ => 0)))), (q3, .inl (cI, 32000, .inl (nF (fun _ => 0)))), (q4, .inl (cI, 32000, .inl (nF (fun _ => 0)))), (q5, .inl (cI, 32000, .inl (fun _ => 0))), (q6, .inl (cI, 32000, .inl (fun _ => 0)))] H := hP
  have hD : va_D A [(h0, .inr (0, [.ref q1, .ref q2, .ref q3, .ref q4, .ref q5, .ref q6, .int (-1), .int (-1), .int (-1), .int 0, .int 0])), (q1, .inl (cB, 400000, .inl (fun _ => 0))), (q2, .inl (cI, 32000, .inl (nF (fun _ => 0)))), (q3, .inl (cI, 32000, .inl (nF (fun _ => 0)))), (q4, .inl (cI, 32000, .inl (nF (fun _ => 0)))), (q5, .inl (cI, 32000, .inl (fun _ => 0))), (q6, .inl (cI, 32000, .inl (fun _ => 0)))] := hD
  exact W.vret hx hb hr (fun t ht hW => ⟨⟨(fun k => match k with | 0 => h0 | 1 => q1 | 2 => q2 | 3 => q3 | 4 => q4 | 5 => q5 | _ => q6), rfl, rfl, by show va_P D classes (S00 cB cI (fun k => match k with | 0 => h0 | 1 => q1 | 2 => q2 | 3 => q3 | 4 => q4 | 5 => q5 | _ => q6)) t.heap; rw [ht]; exact hP, hD⟩, hS.F ht⟩) hS.2.2 d_S_init_72
abbrev M00 (cB cI : ClassId) (a : Nat → Nat) : va_W := wM cB cI a (fun _ => 0) (fun _ => 0) (fun _ => 0) (fun _ => 0) 0 0 0 0
set_option maxHeartbeats 4000000 in
set_option maxRecDepth 100000 in
theorem c_M_init (l : Launch) (D : va_G) (cB cI cZ : ClassId) (h0 sz : Nat) : Met l y_M_init w_M_init { frames := 1, cells := 4, slots := 460000, locals := 30 } (va_Pc [.ref h0] (fun U => U.heap.size = sz ∧ Wd D cB cI cZ [(h0, .inr (2, [.null, .int 0, .null, .null, .int 0, .null, .int 0, .int 0]))] U)) (va_Qv (fun a : Nat → Nat => a 0 = h0) (fun a t => va_P D classes (M00 cB cI a) t.heap ∧ va_D (va_A [(h0, .inr (2, [.null, .int 0, .null, .null, .int 0, .null, .int 0, .int 0]))] sz) (M00 cB cI a)) (va_A [(h0, .inr (2, [.null, .int 0, .null, .null, .int 0, .null, .int 0, .int 0]))] sz)) 4 460000 (va_A [(h0, .inr (2, [.null, .int 0, .null, .null, .int 0, .null, .int 0, .int 0]))] sz) := by
  refine entry (by decide) (Nat.le_of_ble_eq_true rfl) ?_
  intro p e s m args below meth c S hr hlocks hin hPre ls hl
  have hx := S.1
  have hb := S.2.1
  have hl : lv_has ls 1 [(0, .ref h0)] := hl
  have hin := hin rfl
  obtain ⟨rfl, ⟨hP, hK, hD0⟩⟩ := hPre
  have hD := hD0.self (sz := s.heap.size)
  generalize hAe : va_A [(h0, .inr (2, [.null, .int 0, .null, .null, .int 0, .null, .int 0, .int 0]))] s.heap.size = A at hD ⊢
  have hA : ∀ q : Nat, s.heap.size ≤ q → A q := fun q h => by rw [← hAe]; exact Or.inr h
  have hS : va_S A s.heap s.heap [] := va_S.rf
  have hml := S.2.2.1
  have hta := S.2.2.2.2
  refine lv_aload_n hx hb d_M_init_0 rfl (lv_at hl 0 rfl) ?_
  refine W.objInit hx hb S.2.2.2.1 (hta _ k_ml_M_1) (hta _ k_im_O_init) (hta _ k_co_O_init) rfl (by rw [hml]; exact hl.1) rfl d_M_init_1 (by decide) (Nat.le_of_ble_eq_true rfl) ?_
  refine W.eq (g2 := F0 m 4 ls []) rfl ?_
  refine lv_aload_n hx hb d_M_init_4 rfl (lv_at hl 0 rfl) ?_
  refine lv_ldc (v := 400000) hx hb S.2.2.2.1 (hta _ k_k_M_7) d_M_init_5 ?_
  refine va_newa (atype := .byte) (ty := .byte) (a0 := (400000, .inl (fun _ => 0))) (N' := 400000) hx hb (hta _ k_ac_byte) rfl hK hP hD hS hA (fun cA => rfl) (by decide) (by decide) (by decide) (by decide) (by decide) d_M_init_7 (fun q1 cA H hK1 hP hD hS => ?_)
  have ecA : cB = cA := Option.some.inj ((hK1.2 0 _ rfl).2.symm.trans (hK1.2 3 _ rfl).2)
  subst ecA
  have hP : va_P D classes [(h0, .inr (2, [.null, .int 0, .null, .null, .int 0, .null, .int 0, .int 0])), (q1, .inl (cB, 400000, .inl (fun _ => 0)))] H := hP
  have hD : va_D A [(h0, .inr (2, [.null, .int 0, .null, .null, .int 0, .null, .int 0, .int 0])), (q1, .inl (cB, 400000, .inl (fun _ => 0)))] := hD
  refine W.widen (k := 1) (n := 400000) (by decide) (by decide) ?_
  refine pf_M_bytes S hin hK hP hD hS 0 rfl (Nat.le_of_ble_eq_true rfl) d_M_init_9 (fun H locs hP hD hS => ?_)
  have hP : va_P D classes [(h0, .inr (2, [.ref q1, .int 0, .null, .null, .int 0, .null, .int 0, .int 0])), (q1, .inl (cB, 400000, .inl (fun _ => 0)))] H := hP
  have hD : va_D A [(h0, .inr (2, [.ref q1, .int 0, .null, .null, .int 0, .null, .int 0, .int 0])), (q1, .inl (cB, 400000, .inl (fun _ => 0)))] := hD
  refine lv_aload_n hx hb d_M_init_12 rfl (lv_at hl 0 rfl) ?_
  refine lv_sipush (v := nI 20000) hx hb d_M_init_13 (by decide) ?_
  refine va_newa (atype := .int) (ty := .int) (a0 := (20000, .inl (nF (fun _ => 0)))) (N' := 20000) hx hb (hta _ k_ac_int) rfl hK hP hD hS hA (fun cA => rfl) (by decide) (by decide) (by decide) (by decide) (by decide) d_M_init_16 (fun q2 cA H hK1 hP hD hS => ?_)
  have ecA : cI = cA := Option.some.inj ((hK1.2 1 _ rfl).2.symm.trans (hK1.2 3 _ rfl).2)
  subst ecA
  have hP : va_P D classes [(h0, .inr (2, [.ref q1, .int 0, .null, .null, .int 0, .null, .int 0, .int 0])), (q1, .inl (cB, 400000, .inl (fun _ => 0))), (q2, .inl (cI, 20000, .inl (nF (fun _ => 0))))] H := hP
  have hD : va_D A [(h0, .inr (2, [.ref q1, .int 0, .null, .null, .int 0, .null, .int 0, .int 0])), (q1, .inl (cB, 400000, .inl (fun _ => 0))), (q2, .inl (cI, 20000, .inl (nF (fun _ => 0))))] := hD
  refine W.widen (k := 2) (n := 420000) (by decide) (by decide) ?_
  refine pf_M_starts S hin hK hP hD hS 0 rfl (Nat.le_of_ble_eq_true rfl) d_M_init_18 (fun H locs hP hD hS => ?_)
  have hP : va_P D classes [(h0, .inr (2, [.ref q1, .int 0, .ref q2, .null, .int 0, .null, .int 0, .int 0])), (q1, .inl (cB, 400000, .inl (fun _ => 0))), (q2, .inl (cI, 20000, .inl (nF (fun _ => 0))))] H := hP
  have hD : va_D A [(h0, .inr (2, [.ref q1, .int 0, .ref q2, .null, .int 0, .null, .int 0, .int 0])), (q1, .inl (cB, 400000, .inl (fun _ => 0))), (q2, .inl (cI, 20000, .inl (nF (fun _ => 0))))] := hD
  refine lv_aload_n hx hb d_M_init_21 rfl (lv_at hl 0 rfl) ?_
  refine lv_sipush (v := nI 20000) hx hb d_M_init_22 (by decide) ?_
  refine va_newa (atype := .int) (ty := .int) (a0 := (20000, .inl (fun _ => 0))) (N' := 20000) hx hb (hta _ k_ac_int) rfl hK hP hD hS hA (fun cA => rfl) (by decide) (by decide) (by decide) (by decide) (by decide) d_M_init_25 (fun q3 cA H hK1 hP hD hS => ?_)
  have ecA : cI = cA := Option.some.inj ((hK1.2 1 _ rfl).2.symm.trans (hK1.2 3 _ rfl).2)
  subst ecA
  have hP : va_P D classes [(h0, .inr (2, [.ref q1, .int 0, .ref q2, .null, .int 0, .null, .int 0, .int 0])), (q1, .inl (cB, 400000, .inl (fun _ => 0))), (q2, .inl (cI, 20000, .inl (nF (fun _ => 0)))), (q3, .inl (cI, 20000, .inl (fun _ => 0)))] H := hP
  have hD : va_D A [(h0, .inr (2, [.ref q1, .int 0, .ref q2, .null, .int 0, .null, .int 0, .int 0])), (q1, .inl (cB, 400000, .inl (fun _ => 0))), (q2, .inl (cI, 20000, .inl (nF (fun _ => 0)))), (q3, .inl (cI, 20000, .inl (fun _ => 0)))] := hD
  refine W.widen (k := 3) (n := 440000) (by decide) (by decide) ?_
  refine pf_M_sizes S hin hK hP hD hS 0 rfl (Nat.le_of_ble_eq_true rfl) d_M_init_27 (fun H locs hP hD hS => ?_)
  have hP : va_P D classes [(h0, .inr (2, [.ref q1, .int 0, .ref q2, .ref q3, .int 0, .null, .int 0, .int 0])), (q1, .inl (cB, 400000, .inl (fun _ => 0))), (q2, .inl (cI, 20000, .inl (nF (fun _ => 0)))), (q3, .inl (cI, 20000, .inl (fun _ => 0)))] H := hP
  have hD : va_D A [(h0, .inr (2, [.ref q1, .int 0, .ref q2, .ref q3, .int 0, .null, .int 0, .int 0])), (q1, .inl (cB, 400000, .inl (fun _ => 0))), (q2, .inl (cI, 20000, .inl (nF (fun _ => 0)))), (q3, .inl (cI, 20000, .inl (fun _ => 0)))] := hD
  refine lv_aload_n hx hb d_M_init_30 rfl (lv_at hl 0 rfl) ?_
  refine lv_sipush (v := nI 20000) hx hb d_M_init_31 (by decide) ?_
  refine va_newa (atype := .int) (ty := .int) (a0 := (20000, .inl (fun _ => 0))) (N' := 20000) hx hb (hta _ k_ac_int) rfl hK hP hD hS hA (fun cA => rfl) (by decide) (by decide) (by decide) (by decide) (by decide) d_M_init_34 (fun q4 cA H hK1 hP hD hS => ?_)
  have ecA : cI = cA := Option.some.inj ((hK1.2 1 _ rfl).2.symm.trans (hK1.2 3 _ rfl).2)
  subst ecA
  have hP : va_P D classes [(h0, .inr (2, [.ref q1, .int 0, .ref q2, .ref q3, .int 0, .null, .int 0, .int 0])), (q1, .inl (cB, 400000, .inl (fun _ => 0))), (q2, .inl (cI, 20000, .inl (nF (fun _ => 0)))), (q3, .inl (cI, 20000, .inl (fun _ => 0))), (q4, .inl (cI, 20000, .inl (fun _ => 0)))] H := hP
  have hD : va_D A [(h0, .inr (2, [.ref q1, .int 0, .ref q2, .ref q3, .int 0, .null, .int 0, .int 0])), (q1, .inl (cB, 400000, .inl (fun _ => 0))), (q2, .inl (cI, 20000, .inl (nF (fun _ => 0)))), (q3, .inl (cI, 20000, .inl (fun _ => 0))), (q4, .inl (cI, 20000, .inl (fun _ => 0)))] := hD
  refine W.widen (k := 4) (n := 460000) (by decide) (by decide) ?_
  refine pf_M_backs S hin hK hP hD hS 0 rfl (Nat.le_of_ble_eq_true rfl) d_M_init_36 (fun H locs hP hD hS => ?_)
  have hP : va_P D classes [(h0, .inr (2, [.ref q1, .int 0, .ref q2, .ref q3, .int 0, .ref q4, .int 0, .int 0])), (q1, .inl (cB, 400000, .inl (fun _ => 0))), (q2, .inl (cI, 20000, .inl (nF (fun _ => 0)))), (q3, .inl (cI, 20000, .inl (fun _ => 0))), (q4, .inl (cI, 20000, .inl (fun _ => 0)))] H := hP
  have hD : va_D A [(h0, .inr (2, [.ref q1, .int 0, .ref q2, .ref q3, .int 0, .ref q4, .int 0, .int 0])), (q1, .inl (cB, 400000, .inl (fun _ => 0))), (q2, .inl (cI, 20000, .inl (nF (fun _ => 0)))), (q3, .inl (cI, 20000, .inl (fun _ => 0))), (q4, .inl (cI, 20000, .inl (fun _ => 0)))] := hD
  exact W.vret hx hb hr (fun t ht hW => ⟨⟨(fun k => match k with | 0 => h0 | 1 => q1 | 2 => q2 | 3 => q3 | _ => q4), rfl, rfl, by show va_P D classes (M00 cB cI (fun k => match k with | 0 => h0 | 1 => q1 | 2 => q2 | 3 => q3 | _ => q4)) t.heap; rw [ht]; exact hP, hD⟩, hS.F ht⟩) hS.2.2 d_M_init_39
end
section
abbrev A00 (cB cI cZ : ClassId) (a : Nat → Nat) : va_W := wA cB cI cZ a (fun _ => 0) (fun _ => 0) (fun _ => 0) (fun _ => 0) (fun _ => 0) (fun _ => 0) (-1) (-1) (-1) 0 0 (fun _ => 0) (fun _ => 0) 0 0
set_option maxHeartbeats 4000000 in
set_option maxRecDepth 100000 in
theorem c_A_init (l : Launch) (D : va_G) (cB cI cZ : ClassId) (h0 sz : Nat) : Met l y_A_init w_A_init { frames := 2, cells := 9, slots := 596395, locals := 60 } (va_Pc [.ref h0] (fun U => U.heap.size = sz ∧ Wd D cB cI cZ [(h0, .inr (1, [.null, .null, .null, .int 0, .int 0]))] U ∧ va_Nw (.methodLinkNest R_A 9 y_S_init R_A) U)) (va_Qv (fun a : Nat → Nat => a 0 = h0) (fun a t => va_P D classes (A00 cB cI cZ a) t.heap ∧ va_D (va_A [(h0, .inr (1, [.null, .null, .null, .int 0, .int 0]))] sz) (A00 cB cI cZ a)) (va_A [(h0, .inr (1, [.null, .null, .null, .int 0, .int 0]))] sz)) 9 596395 (va_A [(h0, .inr (1, [.null, .null, .null, .int 0, .int 0]))] sz) := by
  refine entry (by decide) (Nat.le_of_ble_eq_true rfl) ?_
  intro p e s m args below meth c S hr hlocks hin hPre ls hl
  have hx := S.1
  have hb := S.2.1
  have hl : lv_has ls 1 [(0, .ref h0)] := hl
  have hin := hin rfl
  obtain ⟨rfl, ⟨hP, hK, hD0⟩, hNw⟩ := hPre
  have hD := hD0.self (sz := s.heap.size)
  generalize hAe : va_A [(h0, .inr (1, [.null, .null, .null, .int 0, .int 0]))] s.heap.size = A at hD ⊢
  have hA : ∀ q : Nat, s.heap.size ≤ q → A q := fun q h => by rw [← hAe]; exact Or.inr h
  have hS : va_S A s.heap s.heap [] := va_S.rf
  have hml := S.2.2.1
  have hta := S.2.2.2.2
  refine lv_aload_n hx hb d_A_init_0 rfl (lv_at hl 0 rfl) ?_
  refine W.objInit hx hb S.2.2.2.1 (hta _ k_ml_A_1) (hta _ k_im_O_init) (hta _ k_co_O_init) rfl (by rw [hml]; exact hl.1) rfl d_A_init_1 (by decide) (Nat.le_of_ble_eq_true rfl) ?_
  refine W.eq (g2 := F0 m 4 ls []) rfl ?_
  refine lv_aload_n hx hb d_A_init_4 rfl (lv_at hl 0 rfl) ?_
  refine va_new (ci := 0) (fs := [.null, .null, .null, .null, .null, .null, .int 0, .int 0, .int 0, .int 0, .int 0]) (C := R_S) (T := F_S) (N := 11) hx hb hta i_S t_S t_S_ok S.2.2.2.1 (hta _ k_cl_A_7) (hta _ k_in_S) (hta _ k_ini_S) hK hP hD hS hA rfl (fun j hj => by rcases (show j = 0 ∨ j = 1 ∨ j = 2 ∨ j = 3 ∨ j = 4 ∨ j = 5 ∨ j = 6 ∨ j = 7 ∨ j = 8 ∨ j = 9 ∨ j = 10 by omega) with rfl | rfl | rfl | rfl | rfl | rfl | rfl | rfl | rfl | rfl | rfl <;> rfl) (by decide) (by decide) d_A_init_5 (fun q1 H hP hD hS => ?_)
  have hP : va_P D classes [(h0, .inr (1, [.null, .null, .null, .int 0, .int 0])), (q1, .inr (0, [.null, .null, .null, .null, .null, .null, .int 0, .int 0, .int 0, .int 0, .int 0]))] H := hP
  have hD : va_D A [(h0, .inr (1, [.null, .null, .null, .int 0, .int 0])), (q1, .inr (0, [.null, .null, .null, .null, .null, .null, .int 0, .int 0, .int 0, .int 0, .int 0]))] := hD
  refine W.widen (k := 1) (n := 11) (by decide) (by decide) ?_
  refine lv_dup hx hb d_A_init_8 rfl ?_
  have hPc := hP.sub (ws' := [(q1, .inr (0, [.null, .null, .null, .null, .null, .null, .int 0, .int 0, .int 0, .int 0, .int 0]))]) [1] rfl
  have hDc := hD.sub (ws' := [(q1, .inr (0, [.null, .null, .null, .null, .null, .null, .int 0, .int 0, .int 0, .int 0, .int 0]))]) [1] (by decide) rfl
  have hFc := va_free (wc := [(q1, .inr (0, [.null, .null, .null, .null, .null, .null, .int 0, .int 0, .int 0, .int 0, .int 0]))]) hD hS hA [1] rfl
  refine va_callv (va_runIN (As := []) (rest := [.ref q1, .ref h0]) S (c_S_init l D cB cI cZ q1 H.size) ⟨va_cnB 0 hta (gI k_co_S_init) rfl rfl rfl hNw (hta _ k_ini_S) (by decide +kernel) ⟨by decide, by decide⟩, rfl, hta _ k_im_S_init⟩ ⟨fun a U g mk q => ⟨q.1, q.2.1, q.2.2.1, va_K.moved (u := U) (U := U.calling g mk a) (Vm.Alike.refl U.vm) q.2.2.2.1, q.2.2.2.2⟩, fun U hU hW => ⟨rfl, by rw [hU], by rw [hU]; exact hPc, va_K.moved hW.alike hK, hDc.weaken (fun _ _ _ _ => trivial)⟩⟩ rfl rfl hl.1 rfl (lv_room (Nat.le_of_ble_eq_true rfl)) d_A_init_9 ⟨by decide, by decide⟩) hS (fun q _ h => hFc q h) hFc (fun a1 t H1 locs ht hvm hw hB hz1 hk1 hS => ?_)
  obtain ⟨hP1, hD1⟩ := hB
  rw [ht] at hP1
  obtain ⟨hPj, hDj⟩ := va_join (wr := [(h0, .inr (1, [.null, .null, .null, .int 0, .int 0]))]) (w1 := S00 cB cI a1) hP hD [1] [0] rfl rfl (by decide) (by decide) hk1 hFc hP1 hD1
  generalize H1 = H at hPj hS ⊢
  subst hw
  have hP := hPj
  have hD := hDj
  have hP : va_P D classes [(h0, .inr (1, [.null, .null, .null, .int 0, .int 0])), (a1 0, .inr (0, [.ref (a1 1), .ref (a1 2), .ref (a1 3), .ref (a1 4), .ref (a1 5), .ref (a1 6), .int (-1), .int (-1), .int (-1), .int (nI 0), .int (nI 0)])), (a1 1, .inl (cB, 400000, .inl (fun _ => 0))), (a1 2, .inl (cI, 32000, .inl (nF (fun _ => 0)))), (a1 3, .inl (cI, 32000, .inl (nF (fun _ => 0)))), (a1 4, .inl (cI, 32000, .inl (nF (fun _ => 0)))), (a1 5, .inl (cI, 32000, .inl (fun _ => 0))), (a1 6, .inl (cI, 32000, .inl (fun _ => 0)))] H := hP
  have hD : va_D A [(h0, .inr (1, [.null, .null, .null, .int 0, .int 0])), (a1 0, .inr (0, [.ref (a1 1), .ref (a1 2), .ref (a1 3), .ref (a1 4), .ref (a1 5), .ref (a1 6), .int (-1), .int (-1), .int (-1), .int (nI 0), .int (nI 0)])), (a1 1, .inl (cB, 400000, .inl (fun _ => 0))), (a1 2, .inl (cI, 32000, .inl (nF (fun _ => 0)))), (a1 3, .inl (cI, 32000, .inl (nF (fun _ => 0)))), (a1 4, .inl (cI, 32000, .inl (nF (fun _ => 0)))), (a1 5, .inl (cI, 32000, .inl (fun _ => 0))), (a1 6, .inl (cI, 32000, .inl (fun _ => 0)))] := hD
  refine W.widen (k := 7) (n := 560011) (by decide) (by decide) ?_
  refine pf_A_shelf S hin hK hP hD hS 0 rfl (Nat.le_of_ble_eq_true rfl) d_A_init_12 (fun H locs hP hD hS => ?_)
  have hP : va_P D classes [(h0, .inr (1, [.ref (a1 0), .null, .null, .int 0, .int 0])), (a1 0, .inr (0, [.ref (a1 1), .ref (a1 2), .ref (a1 3), .ref (a1 4), .ref (a1 5), .ref (a1 6), .int (-1), .int (-1), .int (-1), .int (nI 0), .int (nI 0)])), (a1 1, .inl (cB, 400000, .inl (fun _ => 0))), (a1 2, .inl (cI, 32000, .inl (nF (fun _ => 0)))), (a1 3, .inl (cI, 32000, .inl (nF (fun _ => 0)))), (a1 4, .inl (cI, 32000, .inl (nF (fun _ => 0)))), (a1 5, .inl (cI, 32000, .inl (fun _ => 0))), (a1 6, .inl (cI, 32000, .inl (fun _ => 0)))] H := hP
  have hD : va_D A [(h0, .inr (1, [.ref (a1 0), .null, .null, .int 0, .int 0])), (a1 0, .inr (0, [.ref (a1 1), .ref (a1 2), .ref (a1 3), .ref (a1 4), .ref (a1 5), .ref (a1 6), .int (-1), .int (-1), .int (-1), .int (nI 0), .int (nI 0)])), (a1 1, .inl (cB, 400000, .inl (fun _ => 0))), (a1 2, .inl (cI, 32000, .inl (nF (fun _ => 0)))), (a1 3, .inl (cI, 32000, .inl (nF (fun _ => 0)))), (a1 4, .inl (cI, 32000, .inl (nF (fun _ => 0)))), (a1 5, .inl (cI, 32000, .inl (fun _ => 0))), (a1 6, .inl (cI, 32000, .inl (fun _ => 0)))] := hD
  refine lv_aload_n hx hb d_A_init_15 rfl (lv_at hl 0 rfl) ?_
  refine lv_sipush (v := nI 20000) hx hb d_A_init_16 (by decide) ?_
  refine va_newa (atype := .boolean) (ty := .boolean) (a0 := (20000, .inl (fun _ => 0))) (N' := 20000) hx hb (hta _ k_ac_boolean) rfl hK hP hD hS hA (fun cA => rfl) (by decide) (by decide) (by decide) (by decide) (by decide) d_A_init_19 (fun q8 cA H hK1 hP hD hS => ?_)
  have ecA : cZ = cA := Option.some.inj ((hK1.2 2 _ rfl).2.symm.trans (hK1.2 3 _ rfl).2)
  subst ecA
  have hP : va_P D classes [(h0, .inr (1, [.ref (a1 0), .null, .null, .int 0, .int 0])), (a1 0, .inr (0, [.ref (a1 1), .ref (a1 2), .ref (a1 3), .ref (a1 4), .ref (a1 5), .ref (a1 6), .int (-1), .int (-1), .int (-1), .int (nI 0), .int (nI 0)])), (a1 1, .inl (cB, 400000, .inl (fun _ => 0))), (a1 2, .inl (cI, 32000, .inl (nF (fun _ => 0)))), (a1 3, .inl (cI, 32000, .inl (nF (fun _ => 0)))), (a1 4, .inl (cI, 32000, .inl (nF (fun _ => 0)))), (a1 5, .inl (cI, 32000, .inl (fun _ => 0))), (a1 6, .inl (cI, 32000, .inl (fun _ => 0))), (q8, .inl (cZ, 20000, .inl (fun _ => 0)))] H := hP
  have hD : va_D A [(h0, .inr (1, [.ref (a1 0), .null, .null, .int 0, .int 0])), (a1 0, .inr (0, [.ref (a1 1), .ref (a1 2), .ref (a1 3), .ref (a1 4), .ref (a1 5), .ref (a1 6), .int (-1), .int (-1), .int (-1), .int (nI 0), .int (nI 0)])), (a1 1, .inl (cB, 400000, .inl (fun _ => 0))), (a1 2, .inl (cI, 32000, .inl (nF (fun _ => 0)))), (a1 3, .inl (cI, 32000, .inl (nF (fun _ => 0)))), (a1 4, .inl (cI, 32000, .inl (nF (fun _ => 0)))), (a1 5, .inl (cI, 32000, .inl (fun _ => 0))), (a1 6, .inl (cI, 32000, .inl (fun _ => 0))), (q8, .inl (cZ, 20000, .inl (fun _ => 0)))] := hD
  refine W.widen (k := 8) (n := 580011) (by decide) (by decide) ?_
  refine pf_A_there S hin hK hP hD hS 0 rfl (Nat.le_of_ble_eq_true rfl) d_A_init_21 (fun H locs hP hD hS => ?_)
  have hP : va_P D classes [(h0, .inr (1, [.ref (a1 0), .ref q8, .null, .int 0, .int 0])), (a1 0, .inr (0, [.ref (a1 1), .ref (a1 2), .ref (a1 3), .ref (a1 4), .ref (a1 5), .ref (a1 6), .int (-1), .int (-1), .int (-1), .int (nI 0), .int (nI 0)])), (a1 1, .inl (cB, 400000, .inl (fun _ => 0))), (a1 2, .inl (cI, 32000, .inl (nF (fun _ => 0)))), (a1 3, .inl (cI, 32000, .inl (nF (fun _ => 0)))), (a1 4, .inl (cI, 32000, .inl (nF (fun _ => 0)))), (a1 5, .inl (cI, 32000, .inl (fun _ => 0))), (a1 6, .inl (cI, 32000, .inl (fun _ => 0))), (q8, .inl (cZ, 20000, .inl (fun _ => 0)))] H := hP
  have hD : va_D A [(h0, .inr (1, [.ref (a1 0), .ref q8, .null, .int 0, .int 0])), (a1 0, .inr (0, [.ref (a1 1), .ref (a1 2), .ref (a1 3), .ref (a1 4), .ref (a1 5), .ref (a1 6), .int (-1), .int (-1), .int (-1), .int (nI 0), .int (nI 0)])), (a1 1, .inl (cB, 400000, .inl (fun _ => 0))), (a1 2, .inl (cI, 32000, .inl (nF (fun _ => 0)))), (a1 3, .inl (cI, 32000, .inl (nF (fun _ => 0)))), (a1 4, .inl (cI, 32000, .inl (nF (fun _ => 0)))), (a1 5, .inl (cI, 32000, .inl (fun _ => 0))), (a1 6, .inl (cI, 32000, .inl (fun _ => 0))), (q8, .inl (cZ, 20000, .inl (fun _ => 0)))] := hD
  refine lv_aload_n hx hb d_A_init_24 rfl (lv_at hl 0 rfl) ?_
  refine lv_sipush (v := nI 16384) hx hb d_A_init_25 (by decide) ?_
  refine va_newa (atype := .byte) (ty := .byte) (a0 := (16384, .inl (fun _ => 0))) (N' := 16384) hx hb (hta _ k_ac_byte) rfl hK hP hD hS hA (fun cA => rfl) (by decide) (by decide) (by decide) (by decide) (by decide) d_A_init_28 (fun q9 cA H hK1 hP hD hS => ?_)
  have ecA : cB = cA := Option.some.inj ((hK1.2 0 _ rfl).2.symm.trans (hK1.2 3 _ rfl).2)
  subst ecA
  have hP : va_P D classes [(h0, .inr (1, [.ref (a1 0), .ref q8, .null, .int 0, .int 0])), (a1 0, .inr (0, [.ref (a1 1), .ref (a1 2), .ref (a1 3), .ref (a1 4), .ref (a1 5), .ref (a1 6), .int (-1), .int (-1), .int (-1), .int (nI 0), .int (nI 0)])), (a1 1, .inl (cB, 400000, .inl (fun _ => 0))), (a1 2, .inl (cI, 32000, .inl (nF (fun _ => 0)))), (a1 3, .inl (cI, 32000, .inl (nF (fun _ => 0)))), (a1 4, .inl (cI, 32000, .inl (nF (fun _ => 0)))), (a1 5, .inl (cI, 32000, .inl (fun _ => 0))), (a1 6, .inl (cI, 32000, .inl (fun _ => 0))), (q8, .inl (cZ, 20000, .inl (fun _ => 0))), (q9, .inl (cB, 16384, .inl (fun _ => 0)))] H := hP
  have hD : va_D A [(h0, .inr (1, [.ref (a1 0), .ref q8, .null, .int 0, .int 0])), (a1 0, .inr (0, [.ref (a1 1), .ref (a1 2), .ref (a1 3), .ref (a1 4), .ref (a1 5), .ref (a1 6), .int (-1), .int (-1), .int (-1), .int (nI 0), .int (nI 0)])), (a1 1, .inl (cB, 400000, .inl (fun _ => 0))), (a1 2, .inl (cI, 32000, .inl (nF (fun _ => 0)))), (a1 3, .inl (cI, 32000, .inl (nF (fun _ => 0)))), (a1 4, .inl (cI, 32000, .inl (nF (fun _ => 0)))), (a1 5, .inl (cI, 32000, .inl (fun _ => 0))), (a1 6, .inl (cI, 32000, .inl (fun _ => 0))), (q8, .inl (cZ, 20000, .inl (fun _ => 0))), (q9, .inl (cB, 16384, .inl (fun _ => 0)))] := hD
  refine W.widen (k := 9) (n := 596395) (by decide) (by decide) ?_
  refine pf_A_hand S hin hK hP hD hS 0 rfl (Nat.le_of_ble_eq_true rfl) d_A_init_30 (fun H locs hP hD hS => ?_)
  have hP : va_P D classes [(h0, .inr (1, [.ref (a1 0), .ref q8, .ref q9, .int 0, .int 0])), (a1 0, .inr (0, [.ref (a1 1), .ref (a1 2), .ref (a1 3), .ref (a1 4), .ref (a1 5), .ref (a1 6), .int (-1), .int (-1), .int (-1), .int (nI 0), .int (nI 0)])), (a1 1, .inl (cB, 400000, .inl (fun _ => 0))), (a1 2, .inl (cI, 32000, .inl (nF (fun _ => 0)))), (a1 3, .inl (cI, 32000, .inl (nF (fun _ => 0)))), (a1 4, .inl (cI, 32000, .inl (nF (fun _ => 0)))), (a1 5, .inl (cI, 32000, .inl (fun _ => 0))), (a1 6, .inl (cI, 32000, .inl (fun _ => 0))), (q8, .inl (cZ, 20000, .inl (fun _ => 0))), (q9, .inl (cB, 16384, .inl (fun _ => 0)))] H := hP
  have hD : va_D A [(h0, .inr (1, [.ref (a1 0), .ref q8, .ref q9, .int 0, .int 0])), (a1 0, .inr (0, [.ref (a1 1), .ref (a1 2), .ref (a1 3), .ref (a1 4), .ref (a1 5), .ref (a1 6), .int (-1), .int (-1), .int (-1), .int (nI 0), .int (nI 0)])), (a1 1, .inl (cB, 400000, .inl (fun _ => 0))), (a1 2, .inl (cI, 32000, .inl (nF (fun _ => 0)))), (a1 3, .inl (cI, 32000, .inl (nF (fun _ => 0)))), (a1 4, .inl (cI, 32000, .inl (nF (fun _ => 0)))), (a1 5, .inl (cI, 32000, .inl (fun _ => 0))), (a1 6, .inl (cI, 32000, .inl (fun _ => 0))), (q8, .inl (cZ, 20000, .inl (fun _ => 0))), (q9, .inl (cB, 16384, .inl (fun _ => 0)))] := hD
  exact W.vret hx hb hr (fun t ht hW => ⟨⟨(fun k => match k with | 0 => h0 | 1 => a1 0 | 2 => a1 1 | 3 => a1 2 | 4 => a1 3 | 5 => a1 4 | 6 => a1 5 | 7 => a1 6 | 8 => q8 | _ => q9), rfl, rfl, by show va_P D classes (A00 cB cI cZ (fun k => match k with | 0 => h0 | 1 => a1 0 | 2 => a1 1 | 3 => a1 2 | 4 => a1 3 | 5 => a1 4 | 6 => a1 5 | 7 => a1 6 | 8 => q8 | _ => q9)) t.heap; rw [ht]; exact hP, hD⟩, hS.F ht⟩) hS.2.2 d_A_init_33
end
section
/-! Pure: every call keeps Ok; the start -/
theorem rnd_up (M : Nat → Nat) (h z : Nat) : (fun k => rnd (va_up M h z k)) = va_up (fun k => rnd (M k)) h (rnd z) := by
  funext k
  unfold va_up
  by_cases c : k = h <;> simp [c]
theorem cnt_up (th : Nat → Bool) (h : Nat) (b : Bool) : (fun k => if va_up th h b k = true then 1 else 0) = va_up (fun k => if th k = true then 1 else 0) h (if b = true then 1 else 0) := by
  funext k
  unfold va_up
  by_cases c : k = h <;> simp [c]
theorem sm_upn (f : Nat → Nat) (n v : Nat) : sm (va_up f n v) n = sm f n := sm_congr (f := f) n (fun k hk => va_up_ne f v (Nat.ne_of_lt hk))
theorem sizeN_le {p : Int32} {z : Nat} (h : sizeN p = some z) : z ≤ 16384 := by
  obtain ⟨w, h1, -, h3⟩ := sizeN_some (p := p) (by rw [h]; rfl)
  rw [h] at h3
  cases h3
  exact h1
theorem rowN_th {th : Nat → Bool} {p : Int32} {k : Nat} (h : rowN th p = some k) : th k = true := by
  obtain ⟨w, -, -, h2, h3⟩ := rowN_some (th := th) (p := p) (by rw [h]; rfl)
  rw [h] at h3
  cases h3
  exact h2
theorem Ok_tk {x : Ab} {p : Int32} (hO : Ok x) (hnd : x.2.1.Nodup) : Ok (tkS x p) := by
  cases hs : sizeN p with
  | none => rw [(tkR_none hs).2]; exact hO
  | some z =>
    by_cases hf : x.1 - x.2.1.length = 20000 ∨ 400000 < x.2.2.2.2.2 + rnd z
    · rw [(tkR_full hs hf).2]; exact hO
    · have h20 : ¬ x.1 - x.2.1.length = 20000 := fun q => hf (Or.inl q)
      have hq : x.2.2.2.2.2 + rnd z ≤ 400000 := Nat.le_of_not_lt (fun q => hf (Or.inr q))
      rw [(tkR_ok hs h20 hq).2]
      have hz := sizeN_le hs
      obtain ⟨t1, t2, t3, t4, t5, t6⟩ := tkH_lt hO h20
      obtain ⟨n, bk, th, M, ct, pl⟩ := x
      obtain ⟨h1, h2, h3, h4, h5, h6, h7, h8⟩ := hO
      dsimp only at *
      have hM0 : M (tkH bk n) = 0 := h5 _ t4
      have hle : n ≤ tkN bk n := by cases bk with | nil => exact Nat.le_succ n | cons y t => exact Nat.le_refl n
      refine ⟨t3, fun k hk => ?_, fun k hk => ?_, fun k => ?_, fun k hk => ?_, ?_, hq, ?_⟩
      · have hk : k ∈ bk.tail := hk
        show k < tkN bk n ∧ va_up th (tkH bk n) true k = false
        cases bk with
        | nil => cases hk
        | cons y t =>
          have hk : k ∈ t := hk
          have hne : k ≠ y := fun e => (List.nodup_cons.mp hnd).1 (e ▸ hk)
          have := h2 k (List.mem_cons_of_mem _ hk)
          exact ⟨this.1, by show va_up th y true k = false; rw [va_up_ne _ _ hne]; exact this.2⟩
      · have hk : va_up th (tkH bk n) true k = true := hk
        show k < tkN bk n
        by_cases c : k = tkH bk n
        · rw [c]; exact t2
        · rw [va_up_ne _ _ c] at hk
          have := h3 k hk
          omega
      · show va_up M (tkH bk n) z k ≤ 16384
        by_cases c : k = tkH bk n
        · rw [c, va_up_self]; exact hz
        · rw [va_up_ne _ _ c]; exact h4 k
      · have hk : va_up th (tkH bk n) true k = false := hk
        show va_up M (tkH bk n) z k = 0
        by_cases c : k = tkH bk n
        · rw [c, va_up_self] at hk; cases hk
        · rw [va_up_ne _ _ c] at hk ⊢; exact h5 k hk
      · show pl + rnd z = sm (fun k => rnd (va_up M (tkH bk n) z k)) (tkN bk n)
        rw [rnd_up]
        cases bk with
        | nil =>
          show pl + rnd z = sm (va_up (fun k => rnd (M k)) n (rnd z)) n + va_up (fun k => rnd (M k)) n (rnd z) n
          rw [va_up_self, sm_upn, ← h6]
        | cons y t =>
          have e := sm_up (f := fun k => rnd (M k)) y (rnd z) n (h2 y List.mem_cons_self).1
          have hM1 : rnd (M y) = 0 := by rw [show M y = 0 from hM0]; rfl
          show pl + rnd z = sm (va_up (fun k => rnd (M k)) y (rnd z)) n
          omega
      · show sm (fun k => if va_up th (tkH bk n) true k = true then 1 else 0) (tkN bk n) + bk.tail.length = tkN bk n
        rw [cnt_up]
        cases bk with
        | nil =>
          show sm (va_up (fun k => if th k = true then 1 else 0) n 1) n + va_up (fun k => if th k = true then 1 else 0) n 1 n + 0 = n + 1
          rw [va_up_self, sm_upn]
          have h8 : sm (fun k => if th k = true then 1 else 0) n + 0 = n := h8
          omega
        | cons y t =>
          have e := sm_up (f := fun k => if th k = true then 1 else 0) y 1 n (h2 y List.mem_cons_self).1
          rw [show (if th y = true then 1 else 0) = 0 by rw [(h2 y List.mem_cons_self).2]; rfl] at e
          have h8 : sm (fun k => if th k = true then 1 else 0) n + (t.length + 1) = n := h8
          show sm (va_up (fun k => if th k = true then 1 else 0) y 1) n + t.length = n
          omega
theorem Ok_gv {x : Ab} {p : Int32} (hO : Ok x) : Ok (gvS x p) := by
  cases hs : rowN x.2.2.1 p with
  | none => rw [(gvR_none hs).2]; exact hO
  | some h =>
    rw [(gvR_ok hs).2]
    have ht := rowN_th hs
    have hr := Ok_row hO ht
    obtain ⟨n, bk, th, M, ct, pl⟩ := x
    obtain ⟨h1, h2, h3, h4, h5, h6, h7, h8⟩ := hO
    dsimp only at *
    refine ⟨h1, fun k hk => ?_, fun k hk => ?_, fun k => ?_, fun k hk => ?_, ?_, ?_, ?_⟩
    · have hk : k ∈ h :: bk := hk
      show k < n ∧ va_up th h false k = false
      by_cases c : k = h
      · rw [c, va_up_self]; exact ⟨hr.1, rfl⟩
      · rw [va_up_ne _ _ c]
        rcases List.mem_cons.mp hk with e | e
        · exact absurd e c
        · exact h2 k e
    · have hk : va_up th h false k = true := hk
      show k < n
      by_cases c : k = h
      · rw [c]; exact hr.1
      · rw [va_up_ne _ _ c] at hk; exact h3 k hk
    · show va_up M h 0 k ≤ 16384
      by_cases c : k = h
      · rw [c, va_up_self]; omega
      · rw [va_up_ne _ _ c]; exact h4 k
    · have hk : va_up th h false k = false := hk
      show va_up M h 0 k = 0
      by_cases c : k = h
      · rw [c, va_up_self]
      · rw [va_up_ne _ _ c] at hk ⊢; exact h5 k hk
    · show pl - rnd (M h) = sm (fun k => rnd (va_up M h 0 k)) n
      rw [rnd_up, rnd_0]
      have e := sm_up (f := fun k => rnd (M k)) h 0 n hr.1
      omega
    · show pl - rnd (M h) ≤ 400000
      omega
    · show sm (fun k => if va_up th h false k = true then 1 else 0) n + (bk.length + 1) = n
      rw [cnt_up]
      have e := sm_up (f := fun k => if th k = true then 1 else 0) h 0 n hr.1
      rw [show (if th h = true then 1 else 0) = 1 by rw [ht]; rfl] at e
      show sm (va_up (fun k => if th k = true then 1 else 0) h 0) n + (bk.length + 1) = n
      omega
theorem Ok_rsT {x : Ab} {h z : Nat} (hO : Ok x) (ht : x.2.2.1 h = true) (hz : z ≤ 16384) (hf : rsF x h z = false) : Ok (rsT x h z) := by
  have hr := Ok_row hO ht
  have hn := rsF_no hf
  obtain ⟨n, bk, th, M, ct, pl⟩ := x
  obtain ⟨h1, h2, h3, h4, h5, h6, h7, h8⟩ := hO
  dsimp only at *
  have e := sm_up (f := fun k => rnd (M k)) h (rnd z) n hr.1
  refine ⟨h1, h2, h3, fun k => ?_, fun k hk => ?_, ?_, ?_, h8⟩
  · show va_up M h z k ≤ 16384
    by_cases c : k = h
    · rw [c, va_up_self]; exact hz
    · rw [va_up_ne _ _ c]; exact h4 k
  · show va_up M h z k = 0
    have hk : th k = false := hk
    by_cases c : k = h
    · rw [c, ht] at hk; cases hk
    · rw [va_up_ne _ _ c]; exact h5 k hk
  · show pl + rnd z - rnd (M h) = sm (fun k => rnd (va_up M h z k)) n
    rw [rnd_up]
    omega
  · show pl + rnd z - rnd (M h) ≤ 400000
    omega
theorem Ok_rs {x : Ab} {p q : Int32} (hO : Ok x) : Ok (rsS x p q) := by
  cases hp : rowN x.2.2.1 p with
  | none => rw [(rsR_none (Or.inl hp)).2]; exact hO
  | some h =>
    cases hq : sizeN q with
    | none => rw [(rsR_none (Or.inr hq)).2]; exact hO
    | some z =>
      cases hf : rsF x h z with
      | true => rw [(rsR_full hp hq hf).2]; exact hO
      | false => rw [(rsR_ok hp hq hf).2]; exact Ok_rsT hO (rowN_th hp) (sizeN_le hq) hf
theorem Ok_co {x : Ab} {p q : Int32} (hO : Ok x) : Ok (coS x p q) := by
  cases hp : rowN x.2.2.1 p with
  | none => rw [(coR_none (Or.inl hp)).2]; exact hO
  | some h =>
    cases hq : rowN x.2.2.1 q with
    | none => rw [(coR_none (Or.inr hq)).2]; exact hO
    | some o =>
      cases hf : rsF x h (x.2.2.2.1 o) with
      | true => rw [(coR_full hp hq hf).2]; exact hO
      | false => rw [(coR_ok hp hq hf).2]; exact Ok_rsT hO (rowN_th hp) (hO.2.2.2.1 o) hf
theorem Ok_pt {x : Ab} {p i b : Int32} (hO : Ok x) : Ok (ptS x p i b) := by
  unfold ptS
  cases hp : rowN x.2.2.1 p with
  | none => exact hO
  | some h =>
    show Ok (if inR x h i = true then _ else x)
    by_cases c : inR x h i = true
    · rw [if_pos c]; exact hO
    · rw [if_neg c]; exact hO
theorem Ok_fl {x : Ab} {p i n s : Int32} (hO : Ok x) : Ok (flS x p i n s) := by
  unfold flS
  cases hp : rowN x.2.2.1 p with
  | none => exact hO
  | some h =>
    show Ok (if flF x h i n = true then _ else x)
    by_cases c : flF x h i n = true
    · rw [if_pos c]; exact hO
    · rw [if_neg c]; exact hO
abbrev x00 : Ab := (0, [], fun _ => false, fun _ => 0, fun _ _ => 0, 0)
theorem Ok_0 : Ok x00 := ⟨by decide, fun k h => absurd h List.not_mem_nil, fun k h => (Bool.noConfusion h), fun k => Nat.zero_le _, fun k _ => rfl, rfl, by decide, rfl⟩
theorem bF_0 : bF (fun _ => 0) := fun k => by show (0 : Int32).toInt8.toInt32 = 0; decide
theorem RepA_0 : RepA x00 (fun _ => 0, fun _ => 0, fun _ => 0, fun _ => 0, fun _ => 0, fun _ => 0, -1, -1, -1, 0, 0) (fun _ => 0) :=
  ⟨bF_0, rfl, [], ⟨⟨rfl, rfl, List.nodup_nil⟩, ⟨rfl, List.nodup_nil, fun x h => absurd h List.not_mem_nil⟩, Nat.le_refl 0, by decide, fun h q => absurd q List.not_mem_nil, bF_0⟩, fun h => ⟨fun q => absurd q List.not_mem_nil, fun q => (Bool.noConfusion q)⟩, rfl⟩
theorem RepB_0 : RepB x00 (fun _ => 0) (fun _ => 0) (fun _ => 0) (fun _ => 0) :=
  ⟨bF_0, fun k h => absurd h (Nat.not_lt_zero k), trivial, fun k h => absurd h (Nat.not_lt_zero k), fun j k h => absurd h (Nat.not_lt_zero j), fun k h => absurd h (Nat.not_lt_zero k)⟩
theorem RepA_nd {x : Ab} {u : Sh} {hd : Nat → Int32} (h : RepA x u hd) : x.2.1.Nodup := by
  obtain ⟨-, -, L, h, -⟩ := h
  exact h.2.1.2.1
end
section
/-! THE CLAIM OUT OF ONE WALK OF THE LAW'S BODY. Your part is whole_start (and what it stands on); all else here is the same for every law, but numbers. -/
def lw_P (b : Addr) (xs : List Int32) (args : Array Value) (s : State) : Prop := args = #[.ref b] ∧ s.IntsAt b xs ∧ xs.length ≤ 2560 ∧ (Jvm.Cond.and given_1 narrow_1).before args s = true
def lw_Q (_ : Array Value) (s : State) (o : Outcome) (t : State) : Prop := o = .returned (some (.int 1)) ∧ Framed s o t [] 600000 7302250
def lw_Z (below : List Frame) (a : Array Value) (s : State) : State → Prop := fun t => ∃ o, t.status = .running ∧ Ended t below o ∧ lw_Q a s o t
/-- the law's own end, with 1 on the stack, nothing written that was there before, its room as the claim has it -/
theorem lw_ret {p : Program} {l : Launch} {e : Env} {s : State} {m : MethodId} {below : List Frame} {meth : Method} {c : Code} {b : Nat} (hx : p.tables.exec = Jvm.exec) (hb : c.code = code) (hr : meth.sig.returnType = ret) (hlocks : meth.locks = false) {pc : Nat} {H : Heap} {ls : Array Slot} (hdg : decode code pc = .ok (.ireturn, 1)) : W p l e room_1 s m #[Value.ref b] below meth c H [] 600000 7302250 (lw_Z below #[Value.ref b] s) (F0 m pc ls [.int 1]) := by
  intro T hT X
  obtain ⟨fs, hret, hrun, hended, hW, hframe⟩ := X.leave (v := some (.int 1)) (hlocks := hlocks) (fun h => by rw [hr] at h; cases h)
  have hmeth' : T.vm.method? m = some meth := X.method'
  refine ⟨T.setFrames fs, ?_, .returned (some (.int 1)), hrun, hended, rfl, ⟨_, rfl⟩, hW, hframe⟩
  jvm_step X.here [X.here.top, hx, hb, hdg, hmeth', hr, ret, narrow_b1]
  (try refine ⟨rfl, ?_⟩); (try refine ⟨rfl, ?_⟩)
  first | (intro acts; rw [hret _ acts rfl rfl rfl]) | rw [hret _ _ rfl rfl rfl]
  exact Steps.refl _
/-- what holds at the law's entry: the machine, the code, the tables' words (any of lw_tbl by 'hts w (by decide +kernel)'), the script of L ints xs at the cell b, what the Statement gives of the start (any of its parts by flat_of_before) -/
def lw_At (p : Program) (s : State) (m : MethodId) (meth : Method) (c : Code) (b L : Nat) (xs : Nat → Int32) : Prop :=
  p.tables.exec = Jvm.exec ∧ c.code = code ∧ meth.sig.returnType = ret ∧ c.maxLocals = 4 ∧ s.vm.findClass R_law = some m.cls ∧ (∀ w ∈ lw_tbl, w.before #[Value.ref b] s = true) ∧ va_X b L xs s s.heap ∧ b < s.heap.size ∧ meth.locks = false ∧ (Jvm.Cond.and given_1 narrow_1).before #[Value.ref b] s = true
/-- a contract that says less of its end -/
theorem Met_weak {l : Launch} {y : MethodName} {ws : List Cond} {rm : Room} {Pc : Array Value → State → Prop} {T : Type} {D : va_G} {post post' : Int32 → T → Prop} {w1 : T → va_W} {wc : va_W} {mc ms : Nat} {free : Addr → Prop} (h : Met l y ws rm Pc (Qmi D post w1 wc) mc ms free) (hp : ∀ z u, post z u → post' z u) : Met l y ws rm Pc (Qmi D post' w1 wc) mc ms free := by
  intro p e h1 h2 h3 s m args below h4 h5 h6 h7
  obtain ⟨k, o, g1, g2, g3, ⟨⟨⟨r, u, e1, e2, e3⟩, g4⟩, g5⟩⟩ := h p e h1 h2 h3 s m args below h4 h5 h6 h7
  exact ⟨k, o, g1, g2, g3, ⟨⟨r, u, e1, hp r u e2, e3⟩, g4⟩, g5⟩
theorem k_A_take (l : Launch) (D : va_G) (cB cI cZ : ClassId) (a : Nat → Nat) (x : Ab) (u : Sh) (hd : Nat → Int32) (p0 : Int32) (hO : Ok x) (hA : RepA x u hd) : Met l y_A_take w_A_take (rmL 4) (va_Pc [.ref (a 0), .int p0] (Wd D cB cI cZ (wAu cB cI cZ a (x, u, hd)))) (Qmi D (fun (z : Int32) (u1 : UA) => z = tkR x p0 ∧ u1.1 = tkS x p0 ∧ RepA u1.1 u1.2.1 u1.2.2) (wAu cB cI cZ a) (wAu cB cI cZ a (x, u, hd))) 0 0 (inA (wAu cB cI cZ a (x, u, hd))) := by
  obtain ⟨n, bk, th, M, ct, pl⟩ := x
  obtain ⟨fb, pa, ps, pr, nx, la, fi, en, fr, mn, tp⟩ := u
  have e : mn = n := hA.2.1
  subst e
  exact c_A_take l D cB cI cZ a fb pa ps pr nx la fi en fr tp hd mn bk th M ct pl p0 hO hA
theorem k_M_take (l : Launch) (D : va_G) (cB cI cZ : ClassId) (a : Nat → Nat) (x : Ab) (fb : Nat → Int32) (st : Nat → Nat) (sz bs : Nat → Int32) (p0 : Int32) (hO : Ok x) (hB : RepB x fb st sz bs) : Met l y_M_take w_M_take (rmL 2) (va_Pc [.ref (a 0), .int p0] (Wd D cB cI cZ (wMu cB cI a (x, fb, st, sz, bs)))) (Qmi D (fun (z : Int32) (v1 : UB) => z = tkR x p0 ∧ v1.1 = tkS x p0 ∧ RepB v1.1 v1.2.1 v1.2.2.1 v1.2.2.2.1 v1.2.2.2.2) (wMu cB cI a) (wMu cB cI a (x, fb, st, sz, bs))) 0 0 (inA (wMu cB cI a (x, fb, st, sz, bs))) := by
  obtain ⟨n, bk, th, M, ct, pl⟩ := x
  exact c_M_take l D cB cI cZ a fb st sz bs n bk th M ct pl p0 hO hB
theorem k_A_give (l : Launch) (D : va_G) (cB cI cZ : ClassId) (a : Nat → Nat) (x : Ab) (u : Sh) (hd : Nat → Int32) (p0 : Int32) (hO : Ok x) (hA : RepA x u hd) : Met l y_A_give w_A_give (rmL 2) (va_Pc [.ref (a 0), .int p0] (Wd D cB cI cZ (wAu cB cI cZ a (x, u, hd)))) (Qmi D (fun (z : Int32) (u1 : UA) => z = gvR x p0 ∧ u1.1 = gvS x p0 ∧ RepA u1.1 u1.2.1 u1.2.2) (wAu cB cI cZ a) (wAu cB cI cZ a (x, u, hd))) 0 0 (inA (wAu cB cI cZ a (x, u, hd))) := by
  obtain ⟨n, bk, th, M, ct, pl⟩ := x
  obtain ⟨fb, pa, ps, pr, nx, la, fi, en, fr, mn, tp⟩ := u
  have e : mn = n := hA.2.1
  subst e
  exact c_A_give l D cB cI cZ a fb pa ps pr nx la fi en fr tp hd mn bk th M ct pl p0 hO hA
theorem k_M_give (l : Launch) (D : va_G) (cB cI cZ : ClassId) (a : Nat → Nat) (x : Ab) (fb : Nat → Int32) (st : Nat → Nat) (sz bs : Nat → Int32) (p0 : Int32) (hO : Ok x) (hB : RepB x fb st sz bs) : Met l y_M_give w_M_give (rmL 2) (va_Pc [.ref (a 0), .int p0] (Wd D cB cI cZ (wMu cB cI a (x, fb, st, sz, bs)))) (Qmi D (fun (z : Int32) (v1 : UB) => z = gvR x p0 ∧ v1.1 = gvS x p0 ∧ RepB v1.1 v1.2.1 v1.2.2.1 v1.2.2.2.1 v1.2.2.2.2) (wMu cB cI a) (wMu cB cI a (x, fb, st, sz, bs))) 0 0 (inA (wMu cB cI a (x, fb, st, sz, bs))) := by
  obtain ⟨n, bk, th, M, ct, pl⟩ := x
  exact c_M_give l D cB cI cZ a fb st sz bs n bk th M ct pl p0 hO hB
theorem k_A_resize (l : Launch) (D : va_G) (cB cI cZ : ClassId) (a : Nat → Nat) (x : Ab) (u : Sh) (hd : Nat → Int32) (p0 p1 : Int32) (hO : Ok x) (hA : RepA x u hd) : Met l y_A_resize w_A_resize (rmL 4) (va_Pc [.ref (a 0), .int p0, .int p1] (Wd D cB cI cZ (wAu cB cI cZ a (x, u, hd)))) (Qmi D (fun (z : Int32) (u1 : UA) => z = rsR x p0 p1 ∧ u1.1 = rsS x p0 p1 ∧ RepA u1.1 u1.2.1 u1.2.2) (wAu cB cI cZ a) (wAu cB cI cZ a (x, u, hd))) 0 0 (inA (wAu cB cI cZ a (x, u, hd))) := by
  obtain ⟨n, bk, th, M, ct, pl⟩ := x
  obtain ⟨fb, pa, ps, pr, nx, la, fi, en, fr, mn, tp⟩ := u
  have e : mn = n := hA.2.1
  subst e
  exact Met_weak (c_A_resize l D cB cI cZ a fb pa ps pr nx la fi en fr tp hd mn bk th M ct pl p0 p1 hO hA) (fun z u1 h => ⟨h.1, h.2.1, h.2.2.1⟩)
theorem k_M_resize (l : Launch) (D : va_G) (cB cI cZ : ClassId) (a : Nat → Nat) (x : Ab) (fb : Nat → Int32) (st : Nat → Nat) (sz bs : Nat → Int32) (p0 p1 : Int32) (hO : Ok x) (hB : RepB x fb st sz bs) : Met l y_M_resize w_M_resize (rmL 2) (va_Pc [.ref (a 0), .int p0, .int p1] (Wd D cB cI cZ (wMu cB cI a (x, fb, st, sz, bs)))) (Qmi D (fun (z : Int32) (v1 : UB) => z = rsR x p0 p1 ∧ v1.1 = rsS x p0 p1 ∧ RepB v1.1 v1.2.1 v1.2.2.1 v1.2.2.2.1 v1.2.2.2.2) (wMu cB cI a) (wMu cB cI a (x, fb, st, sz, bs))) 0 0 (inA (wMu cB cI a (x, fb, st, sz, bs))) := by
  obtain ⟨n, bk, th, M, ct, pl⟩ := x
  exact c_M_resize l D cB cI cZ a fb st sz bs n bk th M ct pl p0 p1 hO hB
theorem k_A_put (l : Launch) (D : va_G) (cB cI cZ : ClassId) (a : Nat → Nat) (x : Ab) (u : Sh) (hd : Nat → Int32) (p0 p1 p2 : Int32) (hO : Ok x) (hA : RepA x u hd) : Met l y_A_put w_A_put (rmL 2) (va_Pc [.ref (a 0), .int p0, .int p1, .int p2] (Wd D cB cI cZ (wAu cB cI cZ a (x, u, hd)))) (Qmi D (fun (z : Int32) (u1 : UA) => z = ptR x p0 p1 ∧ u1.1 = ptS x p0 p1 p2 ∧ RepA u1.1 u1.2.1 u1.2.2) (wAu cB cI cZ a) (wAu cB cI cZ a (x, u, hd))) 0 0 (inA (wAu cB cI cZ a (x, u, hd))) := by
  obtain ⟨n, bk, th, M, ct, pl⟩ := x
  obtain ⟨fb, pa, ps, pr, nx, la, fi, en, fr, mn, tp⟩ := u
  have e : mn = n := hA.2.1
  subst e
  exact c_A_put l D cB cI cZ a fb pa ps pr nx la fi en fr tp hd mn bk th M ct pl p0 p1 p2 hO hA
theorem k_M_put (l : Launch) (D : va_G) (cB cI cZ : ClassId) (a : Nat → Nat) (x : Ab) (fb : Nat → Int32) (st : Nat → Nat) (sz bs : Nat → Int32) (p0 p1 p2 : Int32) (hO : Ok x) (hB : RepB x fb st sz bs) : Met l y_M_put w_M_put (rmL 1) (va_Pc [.ref (a 0), .int p0, .int p1, .int p2] (Wd D cB cI cZ (wMu cB cI a (x, fb, st, sz, bs)))) (Qmi D (fun (z : Int32) (v1 : UB) => z = ptR x p0 p1 ∧ v1.1 = ptS x p0 p1 p2 ∧ RepB v1.1 v1.2.1 v1.2.2.1 v1.2.2.2.1 v1.2.2.2.2) (wMu cB cI a) (wMu cB cI a (x, fb, st, sz, bs))) 0 0 (inA (wMu cB cI a (x, fb, st, sz, bs))) := by
  obtain ⟨n, bk, th, M, ct, pl⟩ := x
  exact c_M_put l D cB cI cZ a fb st sz bs n bk th M ct pl p0 p1 p2 hO hB
theorem k_A_fill (l : Launch) (D : va_G) (cB cI cZ : ClassId) (a : Nat → Nat) (x : Ab) (u : Sh) (hd : Nat → Int32) (p0 p1 p2 p3 : Int32) (hO : Ok x) (hA : RepA x u hd) : Met l y_A_fill w_A_fill (rmL 2) (va_Pc [.ref (a 0), .int p0, .int p1, .int p2, .int p3] (Wd D cB cI cZ (wAu cB cI cZ a (x, u, hd)))) (Qmi D (fun (z : Int32) (u1 : UA) => z = flR x p0 p1 p2 ∧ u1.1 = flS x p0 p1 p2 p3 ∧ RepA u1.1 u1.2.1 u1.2.2) (wAu cB cI cZ a) (wAu cB cI cZ a (x, u, hd))) 0 0 (inA (wAu cB cI cZ a (x, u, hd))) := by
  obtain ⟨n, bk, th, M, ct, pl⟩ := x
  obtain ⟨fb, pa, ps, pr, nx, la, fi, en, fr, mn, tp⟩ := u
  have e : mn = n := hA.2.1
  subst e
  exact c_A_fill l D cB cI cZ a fb pa ps pr nx la fi en fr tp hd mn bk th M ct pl p0 p1 p2 p3 hO hA
theorem k_M_fill (l : Launch) (D : va_G) (cB cI cZ : ClassId) (a : Nat → Nat) (x : Ab) (fb : Nat → Int32) (st : Nat → Nat) (sz bs : Nat → Int32) (p0 p1 p2 p3 : Int32) (hO : Ok x) (hB : RepB x fb st sz bs) : Met l y_M_fill w_M_fill (rmL 1) (va_Pc [.ref (a 0), .int p0, .int p1, .int p2, .int p3] (Wd D cB cI cZ (wMu cB cI a (x, fb, st, sz, bs)))) (Qmi D (fun (z : Int32) (v1 : UB) => z = flR x p0 p1 p2 ∧ v1.1 = flS x p0 p1 p2 p3 ∧ RepB v1.1 v1.2.1 v1.2.2.1 v1.2.2.2.1 v1.2.2.2.2) (wMu cB cI a) (wMu cB cI a (x, fb, st, sz, bs))) 0 0 (inA (wMu cB cI a (x, fb, st, sz, bs))) := by
  obtain ⟨n, bk, th, M, ct, pl⟩ := x
  exact c_M_fill l D cB cI cZ a fb st sz bs n bk th M ct pl p0 p1 p2 p3 hO hB
theorem k_A_copy (l : Launch) (D : va_G) (cB cI cZ : ClassId) (a : Nat → Nat) (x : Ab) (u : Sh) (hd : Nat → Int32) (p0 p1 : Int32) (hO : Ok x) (hA : RepA x u hd) : Met l y_A_copy w_A_copy (rmL 5) (va_Pc [.ref (a 0), .int p0, .int p1] (Wd D cB cI cZ (wAu cB cI cZ a (x, u, hd)))) (Qmi D (fun (z : Int32) (u1 : UA) => z = coR x p0 p1 ∧ u1.1 = coS x p0 p1 ∧ RepA u1.1 u1.2.1 u1.2.2) (wAu cB cI cZ a) (wAu cB cI cZ a (x, u, hd))) 0 0 (inA (wAu cB cI cZ a (x, u, hd))) := by
  obtain ⟨n, bk, th, M, ct, pl⟩ := x
  obtain ⟨fb, pa, ps, pr, nx, la, fi, en, fr, mn, tp⟩ := u
  have e : mn = n := hA.2.1
  subst e
  exact c_A_copy l D cB cI cZ a fb pa ps pr nx la fi en fr tp hd mn bk th M ct pl p0 p1 hO hA
theorem k_M_copy (l : Launch) (D : va_G) (cB cI cZ : ClassId) (a : Nat → Nat) (x : Ab) (fb : Nat → Int32) (st : Nat → Nat) (sz bs : Nat → Int32) (p0 p1 : Int32) (hO : Ok x) (hB : RepB x fb st sz bs) : Met l y_M_copy w_M_copy (rmL 2) (va_Pc [.ref (a 0), .int p0, .int p1] (Wd D cB cI cZ (wMu cB cI a (x, fb, st, sz, bs)))) (Qmi D (fun (z : Int32) (v1 : UB) => z = coR x p0 p1 ∧ v1.1 = coS x p0 p1 ∧ RepB v1.1 v1.2.1 v1.2.2.1 v1.2.2.2.1 v1.2.2.2.2) (wMu cB cI a) (wMu cB cI a (x, fb, st, sz, bs))) 0 0 (inA (wMu cB cI a (x, fb, st, sz, bs))) := by
  obtain ⟨n, bk, th, M, ct, pl⟩ := x
  exact c_M_copy l D cB cI cZ a fb st sz bs n bk th M ct pl p0 p1 hO hB
theorem k_A_get (l : Launch) (D : va_G) (cB cI cZ : ClassId) (a : Nat → Nat) (x : Ab) (u : Sh) (hd : Nat → Int32) (p0 p1 : Int32) (hO : Ok x) (hA : RepA x u hd) : Met l y_A_get w_A_get (rmL 2) (va_Pc [.ref (a 0), .int p0, .int p1] (Wd D cB cI cZ (wAu cB cI cZ a (x, u, hd)))) (Qi (gtR x p0 p1)) 0 0 NoA := by
  obtain ⟨n, bk, th, M, ct, pl⟩ := x
  obtain ⟨fb, pa, ps, pr, nx, la, fi, en, fr, mn, tp⟩ := u
  have e : mn = n := hA.2.1
  subst e
  exact c_A_get l D cB cI cZ a fb pa ps pr nx la fi en fr tp hd mn bk th M ct pl p0 p1 hO hA
theorem k_M_get (l : Launch) (D : va_G) (cB cI cZ : ClassId) (a : Nat → Nat) (x : Ab) (fb : Nat → Int32) (st : Nat → Nat) (sz bs : Nat → Int32) (p0 p1 : Int32) (hO : Ok x) (hB : RepB x fb st sz bs) : Met l y_M_get w_M_get (rmL 1) (va_Pc [.ref (a 0), .int p0, .int p1] (Wd D cB cI cZ (wMu cB cI a (x, fb, st, sz, bs)))) (Qi (gtR x p0 p1)) 0 0 NoA := by
  obtain ⟨n, bk, th, M, ct, pl⟩ := x
  exact c_M_get l D cB cI cZ a fb st sz bs n bk th M ct pl p0 p1 hO hB
theorem k_A_size (l : Launch) (D : va_G) (cB cI cZ : ClassId) (a : Nat → Nat) (x : Ab) (u : Sh) (hd : Nat → Int32) (p0 : Int32) (hO : Ok x) (hA : RepA x u hd) : Met l y_A_size w_A_size (rmL 1) (va_Pc [.ref (a 0), .int p0] (Wd D cB cI cZ (wAu cB cI cZ a (x, u, hd)))) (Qi (szR x p0)) 0 0 NoA := by
  obtain ⟨n, bk, th, M, ct, pl⟩ := x
  obtain ⟨fb, pa, ps, pr, nx, la, fi, en, fr, mn, tp⟩ := u
  have e : mn = n := hA.2.1
  subst e
  exact c_A_size l D cB cI cZ a fb pa ps pr nx la fi en fr tp hd mn bk th M ct pl p0 hO hA
theorem k_M_size (l : Launch) (D : va_G) (cB cI cZ : ClassId) (a : Nat → Nat) (x : Ab) (fb : Nat → Int32) (st : Nat → Nat) (sz bs : Nat → Int32) (p0 : Int32) (hO : Ok x) (hB : RepB x fb st sz bs) : Met l y_M_size w_M_size (rmL 1) (va_Pc [.ref (a 0), .int p0] (Wd D cB cI cZ (wMu cB cI a (x, fb, st, sz, bs)))) (Qi (szR x p0)) 0 0 NoA := by
  obtain ⟨n, bk, th, M, ct, pl⟩ := x
  exact c_M_size l D cB cI cZ a fb st sz bs n bk th M ct pl p0 hO hB
theorem k_A_compare (l : Launch) (D : va_G) (cB cI cZ : ClassId) (a : Nat → Nat) (x : Ab) (u : Sh) (hd : Nat → Int32) (p0 p1 : Int32) (hO : Ok x) (hA : RepA x u hd) : Met l y_A_compare w_A_compare (rmL 2) (va_Pc [.ref (a 0), .int p0, .int p1] (Wd D cB cI cZ (wAu cB cI cZ a (x, u, hd)))) (Qi (cmR x p0 p1)) 0 0 NoA := by
  obtain ⟨n, bk, th, M, ct, pl⟩ := x
  obtain ⟨fb, pa, ps, pr, nx, la, fi, en, fr, mn, tp⟩ := u
  have e : mn = n := hA.2.1
  subst e
  exact c_A_compare l D cB cI cZ a fb pa ps pr nx la fi en fr tp hd mn bk th M ct pl p0 p1 hO hA
theorem k_M_compare (l : Launch) (D : va_G) (cB cI cZ : ClassId) (a : Nat → Nat) (x : Ab) (fb : Nat → Int32) (st : Nat → Nat) (sz bs : Nat → Int32) (p0 p1 : Int32) (hO : Ok x) (hB : RepB x fb st sz bs) : Met l y_M_compare w_M_compare (rmL 2) (va_Pc [.ref (a 0), .int p0, .int p1] (Wd D cB cI cZ (wMu cB cI a (x, fb, st, sz, bs)))) (Qi (cmR x p0 p1)) 0 0 NoA := by
  obtain ⟨n, bk, th, M, ct, pl⟩ := x
  exact c_M_compare l D cB cI cZ a fb st sz bs n bk th M ct pl p0 p1 hO hB
theorem k_A_sum (l : Launch) (D : va_G) (cB cI cZ : ClassId) (a : Nat → Nat) (x : Ab) (u : Sh) (hd : Nat → Int32) (p0 : Int32) (hO : Ok x) (hA : RepA x u hd) : Met l y_A_sum w_A_sum (rmL 1) (va_Pc [.ref (a 0), .int p0] (Wd D cB cI cZ (wAu cB cI cZ a (x, u, hd)))) (Qi (suR x p0)) 0 0 NoA := by
  obtain ⟨n, bk, th, M, ct, pl⟩ := x
  obtain ⟨fb, pa, ps, pr, nx, la, fi, en, fr, mn, tp⟩ := u
  have e : mn = n := hA.2.1
  subst e
  exact c_A_sum l D cB cI cZ a fb pa ps pr nx la fi en fr tp hd mn bk th M ct pl p0 hO hA
theorem k_M_sum (l : Launch) (D : va_G) (cB cI cZ : ClassId) (a : Nat → Nat) (x : Ab) (fb : Nat → Int32) (st : Nat → Nat) (sz bs : Nat → Int32) (p0 : Int32) (hO : Ok x) (hB : RepB x fb st sz bs) : Met l y_M_sum w_M_sum (rmL 2) (va_Pc [.ref (a 0), .int p0] (Wd D cB cI cZ (wMu cB cI a (x, fb, st, sz, bs)))) (Qi (suR x p0)) 0 0 NoA := by
  obtain ⟨n, bk, th, M, ct, pl⟩ := x
  exact c_M_sum l D cB cI cZ a fb st sz bs n bk th M ct pl p0 hO hB
theorem k_A_rows (l : Launch) (D : va_G) (cB cI cZ : ClassId) (a : Nat → Nat) (x : Ab) (u : Sh) (hd : Nat → Int32) (hO : Ok x) (hA : RepA x u hd) : Met l y_A_rows w_A_rows (rmL 0) (va_Pc [.ref (a 0)] (Wd D cB cI cZ (wAu cB cI cZ a (x, u, hd)))) (Qi (nI (x.1 - x.2.1.length))) 0 0 NoA := by
  obtain ⟨n, bk, th, M, ct, pl⟩ := x
  obtain ⟨fb, pa, ps, pr, nx, la, fi, en, fr, mn, tp⟩ := u
  have e : mn = n := hA.2.1
  subst e
  exact c_A_rows l D cB cI cZ a fb pa ps pr nx la fi en fr tp hd mn bk th M ct pl 
theorem k_M_rows (l : Launch) (D : va_G) (cB cI cZ : ClassId) (a : Nat → Nat) (x : Ab) (fb : Nat → Int32) (st : Nat → Nat) (sz bs : Nat → Int32) (hO : Ok x) (hB : RepB x fb st sz bs) : Met l y_M_rows w_M_rows (rmL 1) (va_Pc [.ref (a 0)] (Wd D cB cI cZ (wMu cB cI a (x, fb, st, sz, bs)))) (Qi (nI (x.1 - x.2.1.length))) 0 0 NoA := by
  obtain ⟨n, bk, th, M, ct, pl⟩ := x
  exact c_M_rows l D cB cI cZ a fb st sz bs n bk th M ct pl  hO hB
theorem k_A_places (l : Launch) (D : va_G) (cB cI cZ : ClassId) (a : Nat → Nat) (x : Ab) (u : Sh) (hd : Nat → Int32) (hO : Ok x) (hA : RepA x u hd) : Met l y_A_places w_A_places (rmL 0) (va_Pc [.ref (a 0)] (Wd D cB cI cZ (wAu cB cI cZ a (x, u, hd)))) (Qi (nI x.2.2.2.2.2)) 0 0 NoA := by
  obtain ⟨n, bk, th, M, ct, pl⟩ := x
  obtain ⟨fb, pa, ps, pr, nx, la, fi, en, fr, mn, tp⟩ := u
  have e : mn = n := hA.2.1
  subst e
  exact c_A_places l D cB cI cZ a fb pa ps pr nx la fi en fr tp hd mn bk th M ct pl 
theorem k_M_places (l : Launch) (D : va_G) (cB cI cZ : ClassId) (a : Nat → Nat) (x : Ab) (fb : Nat → Int32) (st : Nat → Nat) (sz bs : Nat → Int32) (hO : Ok x) (hB : RepB x fb st sz bs) : Met l y_M_places w_M_places (rmL 0) (va_Pc [.ref (a 0)] (Wd D cB cI cZ (wMu cB cI a (x, fb, st, sz, bs)))) (Qi (nI x.2.2.2.2.2)) 0 0 NoA := by
  obtain ⟨n, bk, th, M, ct, pl⟩ := x
  exact c_M_places l D cB cI cZ a fb st sz bs n bk th M ct pl 
end
section
theorem sld {p : Program} {l : Launch} {e : Env} {R : Room} {s : State} {m : MethodId} {args : Array Value} {below : List Frame} {meth : Method} {c : Code} {H : Heap} {locs : List Loc} {cells slots : Nat} {Q : State → Prop} {cc : ByteArray} {pc : Nat} {ls : Array Slot} {rest : List Value} {nL : Nat} {own : String} {b L : Nat} {xs : Nat → Int32} (S : CallFix p m c cc nL s args aw own) (hX : va_X b L xs s s.heap) (hbl : b < s.heap.size) (hS : va_S (fun q : Nat => s.heap.size ≤ q) s.heap H locs) (k : Nat) (hk : k < L) (hL : L ≤ 2560) (hdg : decode cc pc = .ok (.iaload, 1))
    (kk : W p l e R s m args below meth c H locs cells slots Q (F0 m (pc + 1) ls (.int (xs k) :: rest))) : W p l e R s m args below meth c H locs cells slots Q (F0 m pc ls (.int (nI k) :: .ref b :: rest)) := by
  refine va_sld S.1 S.2.1 hX hbl (Nat.not_le.mpr hbl) hS (vp_in_nI hk (by omega)) hdg ?_
  rw [nI_clamp (by omega)]
  exact kk
set_option maxHeartbeats 4000000 in
/-- case 0: take -/
theorem law_c0 {p : Program} {l : Launch} {e : Env} {s : State} {m : MethodId} {below : List Frame} {meth : Method} {c : Code} {D : va_G} {cB cI cZ : ClassId} {a a2 : Nat → Nat} {b L i : Nat} {xs : Nat → Int32} (hL : L ≤ 2560) (hi : i + 5 ≤ L) (S : CallFix p m c code 4 s #[Value.ref b] aw R_law) (hK : va_K D classes (TY cB cI cZ) s) (hX : va_X b L xs s s.heap) (hbl : b < s.heap.size) (kx : ∀ (x : Ab) (u : Sh) (hd fb : Nat → Int32) (st : Nat → Nat) (sz bs : Nat → Int32), Ok x → RepA x u hd → RepB x fb st sz bs → ∀ (H : Heap) (locs : List Loc), va_P D classes (wAu cB cI cZ a (x, u, hd) ++ wMu cB cI a2 (x, fb, st, sz, bs)) H → va_D (fun q : Nat => s.heap.size ≤ q) (wAu cB cI cZ a (x, u, hd) ++ wMu cB cI a2 (x, fb, st, sz, bs)) → va_S (fun q : Nat => s.heap.size ≤ q) s.heap H locs → ∀ (ls : Array Slot), lv_has ls 4 [(0, .ref b), (1, .ref (a 0)), (2, .ref (a2 0)), (3, .int (nI i))] → W p l e room_1 s m #[Value.ref b] below meth c H locs 600000 7302250 (lw_Z below #[Value.ref b] s) (F0 m 442 ls [])) : ∀ (x : Ab) (u : Sh) (hd fb : Nat → Int32) (st : Nat → Nat) (sz bs : Nat → Int32), Ok x → RepA x u hd → RepB x fb st sz bs → ∀ (H : Heap) (locs : List Loc), va_P D classes (wAu cB cI cZ a (x, u, hd) ++ wMu cB cI a2 (x, fb, st, sz, bs)) H → va_D (fun q : Nat => s.heap.size ≤ q) (wAu cB cI cZ a (x, u, hd) ++ wMu cB cI a2 (x, fb, st, sz, bs)) → va_S (fun q : Nat => s.heap.size ≤ q) s.heap H locs → ∀ (ls : Array Slot), lv_has ls 4 [(0, .ref b), (1, .ref (a 0)), (2, .ref (a2 0)), (3, .int (nI i))] → W p l e room_1 s m #[Value.ref b] below meth c H locs 600000 7302250 (lw_Z below #[Value.ref b] s) (F0 m 96 ls []) := by
  have hx := S.1
  have hb := S.2.1
  intro x u hd fb st sz bs hO hA hB H locs hP hD hS ls hl
  refine lv_aload_n hx hb d_law_96 rfl (lv_at hl 1 rfl) ?_
  refine lv_aload_n hx hb d_law_97 rfl (lv_at hl 0 rfl) ?_
  refine lv_iload_n hx hb d_law_98 rfl (lv_at hl 3 rfl) ?_
  refine lv_iconst (v := nI 1) hx hb d_law_99 (by decide) ?_
  refine lv_iadd hx hb d_law_100 ?_
  refine tpE (y := nI (i + 1)) (nI_add _ _) ?_
  refine sld S hX hbl hS (i + 1) (by omega) hL d_law_101 ?_
  refine cmI (As := [.int (xs (i + 1))]) (rest := []) (wr := wMu cB cI a2 (x, fb, st, sz, bs)) S (k_A_take l D cB cI cZ a x u hd (xs (i + 1)) hO hA) (cw_law_13 S.2.2.2.2 ⟨by decide, by decide⟩) hK hP hD hS [0, 1, 2, 3, 4, 5, 6, 7, 8, 9] [10, 11, 12, 13, 14] rfl rfl rfl (by decide) rfl rfl rfl hl.1 rfl (Nat.le_of_ble_eq_true rfl) d_law_102 ⟨by decide, by decide⟩ (fun r u1 H locs hu hP hS => ?_)
  obtain ⟨x1, u1, hd1⟩ := u1
  obtain ⟨hr1, hx1, hA1⟩ := hu
  dsimp only at hx1 hA1
  have hP : va_P D classes (wAu cB cI cZ a (x1, u1, hd1) ++ wMu cB cI a2 (x, fb, st, sz, bs)) H := hP.sub [5, 6, 7, 8, 9, 10, 11, 12, 13, 14, 0, 1, 2, 3, 4] rfl
  have hD : va_D (fun q : Nat => s.heap.size ≤ q) (wAu cB cI cZ a (x1, u1, hd1) ++ wMu cB cI a2 (x, fb, st, sz, bs)) := dA hD rfl
  refine lv_aload_n hx hb d_law_105 rfl (lv_at hl 2 rfl) ?_
  refine lv_aload_n hx hb d_law_106 rfl (lv_at hl 0 rfl) ?_
  refine lv_iload_n hx hb d_law_107 rfl (lv_at hl 3 rfl) ?_
  refine lv_iconst (v := nI 1) hx hb d_law_108 (by decide) ?_
  refine lv_iadd hx hb d_law_109 ?_
  refine tpE (y := nI (i + 1)) (nI_add _ _) ?_
  refine sld S hX hbl hS (i + 1) (by omega) hL d_law_110 ?_
  refine cmI (As := [.int (xs (i + 1))]) (rest := [.int r]) (wr := wAu cB cI cZ a (x1, u1, hd1)) S (k_M_take l D cB cI cZ a2 x fb st sz bs (xs (i + 1)) hO hB) (cw_law_17 S.2.2.2.2 ⟨by decide, by decide⟩) hK hP hD hS [10, 11, 12, 13, 14] [0, 1, 2, 3, 4, 5, 6, 7, 8, 9] rfl rfl rfl (by decide) rfl rfl rfl hl.1 rfl (Nat.le_of_ble_eq_true rfl) d_law_111 ⟨by decide, by decide⟩ (fun r2 v H locs hv hP hS => ?_)
  obtain ⟨y1, fb1, st1, sz1, bs1⟩ := v
  obtain ⟨hr2, hy1, hB1⟩ := hv
  dsimp only at hy1 hB1
  have hP : va_P D classes (wAu cB cI cZ a (x1, u1, hd1) ++ wMu cB cI a2 (y1, fb1, st1, sz1, bs1)) H := hP
  have hD : va_D (fun q : Nat => s.heap.size ≤ q) (wAu cB cI cZ a (x1, u1, hd1) ++ wMu cB cI a2 (y1, fb1, st1, sz1, bs1)) := dA hD rfl
  refine lv_icmp_eq (tgt := 442) hx hb d_law_114 (by decide) (fun c1 => ?_) (fun c1 => absurd (hr1.trans hr2.symm) c1)
  have e1 : x1 = y1 := hx1.trans hy1.symm
  subst e1
  exact kx x1 u1 hd1 fb1 st1 sz1 bs1 (by rw [hx1]; exact Ok_tk hO (RepA_nd hA)) hA1 hB1 H locs hP hD hS ls hl
set_option maxHeartbeats 4000000 in
/-- case 1: give -/
theorem law_c1 {p : Program} {l : Launch} {e : Env} {s : State} {m : MethodId} {below : List Frame} {meth : Method} {c : Code} {D : va_G} {cB cI cZ : ClassId} {a a2 : Nat → Nat} {b L i : Nat} {xs : Nat → Int32} (hL : L ≤ 2560) (hi : i + 5 ≤ L) (S : CallFix p m c code 4 s #[Value.ref b] aw R_law) (hK : va_K D classes (TY cB cI cZ) s) (hX : va_X b L xs s s.heap) (hbl : b < s.heap.size) (kx : ∀ (x : Ab) (u : Sh) (hd fb : Nat → Int32) (st : Nat → Nat) (sz bs : Nat → Int32), Ok x → RepA x u hd → RepB x fb st sz bs → ∀ (H : Heap) (locs : List Loc), va_P D classes (wAu cB cI cZ a (x, u, hd) ++ wMu cB cI a2 (x, fb, st, sz, bs)) H → va_D (fun q : Nat => s.heap.size ≤ q) (wAu cB cI cZ a (x, u, hd) ++ wMu cB cI a2 (x, fb, st, sz, bs)) → va_S (fun q : Nat => s.heap.size ≤ q) s.heap H locs → ∀ (ls : Array Slot), lv_has ls 4 [(0, .ref b), (1, .ref (a 0)), (2, .ref (a2 0)), (3, .int (nI i))] → W p l e room_1 s m #[Value.ref b] below meth c H locs 600000 7302250 (lw_Z below #[Value.ref b] s) (F0 m 442 ls [])) : ∀ (x : Ab) (u : Sh) (hd fb : Nat → Int32) (st : Nat → Nat) (sz bs : Nat → Int32), Ok x → RepA x u hd → RepB x fb st sz bs → ∀ (H : Heap) (locs : List Loc), va_P D classes (wAu cB cI cZ a (x, u, hd) ++ wMu cB cI a2 (x, fb, st, sz, bs)) H → va_D (fun q : Nat => s.heap.size ≤ q) (wAu cB cI cZ a (x, u, hd) ++ wMu cB cI a2 (x, fb, st, sz, bs)) → va_S (fun q : Nat => s.heap.size ≤ q) s.heap H locs → ∀ (ls : Array Slot), lv_has ls 4 [(0, .ref b), (1, .ref (a 0)), (2, .ref (a2 0)), (3, .int (nI i))] → W p l e room_1 s m #[Value.ref b] below meth c H locs 600000 7302250 (lw_Z below #[Value.ref b] s) (F0 m 119 ls []) := by
  have hx := S.1
  have hb := S.2.1
  intro x u hd fb st sz bs hO hA hB H locs hP hD hS ls hl
  refine lv_aload_n hx hb d_law_119 rfl (lv_at hl 1 rfl) ?_
  refine lv_aload_n hx hb d_law_120 rfl (lv_at hl 0 rfl) ?_
  refine lv_iload_n hx hb d_law_121 rfl (lv_at hl 3 rfl) ?_
  refine lv_iconst (v := nI 1) hx hb d_law_122 (by decide) ?_
  refine lv_iadd hx hb d_law_123 ?_
  refine tpE (y := nI (i + 1)) (nI_add _ _) ?_
  refine sld S hX hbl hS (i + 1) (by omega) hL d_law_124 ?_
  refine cmI (As := [.int (xs (i + 1))]) (rest := []) (wr := wMu cB cI a2 (x, fb, st, sz, bs)) S (k_A_give l D cB cI cZ a x u hd (xs (i + 1)) hO hA) (cw_law_18 S.2.2.2.2 ⟨by decide, by decide⟩) hK hP hD hS [0, 1, 2, 3, 4, 5, 6, 7, 8, 9] [10, 11, 12, 13, 14] rfl rfl rfl (by decide) rfl rfl rfl hl.1 rfl (Nat.le_of_ble_eq_true rfl) d_law_125 ⟨by decide, by decide⟩ (fun r u1 H locs hu hP hS => ?_)
  obtain ⟨x1, u1, hd1⟩ := u1
  obtain ⟨hr1, hx1, hA1⟩ := hu
  dsimp only at hx1 hA1
  have hP : va_P D classes (wAu cB cI cZ a (x1, u1, hd1) ++ wMu cB cI a2 (x, fb, st, sz, bs)) H := hP.sub [5, 6, 7, 8, 9, 10, 11, 12, 13, 14, 0, 1, 2, 3, 4] rfl
  have hD : va_D (fun q : Nat => s.heap.size ≤ q) (wAu cB cI cZ a (x1, u1, hd1) ++ wMu cB cI a2 (x, fb, st, sz, bs)) := dA hD rfl
  refine lv_aload_n hx hb d_law_128 rfl (lv_at hl 2 rfl) ?_
  refine lv_aload_n hx hb d_law_129 rfl (lv_at hl 0 rfl) ?_
  refine lv_iload_n hx hb d_law_130 rfl (lv_at hl 3 rfl) ?_
  refine lv_iconst (v := nI 1) hx hb d_law_131 (by decide) ?_
  refine lv_iadd hx hb d_law_132 ?_
  refine tpE (y := nI (i + 1)) (nI_add _ _) ?_
  refine sld S hX hbl hS (i + 1) (by omega) hL d_law_133 ?_
  refine cmI (As := [.int (xs (i + 1))]) (rest := [.int r]) (wr := wAu cB cI cZ a (x1, u1, hd1)) S (k_M_give l D cB cI cZ a2 x fb st sz bs (xs (i + 1)) hO hB) (cw_law_22 S.2.2.2.2 ⟨by decide, by decide⟩) hK hP hD hS [10, 11, 12, 13, 14] [0, 1, 2, 3, 4, 5, 6, 7, 8, 9] rfl rfl rfl (by decide) rfl rfl rfl hl.1 rfl (Nat.le_of_ble_eq_true rfl) d_law_134 ⟨by decide, by decide⟩ (fun r2 v H locs hv hP hS => ?_)
  obtain ⟨y1, fb1, st1, sz1, bs1⟩ := v
  obtain ⟨hr2, hy1, hB1⟩ := hv
  dsimp only at hy1 hB1
  have hP : va_P D classes (wAu cB cI cZ a (x1, u1, hd1) ++ wMu cB cI a2 (y1, fb1, st1, sz1, bs1)) H := hP
  have hD : va_D (fun q : Nat => s.heap.size ≤ q) (wAu cB cI cZ a (x1, u1, hd1) ++ wMu cB cI a2 (y1, fb1, st1, sz1, bs1)) := dA hD rfl
  refine lv_icmp_eq (tgt := 442) hx hb d_law_137 (by decide) (fun c1 => ?_) (fun c1 => absurd (hr1.trans hr2.symm) c1)
  have e1 : x1 = y1 := hx1.trans hy1.symm
  subst e1
  exact kx x1 u1 hd1 fb1 st1 sz1 bs1 (by rw [hx1]; exact Ok_gv hO) hA1 hB1 H locs hP hD hS ls hl
set_option maxHeartbeats 4000000 in
/-- case 2: resize -/
theorem law_c2 {p : Program} {l : Launch} {e : Env} {s : State} {m : MethodId} {below : List Frame} {meth : Method} {c : Code} {D : va_G} {cB cI cZ : ClassId} {a a2 : Nat → Nat} {b L i : Nat} {xs : Nat → Int32} (hL : L ≤ 2560) (hi : i + 5 ≤ L) (S : CallFix p m c code 4 s #[Value.ref b] aw R_law) (hK : va_K D classes (TY cB cI cZ) s) (hX : va_X b L xs s s.heap) (hbl : b < s.heap.size) (kx : ∀ (x : Ab) (u : Sh) (hd fb : Nat → Int32) (st : Nat → Nat) (sz bs : Nat → Int32), Ok x → RepA x u hd → RepB x fb st sz bs → ∀ (H : Heap) (locs : List Loc), va_P D classes (wAu cB cI cZ a (x, u, hd) ++ wMu cB cI a2 (x, fb, st, sz, bs)) H → va_D (fun q : Nat => s.heap.size ≤ q) (wAu cB cI cZ a (x, u, hd) ++ wMu cB cI a2 (x, fb, st, sz, bs)) → va_S (fun q : Nat => s.heap.size ≤ q) s.heap H locs → ∀ (ls : Array Slot), lv_has ls 4 [(0, .ref b), (1, .ref (a 0)), (2, .ref (a2 0)), (3, .int (nI i))] → W p l e room_1 s m #[Value.ref b] below meth c H locs 600000 7302250 (lw_Z below #[Value.ref b] s) (F0 m 442 ls [])) : ∀ (x : Ab) (u : Sh) (hd fb : Nat → Int32) (st : Nat → Nat) (sz bs : Nat → Int32), Ok x → RepA x u hd → RepB x fb st sz bs → ∀ (H : Heap) (locs : List Loc), va_P D classes (wAu cB cI cZ a (x, u, hd) ++ wMu cB cI a2 (x, fb, st, sz, bs)) H → va_D (fun q : Nat => s.heap.size ≤ q) (wAu cB cI cZ a (x, u, hd) ++ wMu cB cI a2 (x, fb, st, sz, bs)) → va_S (fun q : Nat => s.heap.size ≤ q) s.heap H locs → ∀ (ls : Array Slot), lv_has ls 4 [(0, .ref b), (1, .ref (a 0)), (2, .ref (a2 0)), (3, .int (nI i))] → W p l e room_1 s m #[Value.ref b] below meth c H locs 600000 7302250 (lw_Z below #[Value.ref b] s) (F0 m 142 ls []) := by
  have hx := S.1
  have hb := S.2.1
  intro x u hd fb st sz bs hO hA hB H locs hP hD hS ls hl
  refine lv_aload_n hx hb d_law_142 rfl (lv_at hl 1 rfl) ?_
  refine lv_aload_n hx hb d_law_143 rfl (lv_at hl 0 rfl) ?_
  refine lv_iload_n hx hb d_law_144 rfl (lv_at hl 3 rfl) ?_
  refine lv_iconst (v := nI 1) hx hb d_law_145 (by decide) ?_
  refine lv_iadd hx hb d_law_146 ?_
  refine tpE (y := nI (i + 1)) (nI_add _ _) ?_
  refine sld S hX hbl hS (i + 1) (by omega) hL d_law_147 ?_
  refine lv_aload_n hx hb d_law_148 rfl (lv_at hl 0 rfl) ?_
  refine lv_iload_n hx hb d_law_149 rfl (lv_at hl 3 rfl) ?_
  refine lv_iconst (v := nI 2) hx hb d_law_150 (by decide) ?_
  refine lv_iadd hx hb d_law_151 ?_
  refine tpE (y := nI (i + 2)) (nI_add _ _) ?_
  refine sld S hX hbl hS (i + 2) (by omega) hL d_law_152 ?_
  refine cmI (As := [.int (xs (i + 1)), .int (xs (i + 2))]) (rest := []) (wr := wMu cB cI a2 (x, fb, st, sz, bs)) S (k_A_resize l D cB cI cZ a x u hd (xs (i + 1)) (xs (i + 2)) hO hA) (cw_law_23 S.2.2.2.2 ⟨by decide, by decide⟩) hK hP hD hS [0, 1, 2, 3, 4, 5, 6, 7, 8, 9] [10, 11, 12, 13, 14] rfl rfl rfl (by decide) rfl rfl rfl hl.1 rfl (Nat.le_of_ble_eq_true rfl) d_law_153 ⟨by decide, by decide⟩ (fun r u1 H locs hu hP hS => ?_)
  obtain ⟨x1, u1, hd1⟩ := u1
  obtain ⟨hr1, hx1, hA1⟩ := hu
  dsimp only at hx1 hA1
  have hP : va_P D classes (wAu cB cI cZ a (x1, u1, hd1) ++ wMu cB cI a2 (x, fb, st, sz, bs)) H := hP.sub [5, 6, 7, 8, 9, 10, 11, 12, 13, 14, 0, 1, 2, 3, 4] rfl
  have hD : va_D (fun q : Nat => s.heap.size ≤ q) (wAu cB cI cZ a (x1, u1, hd1) ++ wMu cB cI a2 (x, fb, st, sz, bs)) := dA hD rfl
  refine lv_aload_n hx hb d_law_156 rfl (lv_at hl 2 rfl) ?_
  refine lv_aload_n hx hb d_law_157 rfl (lv_at hl 0 rfl) ?_
  refine lv_iload_n hx hb d_law_158 rfl (lv_at hl 3 rfl) ?_
  refine lv_iconst (v := nI 1) hx hb d_law_159 (by decide) ?_
  refine lv_iadd hx hb d_law_160 ?_
  refine tpE (y := nI (i + 1)) (nI_add _ _) ?_
  refine sld S hX hbl hS (i + 1) (by omega) hL d_law_161 ?_
  refine lv_aload_n hx hb d_law_162 rfl (lv_at hl 0 rfl) ?_
  refine lv_iload_n hx hb d_law_163 rfl (lv_at hl 3 rfl) ?_
  refine lv_iconst (v := nI 2) hx hb d_law_164 (by decide) ?_
  refine lv_iadd hx hb d_law_165 ?_
  refine tpE (y := nI (i + 2)) (nI_add _ _) ?_
  refine sld S hX hbl hS (i + 2) (by omega) hL d_law_166 ?_
  refine cmI (As := [.int (xs (i + 1)), .int (xs (i + 2))]) (rest := [.int r]) (wr := wAu cB cI cZ a (x1, u1, hd1)) S (k_M_resize l D cB cI cZ a2 x fb st sz bs (xs (i + 1)) (xs (i + 2)) hO hB) (cw_law_27 S.2.2.2.2 ⟨by decide, by decide⟩) hK hP hD hS [10, 11, 12, 13, 14] [0, 1, 2, 3, 4, 5, 6, 7, 8, 9] rfl rfl rfl (by decide) rfl rfl rfl hl.1 rfl (Nat.le_of_ble_eq_true rfl) d_law_167 ⟨by decide, by decide⟩ (fun r2 v H locs hv hP hS => ?_)
  obtain ⟨y1, fb1, st1, sz1, bs1⟩ := v
  obtain ⟨hr2, hy1, hB1⟩ := hv
  dsimp only at hy1 hB1
  have hP : va_P D classes (wAu cB cI cZ a (x1, u1, hd1) ++ wMu cB cI a2 (y1, fb1, st1, sz1, bs1)) H := hP
  have hD : va_D (fun q : Nat => s.heap.size ≤ q) (wAu cB cI cZ a (x1, u1, hd1) ++ wMu cB cI a2 (y1, fb1, st1, sz1, bs1)) := dA hD rfl
  refine lv_icmp_eq (tgt := 442) hx hb d_law_170 (by decide) (fun c1 => ?_) (fun c1 => absurd (hr1.trans hr2.symm) c1)
  have e1 : x1 = y1 := hx1.trans hy1.symm
  subst e1
  exact kx x1 u1 hd1 fb1 st1 sz1 bs1 (by rw [hx1]; exact Ok_rs hO) hA1 hB1 H locs hP hD hS ls hl
set_option maxHeartbeats 4000000 in
/-- case 3: put -/
theorem law_c3 {p : Program} {l : Launch} {e : Env} {s : State} {m : MethodId} {below : List Frame} {meth : Method} {c : Code} {D : va_G} {cB cI cZ : ClassId} {a a2 : Nat → Nat} {b L i : Nat} {xs : Nat → Int32} (hL : L ≤ 2560) (hi : i + 5 ≤ L) (S : CallFix p m c code 4 s #[Value.ref b] aw R_law) (hK : va_K D classes (TY cB cI cZ) s) (hX : va_X b L xs s s.heap) (hbl : b < s.heap.size) (kx : ∀ (x : Ab) (u : Sh) (hd fb : Nat → Int32) (st : Nat → Nat) (sz bs : Nat → Int32), Ok x → RepA x u hd → RepB x fb st sz bs → ∀ (H : Heap) (locs : List Loc), va_P D classes (wAu cB cI cZ a (x, u, hd) ++ wMu cB cI a2 (x, fb, st, sz, bs)) H → va_D (fun q : Nat => s.heap.size ≤ q) (wAu cB cI cZ a (x, u, hd) ++ wMu cB cI a2 (x, fb, st, sz, bs)) → va_S (fun q : Nat => s.heap.size ≤ q) s.heap H locs → ∀ (ls : Array Slot), lv_has ls 4 [(0, .ref b), (1, .ref (a 0)), (2, .ref (a2 0)), (3, .int (nI i))] → W p l e room_1 s m #[Value.ref b] below meth c H locs 600000 7302250 (lw_Z below #[Value.ref b] s) (F0 m 442 ls [])) : ∀ (x : Ab) (u : Sh) (hd fb : Nat → Int32) (st : Nat → Nat) (sz bs : Nat → Int32), Ok x → RepA x u hd → RepB x fb st sz bs → ∀ (H : Heap) (locs : List Loc), va_P D classes (wAu cB cI cZ a (x, u, hd) ++ wMu cB cI a2 (x, fb, st, sz, bs)) H → va_D (fun q : Nat => s.heap.size ≤ q) (wAu cB cI cZ a (x, u, hd) ++ wMu cB cI a2 (x, fb, st, sz, bs)) → va_S (fun q : Nat => s.heap.size ≤ q) s.heap H locs → ∀ (ls : Array Slot), lv_has ls 4 [(0, .ref b), (1, .ref (a 0)), (2, .ref (a2 0)), (3, .int (nI i))] → W p l e room_1 s m #[Value.ref b] below meth c H locs 600000 7302250 (lw_Z below #[Value.ref b] s) (F0 m 175 ls []) := by
  have hx := S.1
  have hb := S.2.1
  intro x u hd fb st sz bs hO hA hB H locs hP hD hS ls hl
  refine lv_aload_n hx hb d_law_175 rfl (lv_at hl 1 rfl) ?_
  refine lv_aload_n hx hb d_law_176 rfl (lv_at hl 0 rfl) ?_
  refine lv_iload_n hx hb d_law_177 rfl (lv_at hl 3 rfl) ?_
  refine lv_iconst (v := nI 1) hx hb d_law_178 (by decide) ?_
  refine lv_iadd hx hb d_law_179 ?_
  refine tpE (y := nI (i + 1)) (nI_add _ _) ?_
  refine sld S hX hbl hS (i + 1) (by omega) hL d_law_180 ?_
  refine lv_aload_n hx hb d_law_181 rfl (lv_at hl 0 rfl) ?_
  refine lv_iload_n hx hb d_law_182 rfl (lv_at hl 3 rfl) ?_
  refine lv_iconst (v := nI 2) hx hb d_law_183 (by decide) ?_
  refine lv_iadd hx hb d_law_184 ?_
  refine tpE (y := nI (i + 2)) (nI_add _ _) ?_
  refine sld S hX hbl hS (i + 2) (by omega) hL d_law_185 ?_
  refine lv_aload_n hx hb d_law_186 rfl (lv_at hl 0 rfl) ?_
  refine lv_iload_n hx hb d_law_187 rfl (lv_at hl 3 rfl) ?_
  refine lv_iconst (v := nI 3) hx hb d_law_188 (by decide) ?_
  refine lv_iadd hx hb d_law_189 ?_
  refine tpE (y := nI (i + 3)) (nI_add _ _) ?_
  refine sld S hX hbl hS (i + 3) (by omega) hL d_law_190 ?_
  refine cmI (As := [.int (xs (i + 1)), .int (xs (i + 2)), .int (xs (i + 3))]) (rest := []) (wr := wMu cB cI a2 (x, fb, st, sz, bs)) S (k_A_put l D cB cI cZ a x u hd (xs (i + 1)) (xs (i + 2)) (xs (i + 3)) hO hA) (cw_law_28 S.2.2.2.2 ⟨by decide, by decide⟩) hK hP hD hS [0, 1, 2, 3, 4, 5, 6, 7, 8, 9] [10, 11, 12, 13, 14] rfl rfl rfl (by decide) rfl rfl rfl hl.1 rfl (Nat.le_of_ble_eq_true rfl) d_law_191 ⟨by decide, by decide⟩ (fun r u1 H locs hu hP hS => ?_)
  obtain ⟨x1, u1, hd1⟩ := u1
  obtain ⟨hr1, hx1, hA1⟩ := hu
  dsimp only at hx1 hA1
  have hP : va_P D classes (wAu cB cI cZ a (x1, u1, hd1) ++ wMu cB cI a2 (x, fb, st, sz, bs)) H := hP.sub [5, 6, 7, 8, 9, 10, 11, 12, 13, 14, 0, 1, 2, 3, 4] rfl
  have hD : va_D (fun q : Nat => s.heap.size ≤ q) (wAu cB cI cZ a (x1, u1, hd1) ++ wMu cB cI a2 (x, fb, st, sz, bs)) := dA hD rfl
  refine lv_aload_n hx hb d_law_194 rfl (lv_at hl 2 rfl) ?_
  refine lv_aload_n hx hb d_law_195 rfl (lv_at hl 0 rfl) ?_
  refine lv_iload_n hx hb d_law_196 rfl (lv_at hl 3 rfl) ?_
  refine lv_iconst (v := nI 1) hx hb d_law_197 (by decide) ?_
  refine lv_iadd hx hb d_law_198 ?_
  refine tpE (y := nI (i + 1)) (nI_add _ _) ?_
  refine sld S hX hbl hS (i + 1) (by omega) hL d_law_199 ?_
  refine lv_aload_n hx hb d_law_200 rfl (lv_at hl 0 rfl) ?_
  refine lv_iload_n hx hb d_law_201 rfl (lv_at hl 3 rfl) ?_
  refine lv_iconst (v := nI 2) hx hb d_law_202 (by decide) ?_
  refine lv_iadd hx hb d_law_203 ?_
  refine tpE (y := nI (i + 2)) (nI_add _ _) ?_
  refine sld S hX hbl hS (i + 2) (by omega) hL d_law_204 ?_
  refine lv_aload_n hx hb d_law_205 rfl (lv_at hl 0 rfl) ?_
  refine lv_iload_n hx hb d_law_206 rfl (lv_at hl 3 rfl) ?_
  refine lv_iconst (v := nI 3) hx hb d_law_207 (by decide) ?_
  refine lv_iadd hx hb d_law_208 ?_
  refine tpE (y := nI (i + 3)) (nI_add _ _) ?_
  refine sld S hX hbl hS (i + 3) (by omega) hL d_law_209 ?_
  refine cmI (As := [.int (xs (i + 1)), .int (xs (i + 2)), .int (xs (i + 3))]) (rest := [.int r]) (wr := wAu cB cI cZ a (x1, u1, hd1)) S (k_M_put l D cB cI cZ a2 x fb st sz bs (xs (i + 1)) (xs (i + 2)) (xs (i + 3)) hO hB) (cw_law_32 S.2.2.2.2 ⟨by decide, by decide⟩) hK hP hD hS [10, 11, 12, 13, 14] [0, 1, 2, 3, 4, 5, 6, 7, 8, 9] rfl rfl rfl (by decide) rfl rfl rfl hl.1 rfl (Nat.le_of_ble_eq_true rfl) d_law_210 ⟨by decide, by decide⟩ (fun r2 v H locs hv hP hS => ?_)
  obtain ⟨y1, fb1, st1, sz1, bs1⟩ := v
  obtain ⟨hr2, hy1, hB1⟩ := hv
  dsimp only at hy1 hB1
  have hP : va_P D classes (wAu cB cI cZ a (x1, u1, hd1) ++ wMu cB cI a2 (y1, fb1, st1, sz1, bs1)) H := hP
  have hD : va_D (fun q : Nat => s.heap.size ≤ q) (wAu cB cI cZ a (x1, u1, hd1) ++ wMu cB cI a2 (y1, fb1, st1, sz1, bs1)) := dA hD rfl
  refine lv_icmp_eq (tgt := 442) hx hb d_law_213 (by decide) (fun c1 => ?_) (fun c1 => absurd (hr1.trans hr2.symm) c1)
  have e1 : x1 = y1 := hx1.trans hy1.symm
  subst e1
  exact kx x1 u1 hd1 fb1 st1 sz1 bs1 (by rw [hx1]; exact Ok_pt hO) hA1 hB1 H locs hP hD hS ls hl
set_option maxHeartbeats 4000000 in
/-- case 4: fill -/
theorem law_c4 {p : Program} {l : Launch} {e : Env} {s : State} {m : MethodId} {below : List Frame} {meth : Method} {c : Code} {D : va_G} {cB cI cZ : ClassId} {a a2 : Nat → Nat} {b L i : Nat} {xs : Nat → Int32} (hL : L ≤ 2560) (hi : i + 5 ≤ L) (S : CallFix p m c code 4 s #[Value.ref b] aw R_law) (hK : va_K D classes (TY cB cI cZ) s) (hX : va_X b L xs s s.heap) (hbl : b < s.heap.size) (kx : ∀ (x : Ab) (u : Sh) (hd fb : Nat → Int32) (st : Nat → Nat) (sz bs : Nat → Int32), Ok x → RepA x u hd → RepB x fb st sz bs → ∀ (H : Heap) (locs : List Loc), va_P D classes (wAu cB cI cZ a (x, u, hd) ++ wMu cB cI a2 (x, fb, st, sz, bs)) H → va_D (fun q : Nat => s.heap.size ≤ q) (wAu cB cI cZ a (x, u, hd) ++ wMu cB cI a2 (x, fb, st, sz, bs)) → va_S (fun q : Nat => s.heap.size ≤ q) s.heap H locs → ∀ (ls : Array Slot), lv_has ls 4 [(0, .ref b), (1, .ref (a 0)), (2, .ref (a2 0)), (3, .int (nI i))] → W p l e room_1 s m #[Value.ref b] below meth c H locs 600000 7302250 (lw_Z below #[Value.ref b] s) (F0 m 442 ls [])) : ∀ (x : Ab) (u : Sh) (hd fb : Nat → Int32) (st : Nat → Nat) (sz bs : Nat → Int32), Ok x → RepA x u hd → RepB x fb st sz bs → ∀ (H : Heap) (locs : List Loc), va_P D classes (wAu cB cI cZ a (x, u, hd) ++ wMu cB cI a2 (x, fb, st, sz, bs)) H → va_D (fun q : Nat => s.heap.size ≤ q) (wAu cB cI cZ a (x, u, hd) ++ wMu cB cI a2 (x, fb, st, sz, bs)) → va_S (fun q : Nat => s.heap.size ≤ q) s.heap H locs → ∀ (ls : Array Slot), lv_has ls 4 [(0, .ref b), (1, .ref (a 0)), (2, .ref (a2 0)), (3, .int (nI i))] → W p l e room_1 s m #[Value.ref b] below meth c H locs 600000 7302250 (lw_Z below #[Value.ref b] s) (F0 m 218 ls []) := by
  have hx := S.1
  have hb := S.2.1
  intro x u hd fb st sz bs hO hA hB H locs hP hD hS ls hl
  refine lv_aload_n hx hb d_law_218 rfl (lv_at hl 1 rfl) ?_
  refine lv_aload_n hx hb d_law_219 rfl (lv_at hl 0 rfl) ?_
  refine lv_iload_n hx hb d_law_220 rfl (lv_at hl 3 rfl) ?_
  refine lv_iconst (v := nI 1) hx hb d_law_221 (by decide) ?_
  refine lv_iadd hx hb d_law_222 ?_
  refine tpE (y := nI (i + 1)) (nI_add _ _) ?_
  refine sld S hX hbl hS (i + 1) (by omega) hL d_law_223 ?_
  refine lv_aload_n hx hb d_law_224 rfl (lv_at hl 0 rfl) ?_
  refine lv_iload_n hx hb d_law_225 rfl (lv_at hl 3 rfl) ?_
  refine lv_iconst (v := nI 2) hx hb d_law_226 (by decide) ?_
  refine lv_iadd hx hb d_law_227 ?_
  refine tpE (y := nI (i + 2)) (nI_add _ _) ?_
  refine sld S hX hbl hS (i + 2) (by omega) hL d_law_228 ?_
  refine lv_aload_n hx hb d_law_229 rfl (lv_at hl 0 rfl) ?_
  refine lv_iload_n hx hb d_law_230 rfl (lv_at hl 3 rfl) ?_
  refine lv_iconst (v := nI 3) hx hb d_law_231 (by decide) ?_
  refine lv_iadd hx hb d_law_232 ?_
  refine tpE (y := nI (i + 3)) (nI_add _ _) ?_
  refine sld S hX hbl hS (i + 3) (by omega) hL d_law_233 ?_
  refine lv_aload_n hx hb d_law_234 rfl (lv_at hl 0 rfl) ?_
  refine lv_iload_n hx hb d_law_235 rfl (lv_at hl 3 rfl) ?_
  refine lv_iconst (v := nI 4) hx hb d_law_236 (by decide) ?_
  refine lv_iadd hx hb d_law_237 ?_
  refine tpE (y := nI (i + 4)) (nI_add _ _) ?_
  refine sld S hX hbl hS (i + 4) (by omega) hL d_law_238 ?_
  refine cmI (As := [.int (xs (i + 1)), .int (xs (i + 2)), .int (xs (i + 3)), .int (xs (i + 4))]) (rest := []) (wr := wMu cB cI a2 (x, fb, st, sz, bs)) S (k_A_fill l D cB cI cZ a x u hd (xs (i + 1)) (xs (i + 2)) (xs (i + 3)) (xs (i + 4)) hO hA) (cw_law_33 S.2.2.2.2 ⟨by decide, by decide⟩) hK hP hD hS [0, 1, 2, 3, 4, 5, 6, 7, 8, 9] [10, 11, 12, 13, 14] rfl rfl rfl (by decide) rfl rfl rfl hl.1 rfl (Nat.le_of_ble_eq_true rfl) d_law_239 ⟨by decide, by decide⟩ (fun r u1 H locs hu hP hS => ?_)
  obtain ⟨x1, u1, hd1⟩ := u1
  obtain ⟨hr1, hx1, hA1⟩ := hu
  dsimp only at hx1 hA1
  have hP : va_P D classes (wAu cB cI cZ a (x1, u1, hd1) ++ wMu cB cI a2 (x, fb, st, sz, bs)) H := hP.sub [5, 6, 7, 8, 9, 10, 11, 12, 13, 14, 0, 1, 2, 3, 4] rfl
  have hD : va_D (fun q : Nat => s.heap.size ≤ q) (wAu cB cI cZ a (x1, u1, hd1) ++ wMu cB cI a2 (x, fb, st, sz, bs)) := dA hD rfl
  refine lv_aload_n hx hb d_law_242 rfl (lv_at hl 2 rfl) ?_
  refine lv_aload_n hx hb d_law_243 rfl (lv_at hl 0 rfl) ?_
  refine lv_iload_n hx hb d_law_244 rfl (lv_at hl 3 rfl) ?_
  refine lv_iconst (v := nI 1) hx hb d_law_245 (by decide) ?_
  refine lv_iadd hx hb d_law_246 ?_
  refine tpE (y := nI (i + 1)) (nI_add _ _) ?_
  refine sld S hX hbl hS (i + 1) (by omega) hL d_law_247 ?_
  refine lv_aload_n hx hb d_law_248 rfl (lv_at hl 0 rfl) ?_
  refine lv_iload_n hx hb d_law_249 rfl (lv_at hl 3 rfl) ?_
  refine lv_iconst (v := nI 2) hx hb d_law_250 (by decide) ?_
  refine lv_iadd hx hb d_law_251 ?_
  refine tpE (y := nI (i + 2)) (nI_add _ _) ?_
  refine sld S hX hbl hS (i + 2) (by omega) hL d_law_252 ?_
  refine lv_aload_n hx hb d_law_253 rfl (lv_at hl 0 rfl) ?_
  refine lv_iload_n hx hb d_law_254 rfl (lv_at hl 3 rfl) ?_
  refine lv_iconst (v := nI 3) hx hb d_law_255 (by decide) ?_
  refine lv_iadd hx hb d_law_256 ?_
  refine tpE (y := nI (i + 3)) (nI_add _ _) ?_
  refine sld S hX hbl hS (i + 3) (by omega) hL d_law_257 ?_
  refine lv_aload_n hx hb d_law_258 rfl (lv_at hl 0 rfl) ?_
  refine lv_iload_n hx hb d_law_259 rfl (lv_at hl 3 rfl) ?_
  refine lv_iconst (v := nI 4) hx hb d_law_260 (by decide) ?_
  refine lv_iadd hx hb d_law_261 ?_
  refine tpE (y := nI (i + 4)) (nI_add _ _) ?_
  refine sld S hX hbl hS (i + 4) (by omega) hL d_law_262 ?_
  refine cmI (As := [.int (xs (i + 1)), .int (xs (i + 2)), .int (xs (i + 3)), .int (xs (i + 4))]) (rest := [.int r]) (wr := wAu cB cI cZ a (x1, u1, hd1)) S (k_M_fill l D cB cI cZ a2 x fb st sz bs (xs (i + 1)) (xs (i + 2)) (xs (i + 3)) (xs (i + 4)) hO hB) (cw_law_37 S.2.2.2.2 ⟨by decide, by decide⟩) hK hP hD hS [10, 11, 12, 13, 14] [0, 1, 2, 3, 4, 5, 6, 7, 8, 9] rfl rfl rfl (by decide) rfl rfl rfl hl.1 rfl (Nat.le_of_ble_eq_true rfl) d_law_263 ⟨by decide, by decide⟩ (fun r2 v H locs hv hP hS => ?_)
  obtain ⟨y1, fb1, st1, sz1, bs1⟩ := v
  obtain ⟨hr2, hy1, hB1⟩ := hv
  dsimp only at hy1 hB1
  have hP : va_P D classes (wAu cB cI cZ a (x1, u1, hd1) ++ wMu cB cI a2 (y1, fb1, st1, sz1, bs1)) H := hP
  have hD : va_D (fun q : Nat => s.heap.size ≤ q) (wAu cB cI cZ a (x1, u1, hd1) ++ wMu cB cI a2 (y1, fb1, st1, sz1, bs1)) := dA hD rfl
  refine lv_icmp_eq (tgt := 442) hx hb d_law_266 (by decide) (fun c1 => ?_) (fun c1 => absurd (hr1.trans hr2.symm) c1)
  have e1 : x1 = y1 := hx1.trans hy1.symm
  subst e1
  exact kx x1 u1 hd1 fb1 st1 sz1 bs1 (by rw [hx1]; exact Ok_fl hO) hA1 hB1 H locs hP hD hS ls hl
set_option maxHeartbeats 4000000 in
/-- case 5: copy -/
theorem law_c5 {p : Program} {l : Launch} {e : Env} {s : State} {m : MethodId} {below : List Frame} {meth : Method} {c : Code} {D : va_G} {cB cI cZ : ClassId} {a a2 : Nat → Nat} {b L i : Nat} {xs : Nat → Int32} (hL : L ≤ 2560) (hi : i + 5 ≤ L) (S : CallFix p m c code 4 s #[Value.ref b] aw R_law) (hK : va_K D classes (TY cB cI cZ) s) (hX : va_X b L xs s s.heap) (hbl : b < s.heap.size) (kx : ∀ (x : Ab) (u : Sh) (hd fb : Nat → Int32) (st : Nat → Nat) (sz bs : Nat → Int32), Ok x → RepA x u hd → RepB x fb st sz bs → ∀ (H : Heap) (locs : List Loc), va_P D classes (wAu cB cI cZ a (x, u, hd) ++ wMu cB cI a2 (x, fb, st, sz, bs)) H → va_D (fun q : Nat => s.heap.size ≤ q) (wAu cB cI cZ a (x, u, hd) ++ wMu cB cI a2 (x, fb, st, sz, bs)) → va_S (fun q : Nat => s.heap.size ≤ q) s.heap H locs → ∀ (ls : Array Slot), lv_has ls 4 [(0, .ref b), (1, .ref (a 0)), (2, .ref (a2 0)), (3, .int (nI i))] → W p l e room_1 s m #[Value.ref b] below meth c H locs 600000 7302250 (lw_Z below #[Value.ref b] s) (F0 m 442 ls [])) : ∀ (x : Ab) (u : Sh) (hd fb : Nat → Int32) (st : Nat → Nat) (sz bs : Nat → Int32), Ok x → RepA x u hd → RepB x fb st sz bs → ∀ (H : Heap) (locs : List Loc), va_P D classes (wAu cB cI cZ a (x, u, hd) ++ wMu cB cI a2 (x, fb, st, sz, bs)) H → va_D (fun q : Nat => s.heap.size ≤ q) (wAu cB cI cZ a (x, u, hd) ++ wMu cB cI a2 (x, fb, st, sz, bs)) → va_S (fun q : Nat => s.heap.size ≤ q) s.heap H locs → ∀ (ls : Array Slot), lv_has ls 4 [(0, .ref b), (1, .ref (a 0)), (2, .ref (a2 0)), (3, .int (nI i))] → W p l e room_1 s m #[Value.ref b] below meth c H locs 600000 7302250 (lw_Z below #[Value.ref b] s) (F0 m 271 ls []) := by
  have hx := S.1
  have hb := S.2.1
  intro x u hd fb st sz bs hO hA hB H locs hP hD hS ls hl
  refine lv_aload_n hx hb d_law_271 rfl (lv_at hl 1 rfl) ?_
  refine lv_aload_n hx hb d_law_272 rfl (lv_at hl 0 rfl) ?_
  refine lv_iload_n hx hb d_law_273 rfl (lv_at hl 3 rfl) ?_
  refine lv_iconst (v := nI 1) hx hb d_law_274 (by decide) ?_
  refine lv_iadd hx hb d_law_275 ?_
  refine tpE (y := nI (i + 1)) (nI_add _ _) ?_
  refine sld S hX hbl hS (i + 1) (by omega) hL d_law_276 ?_
  refine lv_aload_n hx hb d_law_277 rfl (lv_at hl 0 rfl) ?_
  refine lv_iload_n hx hb d_law_278 rfl (lv_at hl 3 rfl) ?_
  refine lv_iconst (v := nI 2) hx hb d_law_279 (by decide) ?_
  refine lv_iadd hx hb d_law_280 ?_
  refine tpE (y := nI (i + 2)) (nI_add _ _) ?_
  refine sld S hX hbl hS (i + 2) (by omega) hL d_law_281 ?_
  refine cmI (As := [.int (xs (i + 1)), .int (xs (i + 2))]) (rest := []) (wr := wMu cB cI a2 (x, fb, st, sz, bs)) S (k_A_copy l D cB cI cZ a x u hd (xs (i + 1)) (xs (i + 2)) hO hA) (cw_law_38 S.2.2.2.2 ⟨by decide, by decide⟩) hK hP hD hS [0, 1, 2, 3, 4, 5, 6, 7, 8, 9] [10, 11, 12, 13, 14] rfl rfl rfl (by decide) rfl rfl rfl hl.1 rfl (Nat.le_of_ble_eq_true rfl) d_law_282 ⟨by decide, by decide⟩ (fun r u1 H locs hu hP hS => ?_)
  obtain ⟨x1, u1, hd1⟩ := u1
  obtain ⟨hr1, hx1, hA1⟩ := hu
  dsimp only at hx1 hA1
  have hP : va_P D classes (wAu cB cI cZ a (x1, u1, hd1) ++ wMu cB cI a2 (x, fb, st, sz, bs)) H := hP.sub [5, 6, 7, 8, 9, 10, 11, 12, 13, 14, 0, 1, 2, 3, 4] rfl
  have hD : va_D (fun q : Nat => s.heap.size ≤ q) (wAu cB cI cZ a (x1, u1, hd1) ++ wMu cB cI a2 (x, fb, st, sz, bs)) := dA hD rfl
  refine lv_aload_n hx hb d_law_285 rfl (lv_at hl 2 rfl) ?_
  refine lv_aload_n hx hb d_law_286 rfl (lv_at hl 0 rfl) ?_
  refine lv_iload_n hx hb d_law_287 rfl (lv_at hl 3 rfl) ?_
  refine lv_iconst (v := nI 1) hx hb d_law_288 (by decide) ?_
  refine lv_iadd hx hb d_law_289 ?_
  refine tpE (y := nI (i + 1)) (nI_add _ _) ?_
  refine sld S hX hbl hS (i + 1) (by omega) hL d_law_290 ?_
  refine lv_aload_n hx hb d_law_291 rfl (lv_at hl 0 rfl) ?_
  refine lv_iload_n hx hb d_law_292 rfl (lv_at hl 3 rfl) ?_
  refine lv_iconst (v := nI 2) hx hb d_law_293 (by decide) ?_
  refine lv_iadd hx hb d_law_294 ?_
  refine tpE (y := nI (i + 2)) (nI_add _ _) ?_
  refine sld S hX hbl hS (i + 2) (by omega) hL d_law_295 ?_
  refine cmI (As := [.int (xs (i + 1)), .int (xs (i + 2))]) (rest := [.int r]) (wr := wAu cB cI cZ a (x1, u1, hd1)) S (k_M_copy l D cB cI cZ a2 x fb st sz bs (xs (i + 1)) (xs (i + 2)) hO hB) (cw_law_41 S.2.2.2.2 ⟨by decide, by decide⟩) hK hP hD hS [10, 11, 12, 13, 14] [0, 1, 2, 3, 4, 5, 6, 7, 8, 9] rfl rfl rfl (by decide) rfl rfl rfl hl.1 rfl (Nat.le_of_ble_eq_true rfl) d_law_296 ⟨by decide, by decide⟩ (fun r2 v H locs hv hP hS => ?_)
  obtain ⟨y1, fb1, st1, sz1, bs1⟩ := v
  obtain ⟨hr2, hy1, hB1⟩ := hv
  dsimp only at hy1 hB1
  have hP : va_P D classes (wAu cB cI cZ a (x1, u1, hd1) ++ wMu cB cI a2 (y1, fb1, st1, sz1, bs1)) H := hP
  have hD : va_D (fun q : Nat => s.heap.size ≤ q) (wAu cB cI cZ a (x1, u1, hd1) ++ wMu cB cI a2 (y1, fb1, st1, sz1, bs1)) := dA hD rfl
  refine lv_icmp_eq (tgt := 442) hx hb d_law_299 (by decide) (fun c1 => ?_) (fun c1 => absurd (hr1.trans hr2.symm) c1)
  have e1 : x1 = y1 := hx1.trans hy1.symm
  subst e1
  exact kx x1 u1 hd1 fb1 st1 sz1 bs1 (by rw [hx1]; exact Ok_co hO) hA1 hB1 H locs hP hD hS ls hl
set_option maxHeartbeats 4000000 in
/-- case 6: get -/
theorem law_c6 {p : Program} {l : Launch} {e : Env} {s : State} {m : MethodId} {below : List Frame} {meth : Method} {c : Code} {D : va_G} {cB cI cZ : ClassId} {a a2 : Nat → Nat} {b L i : Nat} {xs : Nat → Int32} (hL : L ≤ 2560) (hi : i + 5 ≤ L) (S : CallFix p m c code 4 s #[Value.ref b] aw R_law) (hK : va_K D classes (TY cB cI cZ) s) (hX : va_X b L xs s s.heap) (hbl : b < s.heap.size) (kx : ∀ (x : Ab) (u : Sh) (hd fb : Nat → Int32) (st : Nat → Nat) (sz bs : Nat → Int32), Ok x → RepA x u hd → RepB x fb st sz bs → ∀ (H : Heap) (locs : List Loc), va_P D classes (wAu cB cI cZ a (x, u, hd) ++ wMu cB cI a2 (x, fb, st, sz, bs)) H → va_D (fun q : Nat => s.heap.size ≤ q) (wAu cB cI cZ a (x, u, hd) ++ wMu cB cI a2 (x, fb, st, sz, bs)) → va_S (fun q : Nat => s.heap.size ≤ q) s.heap H locs → ∀ (ls : Array Slot), lv_has ls 4 [(0, .ref b), (1, .ref (a 0)), (2, .ref (a2 0)), (3, .int (nI i))] → W p l e room_1 s m #[Value.ref b] below meth c H locs 600000 7302250 (lw_Z below #[Value.ref b] s) (F0 m 442 ls [])) : ∀ (x : Ab) (u : Sh) (hd fb : Nat → Int32) (st : Nat → Nat) (sz bs : Nat → Int32), Ok x → RepA x u hd → RepB x fb st sz bs → ∀ (H : Heap) (locs : List Loc), va_P D classes (wAu cB cI cZ a (x, u, hd) ++ wMu cB cI a2 (x, fb, st, sz, bs)) H → va_D (fun q : Nat => s.heap.size ≤ q) (wAu cB cI cZ a (x, u, hd) ++ wMu cB cI a2 (x, fb, st, sz, bs)) → va_S (fun q : Nat => s.heap.size ≤ q) s.heap H locs → ∀ (ls : Array Slot), lv_has ls 4 [(0, .ref b), (1, .ref (a 0)), (2, .ref (a2 0)), (3, .int (nI i))] → W p l e room_1 s m #[Value.ref b] below meth c H locs 600000 7302250 (lw_Z below #[Value.ref b] s) (F0 m 304 ls []) := by
  have hx := S.1
  have hb := S.2.1
  intro x u hd fb st sz bs hO hA hB H locs hP hD hS ls hl
  refine lv_aload_n hx hb d_law_304 rfl (lv_at hl 1 rfl) ?_
  refine lv_aload_n hx hb d_law_305 rfl (lv_at hl 0 rfl) ?_
  refine lv_iload_n hx hb d_law_306 rfl (lv_at hl 3 rfl) ?_
  refine lv_iconst (v := nI 1) hx hb d_law_307 (by decide) ?_
  refine lv_iadd hx hb d_law_308 ?_
  refine tpE (y := nI (i + 1)) (nI_add _ _) ?_
  refine sld S hX hbl hS (i + 1) (by omega) hL d_law_309 ?_
  refine lv_aload_n hx hb d_law_310 rfl (lv_at hl 0 rfl) ?_
  refine lv_iload_n hx hb d_law_311 rfl (lv_at hl 3 rfl) ?_
  refine lv_iconst (v := nI 2) hx hb d_law_312 (by decide) ?_
  refine lv_iadd hx hb d_law_313 ?_
  refine tpE (y := nI (i + 2)) (nI_add _ _) ?_
  refine sld S hX hbl hS (i + 2) (by omega) hL d_law_314 ?_
  refine cpV (As := [.int (xs (i + 1)), .int (xs (i + 2))]) (rest := []) S (k_A_get l D cB cI cZ a x u hd (xs (i + 1)) (xs (i + 2)) hO hA) (cw_law_42 S.2.2.2.2 ⟨by decide, by decide⟩) hK hP hD hS [0, 1, 2, 3, 4, 5, 6, 7, 8, 9] rfl rfl rfl rfl rfl hl.1 rfl (Nat.le_of_ble_eq_true rfl) d_law_315 ⟨by decide, by decide⟩ (fun H locs hP hS => ?_)
  refine lv_aload_n hx hb d_law_318 rfl (lv_at hl 2 rfl) ?_
  refine lv_aload_n hx hb d_law_319 rfl (lv_at hl 0 rfl) ?_
  refine lv_iload_n hx hb d_law_320 rfl (lv_at hl 3 rfl) ?_
  refine lv_iconst (v := nI 1) hx hb d_law_321 (by decide) ?_
  refine lv_iadd hx hb d_law_322 ?_
  refine tpE (y := nI (i + 1)) (nI_add _ _) ?_
  refine sld S hX hbl hS (i + 1) (by omega) hL d_law_323 ?_
  refine lv_aload_n hx hb d_law_324 rfl (lv_at hl 0 rfl) ?_
  refine lv_iload_n hx hb d_law_325 rfl (lv_at hl 3 rfl) ?_
  refine lv_iconst (v := nI 2) hx hb d_law_326 (by decide) ?_
  refine lv_iadd hx hb d_law_327 ?_
  refine tpE (y := nI (i + 2)) (nI_add _ _) ?_
  refine sld S hX hbl hS (i + 2) (by omega) hL d_law_328 ?_
  refine cpV (As := [.int (xs (i + 1)), .int (xs (i + 2))]) (rest := [.int (gtR x (xs (i + 1)) (xs (i + 2)))]) S (k_M_get l D cB cI cZ a2 x fb st sz bs (xs (i + 1)) (xs (i + 2)) hO hB) (cw_law_45 S.2.2.2.2 ⟨by decide, by decide⟩) hK hP hD hS [10, 11, 12, 13, 14] rfl rfl rfl rfl rfl hl.1 rfl (Nat.le_of_ble_eq_true rfl) d_law_329 ⟨by decide, by decide⟩ (fun H locs hP hS => ?_)
  refine lv_icmp_eq (tgt := 442) hx hb d_law_332 (by decide) (fun c1 => ?_) (fun c1 => absurd rfl c1)
  exact kx x u hd fb st sz bs hO hA hB H locs hP hD hS ls hl
set_option maxHeartbeats 4000000 in
/-- case 7: size -/
theorem law_c7 {p : Program} {l : Launch} {e : Env} {s : State} {m : MethodId} {below : List Frame} {meth : Method} {c : Code} {D : va_G} {cB cI cZ : ClassId} {a a2 : Nat → Nat} {b L i : Nat} {xs : Nat → Int32} (hL : L ≤ 2560) (hi : i + 5 ≤ L) (S : CallFix p m c code 4 s #[Value.ref b] aw R_law) (hK : va_K D classes (TY cB cI cZ) s) (hX : va_X b L xs s s.heap) (hbl : b < s.heap.size) (kx : ∀ (x : Ab) (u : Sh) (hd fb : Nat → Int32) (st : Nat → Nat) (sz bs : Nat → Int32), Ok x → RepA x u hd → RepB x fb st sz bs → ∀ (H : Heap) (locs : List Loc), va_P D classes (wAu cB cI cZ a (x, u, hd) ++ wMu cB cI a2 (x, fb, st, sz, bs)) H → va_D (fun q : Nat => s.heap.size ≤ q) (wAu cB cI cZ a (x, u, hd) ++ wMu cB cI a2 (x, fb, st, sz, bs)) → va_S (fun q : Nat => s.heap.size ≤ q) s.heap H locs → ∀ (ls : Array Slot), lv_has ls 4 [(0, .ref b), (1, .ref (a 0)), (2, .ref (a2 0)), (3, .int (nI i))] → W p l e room_1 s m #[Value.ref b] below meth c H locs 600000 7302250 (lw_Z below #[Value.ref b] s) (F0 m 442 ls [])) : ∀ (x : Ab) (u : Sh) (hd fb : Nat → Int32) (st : Nat → Nat) (sz bs : Nat → Int32), Ok x → RepA x u hd → RepB x fb st sz bs → ∀ (H : Heap) (locs : List Loc), va_P D classes (wAu cB cI cZ a (x, u, hd) ++ wMu cB cI a2 (x, fb, st, sz, bs)) H → va_D (fun q : Nat => s.heap.size ≤ q) (wAu cB cI cZ a (x, u, hd) ++ wMu cB cI a2 (x, fb, st, sz, bs)) → va_S (fun q : Nat => s.heap.size ≤ q) s.heap H locs → ∀ (ls : Array Slot), lv_has ls 4 [(0, .ref b), (1, .ref (a 0)), (2, .ref (a2 0)), (3, .int (nI i))] → W p l e room_1 s m #[Value.ref b] below meth c H locs 600000 7302250 (lw_Z below #[Value.ref b] s) (F0 m 337 ls []) := by
  have hx := S.1
  have hb := S.2.1
  intro x u hd fb st sz bs hO hA hB H locs hP hD hS ls hl
  refine lv_aload_n hx hb d_law_337 rfl (lv_at hl 1 rfl) ?_
  refine lv_aload_n hx hb d_law_338 rfl (lv_at hl 0 rfl) ?_
  refine lv_iload_n hx hb d_law_339 rfl (lv_at hl 3 rfl) ?_
  refine lv_iconst (v := nI 1) hx hb d_law_340 (by decide) ?_
  refine lv_iadd hx hb d_law_341 ?_
  refine tpE (y := nI (i + 1)) (nI_add _ _) ?_
  refine sld S hX hbl hS (i + 1) (by omega) hL d_law_342 ?_
  refine cpV (As := [.int (xs (i + 1))]) (rest := []) S (k_A_size l D cB cI cZ a x u hd (xs (i + 1)) hO hA) (cw_law_46 S.2.2.2.2 ⟨by decide, by decide⟩) hK hP hD hS [0, 1, 2, 3, 4, 5, 6, 7, 8, 9] rfl rfl rfl rfl rfl hl.1 rfl (Nat.le_of_ble_eq_true rfl) d_law_343 ⟨by decide, by decide⟩ (fun H locs hP hS => ?_)
  refine lv_aload_n hx hb d_law_346 rfl (lv_at hl 2 rfl) ?_
  refine lv_aload_n hx hb d_law_347 rfl (lv_at hl 0 rfl) ?_
  refine lv_iload_n hx hb d_law_348 rfl (lv_at hl 3 rfl) ?_
  refine lv_iconst (v := nI 1) hx hb d_law_349 (by decide) ?_
  refine lv_iadd hx hb d_law_350 ?_
  refine tpE (y := nI (i + 1)) (nI_add _ _) ?_
  refine sld S hX hbl hS (i + 1) (by omega) hL d_law_351 ?_
  refine cpV (As := [.int (xs (i + 1))]) (rest := [.int (szR x (xs (i + 1)))]) S (k_M_size l D cB cI cZ a2 x fb st sz bs (xs (i + 1)) hO hB) (cw_law_49 S.2.2.2.2 ⟨by decide, by decide⟩) hK hP hD hS [10, 11, 12, 13, 14] rfl rfl rfl rfl rfl hl.1 rfl (Nat.le_of_ble_eq_true rfl) d_law_352 ⟨by decide, by decide⟩ (fun H locs hP hS => ?_)
  refine lv_icmp_eq (tgt := 442) hx hb d_law_355 (by decide) (fun c1 => ?_) (fun c1 => absurd rfl c1)
  exact kx x u hd fb st sz bs hO hA hB H locs hP hD hS ls hl
set_option maxHeartbeats 4000000 in
/-- case 8: compare -/
theorem law_c8 {p : Program} {l : Launch} {e : Env} {s : State} {m : MethodId} {below : List Frame} {meth : Method} {c : Code} {D : va_G} {cB cI cZ : ClassId} {a a2 : Nat → Nat} {b L i : Nat} {xs : Nat → Int32} (hL : L ≤ 2560) (hi : i + 5 ≤ L) (S : CallFix p m c code 4 s #[Value.ref b] aw R_law) (hK : va_K D classes (TY cB cI cZ) s) (hX : va_X b L xs s s.heap) (hbl : b < s.heap.size) (kx : ∀ (x : Ab) (u : Sh) (hd fb : Nat → Int32) (st : Nat → Nat) (sz bs : Nat → Int32), Ok x → RepA x u hd → RepB x fb st sz bs → ∀ (H : Heap) (locs : List Loc), va_P D classes (wAu cB cI cZ a (x, u, hd) ++ wMu cB cI a2 (x, fb, st, sz, bs)) H → va_D (fun q : Nat => s.heap.size ≤ q) (wAu cB cI cZ a (x, u, hd) ++ wMu cB cI a2 (x, fb, st, sz, bs)) → va_S (fun q : Nat => s.heap.size ≤ q) s.heap H locs → ∀ (ls : Array Slot), lv_has ls 4 [(0, .ref b), (1, .ref (a 0)), (2, .ref (a2 0)), (3, .int (nI i))] → W p l e room_1 s m #[Value.ref b] below meth c H locs 600000 7302250 (lw_Z below #[Value.ref b] s) (F0 m 442 ls [])) : ∀ (x : Ab) (u : Sh) (hd fb : Nat → Int32) (st : Nat → Nat) (sz bs : Nat → Int32), Ok x → RepA x u hd → RepB x fb st sz bs → ∀ (H : Heap) (locs : List Loc), va_P D classes (wAu cB cI cZ a (x, u, hd) ++ wMu cB cI a2 (x, fb, st, sz, bs)) H → va_D (fun q : Nat => s.heap.size ≤ q) (wAu cB cI cZ a (x, u, hd) ++ wMu cB cI a2 (x, fb, st, sz, bs)) → va_S (fun q : Nat => s.heap.size ≤ q) s.heap H locs → ∀ (ls : Array Slot), lv_has ls 4 [(0, .ref b), (1, .ref (a 0)), (2, .ref (a2 0)), (3, .int (nI i))] → W p l e room_1 s m #[Value.ref b] below meth c H locs 600000 7302250 (lw_Z below #[Value.ref b] s) (F0 m 360 ls []) := by
  have hx := S.1
  have hb := S.2.1
  intro x u hd fb st sz bs hO hA hB H locs hP hD hS ls hl
  refine lv_aload_n hx hb d_law_360 rfl (lv_at hl 1 rfl) ?_
  refine lv_aload_n hx hb d_law_361 rfl (lv_at hl 0 rfl) ?_
  refine lv_iload_n hx hb d_law_362 rfl (lv_at hl 3 rfl) ?_
  refine lv_iconst (v := nI 1) hx hb d_law_363 (by decide) ?_
  refine lv_iadd hx hb d_law_364 ?_
  refine tpE (y := nI (i + 1)) (nI_add _ _) ?_
  refine sld S hX hbl hS (i + 1) (by omega) hL d_law_365 ?_
  refine lv_aload_n hx hb d_law_366 rfl (lv_at hl 0 rfl) ?_
  refine lv_iload_n hx hb d_law_367 rfl (lv_at hl 3 rfl) ?_
  refine lv_iconst (v := nI 2) hx hb d_law_368 (by decide) ?_
  refine lv_iadd hx hb d_law_369 ?_
  refine tpE (y := nI (i + 2)) (nI_add _ _) ?_
  refine sld S hX hbl hS (i + 2) (by omega) hL d_law_370 ?_
  refine cpV (As := [.int (xs (i + 1)), .int (xs (i + 2))]) (rest := []) S (k_A_compare l D cB cI cZ a x u hd (xs (i + 1)) (xs (i + 2)) hO hA) (cw_law_50 S.2.2.2.2 ⟨by decide, by decide⟩) hK hP hD hS [0, 1, 2, 3, 4, 5, 6, 7, 8, 9] rfl rfl rfl rfl rfl hl.1 rfl (Nat.le_of_ble_eq_true rfl) d_law_371 ⟨by decide, by decide⟩ (fun H locs hP hS => ?_)
  refine lv_aload_n hx hb d_law_374 rfl (lv_at hl 2 rfl) ?_
  refine lv_aload_n hx hb d_law_375 rfl (lv_at hl 0 rfl) ?_
  refine lv_iload_n hx hb d_law_376 rfl (lv_at hl 3 rfl) ?_
  refine lv_iconst (v := nI 1) hx hb d_law_377 (by decide) ?_
  refine lv_iadd hx hb d_law_378 ?_
  refine tpE (y := nI (i + 1)) (nI_add _ _) ?_
  refine sld S hX hbl hS (i + 1) (by omega) hL d_law_379 ?_
  refine lv_aload_n hx hb d_law_380 rfl (lv_at hl 0 rfl) ?_
  refine lv_iload_n hx hb d_law_381 rfl (lv_at hl 3 rfl) ?_
  refine lv_iconst (v := nI 2) hx hb d_law_382 (by decide) ?_
  refine lv_iadd hx hb d_law_383 ?_
  refine tpE (y := nI (i + 2)) (nI_add _ _) ?_
  refine sld S hX hbl hS (i + 2) (by omega) hL d_law_384 ?_
  refine cpV (As := [.int (xs (i + 1)), .int (xs (i + 2))]) (rest := [.int (cmR x (xs (i + 1)) (xs (i + 2)))]) S (k_M_compare l D cB cI cZ a2 x fb st sz bs (xs (i + 1)) (xs (i + 2)) hO hB) (cw_law_53 S.2.2.2.2 ⟨by decide, by decide⟩) hK hP hD hS [10, 11, 12, 13, 14] rfl rfl rfl rfl rfl hl.1 rfl (Nat.le_of_ble_eq_true rfl) d_law_385 ⟨by decide, by decide⟩ (fun H locs hP hS => ?_)
  refine lv_icmp_eq (tgt := 442) hx hb d_law_388 (by decide) (fun c1 => ?_) (fun c1 => absurd rfl c1)
  exact kx x u hd fb st sz bs hO hA hB H locs hP hD hS ls hl
set_option maxHeartbeats 4000000 in
/-- case 9: sum -/
theorem law_c9 {p : Program} {l : Launch} {e : Env} {s : State} {m : MethodId} {below : List Frame} {meth : Method} {c : Code} {D : va_G} {cB cI cZ : ClassId} {a a2 : Nat → Nat} {b L i : Nat} {xs : Nat → Int32} (hL : L ≤ 2560) (hi : i + 5 ≤ L) (S : CallFix p m c code 4 s #[Value.ref b] aw R_law) (hK : va_K D classes (TY cB cI cZ) s) (hX : va_X b L xs s s.heap) (hbl : b < s.heap.size) (kx : ∀ (x : Ab) (u : Sh) (hd fb : Nat → Int32) (st : Nat → Nat) (sz bs : Nat → Int32), Ok x → RepA x u hd → RepB x fb st sz bs → ∀ (H : Heap) (locs : List Loc), va_P D classes (wAu cB cI cZ a (x, u, hd) ++ wMu cB cI a2 (x, fb, st, sz, bs)) H → va_D (fun q : Nat => s.heap.size ≤ q) (wAu cB cI cZ a (x, u, hd) ++ wMu cB cI a2 (x, fb, st, sz, bs)) → va_S (fun q : Nat => s.heap.size ≤ q) s.heap H locs → ∀ (ls : Array Slot), lv_has ls 4 [(0, .ref b), (1, .ref (a 0)), (2, .ref (a2 0)), (3, .int (nI i))] → W p l e room_1 s m #[Value.ref b] below meth c H locs 600000 7302250 (lw_Z below #[Value.ref b] s) (F0 m 442 ls [])) : ∀ (x : Ab) (u : Sh) (hd fb : Nat → Int32) (st : Nat → Nat) (sz bs : Nat → Int32), Ok x → RepA x u hd → RepB x fb st sz bs → ∀ (H : Heap) (locs : List Loc), va_P D classes (wAu cB cI cZ a (x, u, hd) ++ wMu cB cI a2 (x, fb, st, sz, bs)) H → va_D (fun q : Nat => s.heap.size ≤ q) (wAu cB cI cZ a (x, u, hd) ++ wMu cB cI a2 (x, fb, st, sz, bs)) → va_S (fun q : Nat => s.heap.size ≤ q) s.heap H locs → ∀ (ls : Array Slot), lv_has ls 4 [(0, .ref b), (1, .ref (a 0)), (2, .ref (a2 0)), (3, .int (nI i))] → W p l e room_1 s m #[Value.ref b] below meth c H locs 600000 7302250 (lw_Z below #[Value.ref b] s) (F0 m 393 ls []) := by
  have hx := S.1
  have hb := S.2.1
  intro x u hd fb st sz bs hO hA hB H locs hP hD hS ls hl
  refine lv_aload_n hx hb d_law_393 rfl (lv_at hl 1 rfl) ?_
  refine lv_aload_n hx hb d_law_394 rfl (lv_at hl 0 rfl) ?_
  refine lv_iload_n hx hb d_law_395 rfl (lv_at hl 3 rfl) ?_
  refine lv_iconst (v := nI 1) hx hb d_law_396 (by decide) ?_
  refine lv_iadd hx hb d_law_397 ?_
  refine tpE (y := nI (i + 1)) (nI_add _ _) ?_
  refine sld S hX hbl hS (i + 1) (by omega) hL d_law_398 ?_
  refine cpV (As := [.int (xs (i + 1))]) (rest := []) S (k_A_sum l D cB cI cZ a x u hd (xs (i + 1)) hO hA) (cw_law_54 S.2.2.2.2 ⟨by decide, by decide⟩) hK hP hD hS [0, 1, 2, 3, 4, 5, 6, 7, 8, 9] rfl rfl rfl rfl rfl hl.1 rfl (Nat.le_of_ble_eq_true rfl) d_law_399 ⟨by decide, by decide⟩ (fun H locs hP hS => ?_)
  refine lv_aload_n hx hb d_law_402 rfl (lv_at hl 2 rfl) ?_
  refine lv_aload_n hx hb d_law_403 rfl (lv_at hl 0 rfl) ?_
  refine lv_iload_n hx hb d_law_404 rfl (lv_at hl 3 rfl) ?_
  refine lv_iconst (v := nI 1) hx hb d_law_405 (by decide) ?_
  refine lv_iadd hx hb d_law_406 ?_
  refine tpE (y := nI (i + 1)) (nI_add _ _) ?_
  refine sld S hX hbl hS (i + 1) (by omega) hL d_law_407 ?_
  refine cpV (As := [.int (xs (i + 1))]) (rest := [.int (suR x (xs (i + 1)))]) S (k_M_sum l D cB cI cZ a2 x fb st sz bs (xs (i + 1)) hO hB) (cw_law_57 S.2.2.2.2 ⟨by decide, by decide⟩) hK hP hD hS [10, 11, 12, 13, 14] rfl rfl rfl rfl rfl hl.1 rfl (Nat.le_of_ble_eq_true rfl) d_law_408 ⟨by decide, by decide⟩ (fun H locs hP hS => ?_)
  refine lv_icmp_eq (tgt := 442) hx hb d_law_411 (by decide) (fun c1 => ?_) (fun c1 => absurd rfl c1)
  exact kx x u hd fb st sz bs hO hA hB H locs hP hD hS ls hl
set_option maxHeartbeats 4000000 in
/-- case 10: rows -/
theorem law_c10 {p : Program} {l : Launch} {e : Env} {s : State} {m : MethodId} {below : List Frame} {meth : Method} {c : Code} {D : va_G} {cB cI cZ : ClassId} {a a2 : Nat → Nat} {b L i : Nat} {xs : Nat → Int32} (hL : L ≤ 2560) (hi : i + 5 ≤ L) (S : CallFix p m c code 4 s #[Value.ref b] aw R_law) (hK : va_K D classes (TY cB cI cZ) s) (hX : va_X b L xs s s.heap) (hbl : b < s.heap.size) (kx : ∀ (x : Ab) (u : Sh) (hd fb : Nat → Int32) (st : Nat → Nat) (sz bs : Nat → Int32), Ok x → RepA x u hd → RepB x fb st sz bs → ∀ (H : Heap) (locs : List Loc), va_P D classes (wAu cB cI cZ a (x, u, hd) ++ wMu cB cI a2 (x, fb, st, sz, bs)) H → va_D (fun q : Nat => s.heap.size ≤ q) (wAu cB cI cZ a (x, u, hd) ++ wMu cB cI a2 (x, fb, st, sz, bs)) → va_S (fun q : Nat => s.heap.size ≤ q) s.heap H locs → ∀ (ls : Array Slot), lv_has ls 4 [(0, .ref b), (1, .ref (a 0)), (2, .ref (a2 0)), (3, .int (nI i))] → W p l e room_1 s m #[Value.ref b] below meth c H locs 600000 7302250 (lw_Z below #[Value.ref b] s) (F0 m 442 ls [])) : ∀ (x : Ab) (u : Sh) (hd fb : Nat → Int32) (st : Nat → Nat) (sz bs : Nat → Int32), Ok x → RepA x u hd → RepB x fb st sz bs → ∀ (H : Heap) (locs : List Loc), va_P D classes (wAu cB cI cZ a (x, u, hd) ++ wMu cB cI a2 (x, fb, st, sz, bs)) H → va_D (fun q : Nat => s.heap.size ≤ q) (wAu cB cI cZ a (x, u, hd) ++ wMu cB cI a2 (x, fb, st, sz, bs)) → va_S (fun q : Nat => s.heap.size ≤ q) s.heap H locs → ∀ (ls : Array Slot), lv_has ls 4 [(0, .ref b), (1, .ref (a 0)), (2, .ref (a2 0)), (3, .int (nI i))] → W p l e room_1 s m #[Value.ref b] below meth c H locs 600000 7302250 (lw_Z below #[Value.ref b] s) (F0 m 416 ls []) := by
  have hx := S.1
  have hb := S.2.1
  intro x u hd fb st sz bs hO hA hB H locs hP hD hS ls hl
  refine lv_aload_n hx hb d_law_416 rfl (lv_at hl 1 rfl) ?_
  refine cpV (As := []) (rest := []) S (k_A_rows l D cB cI cZ a x u hd  hO hA) (cw_law_58 S.2.2.2.2 ⟨by decide, by decide⟩) hK hP hD hS [0, 1, 2, 3, 4, 5, 6, 7, 8, 9] rfl rfl rfl rfl rfl hl.1 rfl (Nat.le_of_ble_eq_true rfl) d_law_417 ⟨by decide, by decide⟩ (fun H locs hP hS => ?_)
  refine lv_aload_n hx hb d_law_420 rfl (lv_at hl 2 rfl) ?_
  refine cpV (As := []) (rest := [.int (nI (x.1 - x.2.1.length))]) S (k_M_rows l D cB cI cZ a2 x fb st sz bs  hO hB) (cw_law_62 S.2.2.2.2 ⟨by decide, by decide⟩) hK hP hD hS [10, 11, 12, 13, 14] rfl rfl rfl rfl rfl hl.1 rfl (Nat.le_of_ble_eq_true rfl) d_law_421 ⟨by decide, by decide⟩ (fun H locs hP hS => ?_)
  refine lv_icmp_eq (tgt := 442) hx hb d_law_424 (by decide) (fun c1 => ?_) (fun c1 => absurd rfl c1)
  exact kx x u hd fb st sz bs hO hA hB H locs hP hD hS ls hl
set_option maxHeartbeats 4000000 in
/-- case 11: places -/
theorem law_c11 {p : Program} {l : Launch} {e : Env} {s : State} {m : MethodId} {below : List Frame} {meth : Method} {c : Code} {D : va_G} {cB cI cZ : ClassId} {a a2 : Nat → Nat} {b L i : Nat} {xs : Nat → Int32} (hL : L ≤ 2560) (hi : i + 5 ≤ L) (S : CallFix p m c code 4 s #[Value.ref b] aw R_law) (hK : va_K D classes (TY cB cI cZ) s) (hX : va_X b L xs s s.heap) (hbl : b < s.heap.size) (kx : ∀ (x : Ab) (u : Sh) (hd fb : Nat → Int32) (st : Nat → Nat) (sz bs : Nat → Int32), Ok x → RepA x u hd → RepB x fb st sz bs → ∀ (H : Heap) (locs : List Loc), va_P D classes (wAu cB cI cZ a (x, u, hd) ++ wMu cB cI a2 (x, fb, st, sz, bs)) H → va_D (fun q : Nat => s.heap.size ≤ q) (wAu cB cI cZ a (x, u, hd) ++ wMu cB cI a2 (x, fb, st, sz, bs)) → va_S (fun q : Nat => s.heap.size ≤ q) s.heap H locs → ∀ (ls : Array Slot), lv_has ls 4 [(0, .ref b), (1, .ref (a 0)), (2, .ref (a2 0)), (3, .int (nI i))] → W p l e room_1 s m #[Value.ref b] below meth c H locs 600000 7302250 (lw_Z below #[Value.ref b] s) (F0 m 442 ls [])) : ∀ (x : Ab) (u : Sh) (hd fb : Nat → Int32) (st : Nat → Nat) (sz bs : Nat → Int32), Ok x → RepA x u hd → RepB x fb st sz bs → ∀ (H : Heap) (locs : List Loc), va_P D classes (wAu cB cI cZ a (x, u, hd) ++ wMu cB cI a2 (x, fb, st, sz, bs)) H → va_D (fun q : Nat => s.heap.size ≤ q) (wAu cB cI cZ a (x, u, hd) ++ wMu cB cI a2 (x, fb, st, sz, bs)) → va_S (fun q : Nat => s.heap.size ≤ q) s.heap H locs → ∀ (ls : Array Slot), lv_has ls 4 [(0, .ref b), (1, .ref (a 0)), (2, .ref (a2 0)), (3, .int (nI i))] → W p l e room_1 s m #[Value.ref b] below meth c H locs 600000 7302250 (lw_Z below #[Value.ref b] s) (F0 m 429 ls []) := by
  have hx := S.1
  have hb := S.2.1
  intro x u hd fb st sz bs hO hA hB H locs hP hD hS ls hl
  refine lv_aload_n hx hb d_law_429 rfl (lv_at hl 1 rfl) ?_
  refine cpV (As := []) (rest := []) S (k_A_places l D cB cI cZ a x u hd  hO hA) (cw_law_63 S.2.2.2.2 ⟨by decide, by decide⟩) hK hP hD hS [0, 1, 2, 3, 4, 5, 6, 7, 8, 9] rfl rfl rfl rfl rfl hl.1 rfl (Nat.le_of_ble_eq_true rfl) d_law_430 ⟨by decide, by decide⟩ (fun H locs hP hS => ?_)
  refine lv_aload_n hx hb d_law_433 rfl (lv_at hl 2 rfl) ?_
  refine cpV (As := []) (rest := [.int (nI x.2.2.2.2.2)]) S (k_M_places l D cB cI cZ a2 x fb st sz bs  hO hB) (cw_law_66 S.2.2.2.2 ⟨by decide, by decide⟩) hK hP hD hS [10, 11, 12, 13, 14] rfl rfl rfl rfl rfl hl.1 rfl (Nat.le_of_ble_eq_true rfl) d_law_434 ⟨by decide, by decide⟩ (fun H locs hP hS => ?_)
  refine lv_icmp_eq (tgt := 442) hx hb d_law_437 (by decide) (fun c1 => ?_) (fun c1 => absurd rfl c1)
  exact kx x u hd fb st sz bs hO hA hB H locs hP hD hS ls hl
set_option maxHeartbeats 4000000 in
/-- THE LAW'S LOOP -/
theorem law_loop {p : Program} {l : Launch} {e : Env} {s : State} {m : MethodId} {below : List Frame} {meth : Method} {c : Code} {D : va_G} {cB cI cZ : ClassId} {a a2 : Nat → Nat} {b L : Nat} {xs : Nat → Int32} (hL : L ≤ 2560) (S : CallFix p m c code 4 s #[Value.ref b] aw R_law) (hr : meth.sig.returnType = ret) (hlocks : meth.locks = false) (hK : va_K D classes (TY cB cI cZ) s) (hX : va_X b L xs s s.heap) (hbl : b < s.heap.size) : ∀ (n i : Nat), i ≤ L → L + 1 ≤ i + n → ∀ (x : Ab) (u : Sh) (hd fb : Nat → Int32) (st : Nat → Nat) (sz bs : Nat → Int32), Ok x → RepA x u hd → RepB x fb st sz bs → ∀ (H : Heap) (locs : List Loc), va_P D classes (wAu cB cI cZ a (x, u, hd) ++ wMu cB cI a2 (x, fb, st, sz, bs)) H → va_D (fun q : Nat => s.heap.size ≤ q) (wAu cB cI cZ a (x, u, hd) ++ wMu cB cI a2 (x, fb, st, sz, bs)) → va_S (fun q : Nat => s.heap.size ≤ q) s.heap H locs → ∀ (ls : Array Slot), lv_has ls 4 [(0, .ref b), (1, .ref (a 0)), (2, .ref (a2 0)), (3, .int (nI i))] → W p l e room_1 s m #[Value.ref b] below meth c H locs 600000 7302250 (lw_Z below #[Value.ref b] s) (F0 m 18 ls []) := by
  have hx := S.1
  have hb := S.2.1
  intro n
  induction n with
  | zero =>
    intro i h1 h2
    exact absurd h2 (by omega)
  | succ n ih =>
    intro i h1 h2 x u hd fb st sz bs hO hA hB H locs hP hD hS ls hl
    refine lv_iload_n hx hb d_law_18 rfl (lv_at hl 3 rfl) ?_
    refine lv_aload_n hx hb d_law_19 rfl (lv_at hl 0 rfl) ?_
    refine va_slen hx hb hX hbl (Nat.not_le.mpr hbl) hS d_law_20 ?_
    refine tpE (y := nI L) rfl ?_
    refine lv_iconst (v := nI 5) hx hb d_law_21 (by decide) ?_
    refine lv_isub hx hb d_law_22 ?_
    refine lv_icmp_gt (tgt := 448) hx hb d_law_23 (by decide) (fun c1 => ?_) (fun c1 => ?_)
    · refine lv_iconst (v := 1) hx hb d_law_448 (by decide) ?_
      refine va_forget (fun q hq => hS.2.2 q hq) ?_
      exact lw_ret hx hb hr hlocks d_law_449
    · have hi : i + 5 ≤ L := by
        rcases Nat.lt_or_ge L (i + 5) with q | q
        · exact absurd (Int32.lt_iff_toInt_lt.mpr (by rw [pk_sub_toInt (by omega) (by decide), nI_toInt (by omega)]; omega)) c1
        · exact q
      have k442 : ∀ (x : Ab) (u : Sh) (hd fb : Nat → Int32) (st : Nat → Nat) (sz bs : Nat → Int32), Ok x → RepA x u hd → RepB x fb st sz bs → ∀ (H : Heap) (locs : List Loc), va_P D classes (wAu cB cI cZ a (x, u, hd) ++ wMu cB cI a2 (x, fb, st, sz, bs)) H → va_D (fun q : Nat => s.heap.size ≤ q) (wAu cB cI cZ a (x, u, hd) ++ wMu cB cI a2 (x, fb, st, sz, bs)) → va_S (fun q : Nat => s.heap.size ≤ q) s.heap H locs → ∀ (ls : Array Slot), lv_has ls 4 [(0, .ref b), (1, .ref (a 0)), (2, .ref (a2 0)), (3, .int (nI i))] → W p l e room_1 s m #[Value.ref b] below meth c H locs 600000 7302250 (lw_Z below #[Value.ref b] s) (F0 m 442 ls []) := by
        intro x u hd fb st sz bs hO hA hB H locs hP hD hS ls hl
        refine lv_iinc (v := nI (i + 5)) (lv' := [(3, .int (nI (i + 5))), (0, .ref b), (1, .ref (a 0)), (2, .ref (a2 0))]) hx hb d_law_442 hl (k := 3) rfl (nI_add i 5) (by decide) rfl (fun ls hl => ?_)
        refine lv_goto (tgt := 18) hx hb d_law_445 (by decide) ?_
        exact ih (i + 5) hi (by omega) x u hd fb st sz bs hO hA hB H locs hP hD hS ls (lv_sub hl [1, 2, 3, 0] rfl)
      refine lv_aload_n hx hb d_law_26 rfl (lv_at hl 0 rfl) ?_
      refine lv_iload_n hx hb d_law_27 rfl (lv_at hl 3 rfl) ?_
      refine sld S hX hbl hS i (by omega) hL d_law_28 ?_
      refine lv_bipush (v := nI 15) hx hb d_law_29 (by decide) ?_
      refine lv_iand hx hb d_law_31 ?_
      obtain ⟨j, hj, ej⟩ := pk_andE (xs i) (m := nI 15) 4 (by decide)
      refine tpE (y := nI j) ej ?_
      rcases (show j = 0 ∨ j = 1 ∨ j = 2 ∨ j = 3 ∨ j = 4 ∨ j = 5 ∨ j = 6 ∨ j = 7 ∨ j = 8 ∨ j = 9 ∨ j = 10 ∨ j = 11 ∨ j = 12 ∨ j = 13 ∨ j = 14 ∨ j = 15 by omega) with rfl | rfl | rfl | rfl | rfl | rfl | rfl | rfl | rfl | rfl | rfl | rfl | rfl | rfl | rfl | rfl
      · refine lv_tableIn (off := 64) (tgt := 96) hx hb d_law_32 (by decide) (by decide) (by decide) (by decide) ?_
        exact law_c0 hL hi S hK hX hbl k442 x u hd fb st sz bs hO hA hB H locs hP hD hS ls hl
      · refine lv_tableIn (off := 87) (tgt := 119) hx hb d_law_32 (by decide) (by decide) (by decide) (by decide) ?_
        exact law_c1 hL hi S hK hX hbl k442 x u hd fb st sz bs hO hA hB H locs hP hD hS ls hl
      · refine lv_tableIn (off := 110) (tgt := 142) hx hb d_law_32 (by decide) (by decide) (by decide) (by decide) ?_
        exact law_c2 hL hi S hK hX hbl k442 x u hd fb st sz bs hO hA hB H locs hP hD hS ls hl
      · refine lv_tableIn (off := 143) (tgt := 175) hx hb d_law_32 (by decide) (by decide) (by decide) (by decide) ?_
        exact law_c3 hL hi S hK hX hbl k442 x u hd fb st sz bs hO hA hB H locs hP hD hS ls hl
      · refine lv_tableIn (off := 186) (tgt := 218) hx hb d_law_32 (by decide) (by decide) (by decide) (by decide) ?_
        exact law_c4 hL hi S hK hX hbl k442 x u hd fb st sz bs hO hA hB H locs hP hD hS ls hl
      · refine lv_tableIn (off := 239) (tgt := 271) hx hb d_law_32 (by decide) (by decide) (by decide) (by decide) ?_
        exact law_c5 hL hi S hK hX hbl k442 x u hd fb st sz bs hO hA hB H locs hP hD hS ls hl
      · refine lv_tableIn (off := 272) (tgt := 304) hx hb d_law_32 (by decide) (by decide) (by decide) (by decide) ?_
        exact law_c6 hL hi S hK hX hbl k442 x u hd fb st sz bs hO hA hB H locs hP hD hS ls hl
      · refine lv_tableIn (off := 305) (tgt := 337) hx hb d_law_32 (by decide) (by decide) (by decide) (by decide) ?_
        exact law_c7 hL hi S hK hX hbl k442 x u hd fb st sz bs hO hA hB H locs hP hD hS ls hl
      · refine lv_tableIn (off := 328) (tgt := 360) hx hb d_law_32 (by decide) (by decide) (by decide) (by decide) ?_
        exact law_c8 hL hi S hK hX hbl k442 x u hd fb st sz bs hO hA hB H locs hP hD hS ls hl
      · refine lv_tableIn (off := 361) (tgt := 393) hx hb d_law_32 (by decide) (by decide) (by decide) (by decide) ?_
        exact law_c9 hL hi S hK hX hbl k442 x u hd fb st sz bs hO hA hB H locs hP hD hS ls hl
      · refine lv_tableIn (off := 384) (tgt := 416) hx hb d_law_32 (by decide) (by decide) (by decide) (by decide) ?_
        exact law_c10 hL hi S hK hX hbl k442 x u hd fb st sz bs hO hA hB H locs hP hD hS ls hl
      · refine lv_tableIn (off := 397) (tgt := 429) hx hb d_law_32 (by decide) (by decide) (by decide) (by decide) ?_
        exact law_c11 hL hi S hK hX hbl k442 x u hd fb st sz bs hO hA hB H locs hP hD hS ls hl
      · refine lv_tableOut (tgt := 442) hx hb d_law_32 (Or.inr (by decide)) (by decide) ?_
        exact k442 x u hd fb st sz bs hO hA hB H locs hP hD hS ls hl
      · refine lv_tableOut (tgt := 442) hx hb d_law_32 (Or.inr (by decide)) (by decide) ?_
        exact k442 x u hd fb st sz bs hO hA hB H locs hP hD hS ls hl
      · refine lv_tableOut (tgt := 442) hx hb d_law_32 (Or.inr (by decide)) (by decide) ?_
        exact k442 x u hd fb st sz bs hO hA hB H locs hP hD hS ls hl
      · refine lv_tableOut (tgt := 442) hx hb d_law_32 (Or.inr (by decide)) (by decide) ?_
        exact k442 x u hd fb st sz bs hO hA hB H locs hP hD hS ls hl
end
section
set_option maxHeartbeats 4000000 in
set_option maxRecDepth 100000 in
/-- THE LAW, from its entry -/
theorem whole_start {p : Program} {e : Env} {s : State} {m : MethodId} {below : List Frame} {meth : Method} {c : Code} (l : Launch) {b L : Nat} {xs : Nat → Int32} (hL : L ≤ 2560) (C0 : lw_At p s m meth c b L xs) : W p l e room_1 s m #[Value.ref b] below meth c s.heap [] 0 0 (lw_Z below #[Value.ref b] s) (entryFrame m ([Value.ref b] : List Value).toArray 4) := by
  obtain ⟨hx, hb, hr, hml, hown, hts, hX, hbl, hlocks, hgv⟩ := id C0
  have hta : ∀ w ∈ aw, w.before #[Value.ref b] s = true := fun w h => hts w (aw_tbl w h).1
  have S : CallFix p m c code 4 s #[Value.ref b] aw R_law := ⟨hx, hb, hml, hown, hta⟩
  have hA : ∀ q : Nat, s.heap.size ≤ q → (fun q : Nat => s.heap.size ≤ q) q := fun _ h => h
  obtain ⟨c0, iS0, hKn0⟩ := u_known (C := R_S) (T := F_S) (N := 11) (n := 11) hta i_S (hta _ k_in_S)
  obtain ⟨c1, iS1, hKn1⟩ := u_known (C := R_A) (T := F_A) (N := 5) (n := 5) hta i_A (hta _ k_in_A)
  obtain ⟨c2, iS2, hKn2⟩ := u_known (C := R_M) (T := F_M) (N := 8) (n := 8) hta i_M (hta _ k_in_M)
  obtain ⟨D, hKc⟩ : ∃ D : va_G, ∀ (k : Nat) (q : vw_C), classes[k]? = some q → u_Kn s q.1 q.2.1 q.2.2 (D.1 k) (D.2 k) := by
    refine ⟨(fun k => if k = 0 then c0 else if k = 1 then c1 else c2, fun k => if k = 0 then iS0 else if k = 1 then iS1 else iS2), ?_⟩
    intro k q hq
    match k, hq with
    | 0, hq => cases hq; exact hKn0
    | 1, hq => cases hq; exact hKn1
    | 2, hq => cases hq; exact hKn2
    | k + 3, hq => simp [classes] at hq
  have harr : ∀ ty : FieldType, (Cond.arrayClass ty).before #[Value.ref b] s = true → ∃ cA : ClassId, ArrOfT s cA ty ∧ s.vm.findClass ("[" ++ ty.toString) = some cA := by
    intro ty h
    obtain ⟨cA, kA, comp, e1, e2, e3⟩ := Cond.arrayClass_spec h
    exact ⟨cA, fun n z => ⟨fun k h => (by cases h), kA, e2, comp, e3⟩, e1⟩
  obtain ⟨cB, hB1, hB2⟩ := harr .byte (hta _ k_ac_byte)
  obtain ⟨cI, hI1, hI2⟩ := harr .int (hta _ k_ac_int)
  obtain ⟨cZ, hZ1, hZ2⟩ := harr .boolean (hta _ k_ac_boolean)
  have hK : va_K D classes (TY cB cI cZ) s := by
    refine ⟨hKc, fun k q hq => ?_⟩
    match k, hq with
    | 0, hq => cases hq; exact ⟨hB1, hB2⟩
    | 1, hq => cases hq; exact ⟨hI1, hI2⟩
    | 2, hq => cases hq; exact ⟨hZ1, hZ2⟩
    | k + 3, hq => simp at hq
  have hNw : va_Nw (.methodLinkNest R_A 9 y_S_init R_A) s := va_Nw.of rfl (hts (.methodLinkNest R_A 9 y_S_init R_A) (List.mem_of_getElem? (i := 28) rfl))
  have hS : va_S (fun q : Nat => s.heap.size ≤ q) s.heap s.heap [] := va_S.rf
  have hP : va_P D classes [] s.heap := fun k q h => by simp at h
  have hD : va_D (fun q : Nat => s.heap.size ≤ q) [] := ⟨fun i j p q h => by simp at h, fun k q h => by simp at h⟩
  have hl := lv_entry ([.ref b]) (n := 4) (Nat.le_of_ble_eq_true rfl)
  rw [lg_entry_eq]
  generalize (lg_sl ([.ref b]) ++ List.replicate (4 - (lg_sl ([.ref b])).length) Slot.unset).toArray = ls at hl ⊢
  have hl : lv_has ls 4 [(0, .ref b)] := hl
  refine va_new (ci := 1) (fs := [.null, .null, .null, .int 0, .int 0]) (C := R_A) (T := F_A) (N := 5) hx hb hta i_A t_A t_A_ok hown (hta _ k_cl_law_7) (hta _ k_in_A) (hta _ k_ini_A) hK hP hD hS hA rfl (fun j hj => by rcases (show j = 0 ∨ j = 1 ∨ j = 2 ∨ j = 3 ∨ j = 4 by omega) with rfl | rfl | rfl | rfl | rfl <;> rfl) (by decide) (by decide) d_law_0 (fun q0 H hP hD hS => ?_)
  have hP : va_P D classes [(q0, .inr (1, [.null, .null, .null, .int 0, .int 0]))] H := hP
  have hD : va_D (fun q : Nat => s.heap.size ≤ q) [(q0, .inr (1, [.null, .null, .null, .int 0, .int 0]))] := hD
  refine W.widen (k := 1) (n := 5) (by decide) (by decide) ?_
  refine lv_dup hx hb d_law_3 rfl ?_
  have hPc := hP.sub (ws' := [(q0, .inr (1, [.null, .null, .null, .int 0, .int 0]))]) [0] rfl
  have hDc := hD.sub (ws' := [(q0, .inr (1, [.null, .null, .null, .int 0, .int 0]))]) [0] (by decide) rfl
  have hFc := va_free (wc := [(q0, .inr (1, [.null, .null, .null, .int 0, .int 0]))]) hD hS hA [0] rfl
  refine va_callv (va_runI (As := []) (rest := [.ref q0]) S (c_A_init l D cB cI cZ q0 H.size) (cwI 0 hta (gI k_co_A_init) rfl rfl rfl (hta _ k_ini_A) (hta _ k_ml_law_9) (hta _ k_im_A_init) rfl (by decide +kernel) ⟨by decide, by decide⟩) ⟨fun a U g mk q => ⟨q.1, q.2.1, ⟨q.2.2.1.1, va_K.moved (u := U) (U := U.calling g mk a) (Vm.Alike.refl U.vm) q.2.2.1.2.1, q.2.2.1.2.2⟩, va_Nw.same rfl (rfl : U.vm = (U.calling g mk a).vm) q.2.2.2⟩, fun U hU hW => ⟨rfl, by rw [hU], ⟨by rw [hU]; exact hPc, va_K.moved hW.alike hK, hDc.weaken (fun _ _ _ _ => trivial)⟩, va_Nw.warmM hW hNw⟩⟩ rfl rfl hl.1 rfl (lv_room (Nat.le_of_ble_eq_true rfl)) d_law_4 ⟨by decide, by decide⟩) hS (fun q _ h => hFc q h) hFc (fun a t H1 locs ht hvm hw hB hz1 hk1 hS => ?_)
  obtain ⟨hP1, hD1⟩ := hB
  rw [ht] at hP1
  obtain ⟨hPj, hDj⟩ := va_join (wr := []) (w1 := A00 cB cI cZ a) hP hD [0] [] rfl rfl (by decide) (by decide) hk1 hFc hP1 hD1
  generalize H1 = H at hPj hS ⊢
  subst hw
  have hP : va_P D classes (A00 cB cI cZ a) H := hPj
  have hD : va_D (fun q : Nat => s.heap.size ≤ q) (A00 cB cI cZ a) := hDj
  refine W.widen (k := 10) (n := 596400) (by decide) (by decide) ?_
  refine lv_astore_n (lv' := [(1, .ref (a 0)), (0, .ref b)]) hx hb d_law_7 rfl hl (by decide) rfl (fun ls hl => ?_)
  refine va_new (ci := 2) (fs := [.null, .int 0, .null, .null, .int 0, .null, .int 0, .int 0]) (C := R_M) (T := F_M) (N := 8) hx hb hta i_M t_M t_M_ok hown (hta _ k_cl_law_10) (hta _ k_in_M) (hta _ k_ini_M) hK hP hD hS hA rfl (fun j hj => by rcases (show j = 0 ∨ j = 1 ∨ j = 2 ∨ j = 3 ∨ j = 4 ∨ j = 5 ∨ j = 6 ∨ j = 7 by omega) with rfl | rfl | rfl | rfl | rfl | rfl | rfl | rfl <;> rfl) (by decide) (by decide) d_law_8 (fun q1 H hP hD hS => ?_)
  have hP : va_P D classes (A00 cB cI cZ a ++ [(q1, .inr (2, [.null, .int 0, .null, .null, .int 0, .null, .int 0, .int 0]))]) H := hP
  have hD : va_D (fun q : Nat => s.heap.size ≤ q) (A00 cB cI cZ a ++ [(q1, .inr (2, [.null, .int 0, .null, .null, .int 0, .null, .int 0, .int 0]))]) := hD
  refine W.widen (k := 11) (n := 596408) (by decide) (by decide) ?_
  refine lv_dup hx hb d_law_11 rfl ?_
  have hPc := hP.sub (ws' := [(q1, .inr (2, [.null, .int 0, .null, .null, .int 0, .null, .int 0, .int 0]))]) [10] rfl
  have hDc := hD.sub (ws' := [(q1, .inr (2, [.null, .int 0, .null, .null, .int 0, .null, .int 0, .int 0]))]) [10] (by decide) rfl
  have hFc := va_free (wc := [(q1, .inr (2, [.null, .int 0, .null, .null, .int 0, .null, .int 0, .int 0]))]) hD hS hA [10] rfl
  refine va_callv (va_runI (As := []) (rest := [.ref q1]) S (c_M_init l D cB cI cZ q1 H.size) (cwI 0 hta (gI k_co_M_init) rfl rfl rfl (hta _ k_ini_M) (hta _ k_ml_law_12) (hta _ k_im_M_init) rfl (by decide +kernel) ⟨by decide, by decide⟩) ⟨fun a U g mk q => ⟨q.1, q.2.1, q.2.2.1, va_K.moved (u := U) (U := U.calling g mk a) (Vm.Alike.refl U.vm) q.2.2.2.1, q.2.2.2.2⟩, fun U hU hW => ⟨rfl, by rw [hU], by rw [hU]; exact hPc, va_K.moved hW.alike hK, hDc.weaken (fun _ _ _ _ => trivial)⟩⟩ rfl rfl hl.1 rfl (lv_room (Nat.le_of_ble_eq_true rfl)) d_law_12 ⟨by decide, by decide⟩) hS (fun q _ h => hFc q h) hFc (fun a2 t H1 locs ht hvm hw hB hz1 hk1 hS => ?_)
  obtain ⟨hP1, hD1⟩ := hB
  rw [ht] at hP1
  obtain ⟨hPj, hDj⟩ := va_join (wr := A00 cB cI cZ a) (w1 := M00 cB cI a2) hP hD [10] [0, 1, 2, 3, 4, 5, 6, 7, 8, 9] rfl rfl (by decide) (by decide) hk1 hFc hP1 hD1
  generalize H1 = H at hPj hS ⊢
  subst hw
  refine W.widen (k := 600000) (n := 7302250) (by decide) (by decide) ?_
  refine lv_astore_n (lv' := [(2, .ref (a2 0)), (1, .ref (a 0)), (0, .ref b)]) hx hb d_law_15 rfl hl (by decide) rfl (fun ls hl => ?_)
  refine lv_iconst (v := nI 0) hx hb d_law_16 (by decide) ?_
  refine lv_istore_n (lv' := [(3, .int (nI 0)), (2, .ref (a2 0)), (1, .ref (a 0)), (0, .ref b)]) hx hb d_law_17 rfl hl (by decide) rfl (fun ls hl => ?_)
  exact law_loop hL S hr hlocks hK hX hbl (L + 1) 0 (Nat.zero_le L) (by omega) x00 (fun _ => 0, fun _ => 0, fun _ => 0, fun _ => 0, fun _ => 0, fun _ => 0, -1, -1, -1, 0, 0) (fun _ => 0) (fun _ => 0) (fun _ => 0) (fun _ => 0) (fun _ => 0) Ok_0 RepA_0 RepB_0 H locs hPj hDj hS ls (lv_sub hl [3, 2, 1, 0] rfl)
end
section
set_option maxHeartbeats 4000000 in
theorem lw_walk (l : Launch) (b : Addr) (xs : List Int32) : MetFree l x (headSpec (Jvm.Cond.code x code maxLocals ret :: tables_1) room_1) (lw_P b xs) (fun _ _ _ _ _ => True) lw_Q := by
  refine MetFree.of_bodyS (code := code) (maxLocals := maxLocals) (ret := ret) (by decide) ?_ ?_
  · intro args s m h hn
    obtain ⟨meth, c, h1, h2, h3, h4, h5, h6, -, -⟩ := Cond.code_spec hn (atoms_spec (ws := Jvm.Cond.code x code maxLocals ret :: tables_1) h _ List.mem_cons_self)
    exact ⟨meth, c, h1, h2, h3, h4, h5, h6⟩
  · intro p e s m args below meth c s₁ B hml0 hP _
    obtain ⟨rfl, hx, hbd, hgv⟩ := hP
    obtain ⟨scr, harrAt, hlist, hof, hsmall⟩ := hx
    obtain ⟨hcb, hkn, -, -⟩ := State.arrayAt?_spec harrAt
    have hown : s.vm.findClass R_law = some m.cls := findClass_of_methodNamed B.named
    have hts0 : ∀ c ∈ (Jvm.Cond.code x code maxLocals ret :: tables_1), c.before #[Value.ref b] s = true := atoms_spec (ws := Jvm.Cond.code x code maxLocals ret :: tables_1) B.pre
    have hts : ∀ w ∈ lw_tbl, w.before #[Value.ref b] s = true := k2_hts_sels lw_privs (fun w hw => hts0 w (List.mem_cons_of_mem _ hw)) lw_privs_ok
    have hml : c.maxLocals = 4 := B.maxLocals_eq (hts0 _ List.mem_cons_self)
    have X₀ : Stand p l e room_1 s m #[Value.ref b] below meth c s₁ [] 0 0 := Stand.of_body B
    have hh0 : s₁.heap = s.heap := by rw [B.state]; rfl
    have hsz : scr.slots.size = xs.length := by rw [← Array.length_toList, hlist, List.length_map]
    have hval : ∀ j : Nat, j < xs.length → scr.slots[j]? = some (.int (xs.getD j 0)) := fun j hj => by
      rw [← Array.getElem?_toList, hlist]
      simp [hj]
    have hbl : b < s.heap.size := (Array.getElem?_eq_some_iff.mp hcb).1
    have hX : va_X b xs.length (fun j => xs.getD j 0) s s.heap := ⟨scr, hcb, hof, hkn, hsz, hval⟩
    have K : W p l e room_1 s m #[Value.ref b] below meth c s₁.heap [] 0 0 (lw_Z below #[Value.ref b] s) (entryFrame m ([Value.ref b] : List Value).toArray 4) := by
      rw [hh0]
      exact whole_start l hbd ⟨B.exec, B.bytes, B.returns, hml, hown, hts, hX, hbl, B.notSynchronized, hgv⟩
    obtain ⟨t, a1, o, b1, b2, b3⟩ := K s₁ rfl X₀
    exact ⟨t, o, a1, b1, b2, b3⟩
theorem lw_pre_spec {args : Array Value} {s : State} (h : (Jvm.Cond.and given_1 narrow_1).before args s = true) (hr : rest_1_c.before args s = true) : ∃ (b : Addr) (xs : List Int32), lw_P b xs args s := by
  have hs := flat_of_before _ h
  have hq := flat_of_before _ hr
  have hc : (Cond.count 1).before args s = true := hs _ (by decide +kernel)
  have harr : (Cond.arrayOf (.arg 0) .int).before args s = true := hs _ (by decide +kernel)
  have hle : (Cond.le (.length (.arg 0)) (.int 2560)).before args s = true := hs _ (by decide +kernel)
  have hlen : (Cond.isInt (.length (.arg 0))).before args s = true := hq _ (by decide +kernel)
  have hall : (Cond.all (.arg 0) (.isInt (.elem (.arg 0) (.index 0)))).before args s = true := hq _ (by decide +kernel)
  obtain ⟨b, xs, hb, hx⟩ := State.ints_of_pre rfl harr hlen hall
  have hsm : xs.length < 2 ^ 31 := hx.choose_spec.2.2.2
  have hev : (Term.length (.arg 0)).eval args s none [] s = some (.int xs.length.toInt32) := hx.length_eval hb
  have hv := Cond.le_ints hev (show (Term.int 2560).eval args s none [] s = some (.int 2560) from rfl)
  have hd : xs.length.toInt32 ≤ 2560 := by
    simpa [Cond.before, Cond.holds, hv] using hle
  have hN : xs.length ≤ 2560 := (Int32.ofNat_le_ofNat hsm (by decide)).mp (show Int32.ofNat xs.length ≤ Int32.ofNat 2560 from hd)
  exact ⟨b, xs, Cond.one_arg hc (show args[0]? = some (.ref b) from hb), hx, hN, h⟩
theorem lw_comes (l : Launch) : Comes l x (Jvm.Cond.code x code maxLocals ret :: tables_1) room_1 (fun tb e args s => Calls_1 tb e args s ∧ rest_1 tb e args s ∧ Pre_1 tb e args s)
    (fun _ _ args s o t => lw_Q args s o t) := by
  intro p e ha hc hk s m args below hf hfit hheap happ hpre
  obtain ⟨b, xs, hP⟩ := lw_pre_spec hpre.2.2 hpre.2.1
  obtain ⟨k, o, h1, h2, h3, hQ⟩ := lw_walk l b xs p e ha hc hk s m args below hf ((Spec.applies_iff_loose hf).mp happ).1 hP trivial
  exact ⟨k, o, h1, h2, h3, hQ⟩
theorem lw_frame {s t : State} {o : Outcome} {args : Array Value} (h : Framed s o t [] 600000 7302250) :
    Framed s o t (fieldLocs frame_1_writes args s ++ arrayLocs frame_1_arrays args s ++ staticLocs frame_1_statics s) 600000 7302250 := h
theorem lw_limb (L : Cond) (hL : ∀ (args : Array Value) (s t : State), L.after args s (.returned (some (.int 1))) t = true) :
    ArmFor flags0 classFile x code maxLocals ret World_1 tables_1 room_1 Calls_1 rest_1 Pre_1
      (fun tb e a s o t => postC L tb e a s o t ∧ Framed s o t (fieldLocs frame_1_writes a s ++ arrayLocs frame_1_arrays a s ++ staticLocs frame_1_statics s) 600000 7302250) := by
  intro l _ _ _ p e ha hc hk s m args below hf hfit hheap happ hpre
  obtain ⟨k, o, h1, h2, h3, rfl, hF⟩ := lw_comes l p e ha hc hk s m args below hf hfit hheap happ hpre
  exact ⟨k, _, h1, h2, h3, hL args s _, lw_frame hF⟩
theorem i_vc : Claimed_1_1 ∧ Claimed_1_2 := ⟨lw_limb limb_1_1 (fun args s t => by simp [limb_1_1, Cond.after, Cond.holds, Cond.value]), lw_limb limb_1_2 (fun args s t => Cond.after_iff.mpr (by
  first | (rw [show limb_1_2 = Cond.eq .result (.int 1) from rfl, Cond.eq_ints (x := 1) (y := 1) rfl rfl]; simp; done) | (simp [limb_1_2, Cond.value, Term.eval]; done)))⟩
end
